set_option maxRecDepth 100000
/-! java/util/AbstractCollection -/
def RJ0 : String := "java/util/AbstractCollection"
abbrev cJ0_init : ByteArray := prog_65_method_1_code
def yJ0_init : MethodName := ⟨RJ0, "<init>", "()V"⟩
theorem q127 : (Jvm.Cond.initialized "java/util/AbstractCollection") ∈ lw_all := lw_g (lw_at lw_m1 3 rfl) rfl
theorem q204 : (Jvm.Cond.instanceMethod ({ cls := "java/util/AbstractCollection", name := "<init>", desc := "()V" } : Jvm.MethodName)) ∈ lw_all := lw_g (lw_at lw_m1 80 rfl) rfl
theorem q205 : (Jvm.Cond.code ({ cls := "java/util/AbstractCollection", name := "<init>", desc := "()V" } : Jvm.MethodName) prog_65_method_1_code (1 : Nat) (Option.none : Option Jvm.ClassFile.FieldType)) ∈ lw_all := lw_g (lw_at lw_m1 81 rfl) rfl
theorem q206 : (Jvm.Cond.methodLink "java/util/AbstractCollection" (1 : Nat) ({ cls := "java/lang/Object", name := "<init>", desc := "()V" } : Jvm.MethodName)) ∈ lw_all := lw_g (lw_at lw_m1 82 rfl) rfl
/-! java/util/AbstractList -/
def RJ1 : String := "java/util/AbstractList"
abbrev cJ1_init : ByteArray := prog_66_method_1_code
def yJ1_init : MethodName := ⟨RJ1, "<init>", "()V"⟩
theorem q128 : (Jvm.Cond.initialized "java/util/AbstractList") ∈ lw_all := lw_g (lw_at lw_m1 4 rfl) rfl
theorem q201 : (Jvm.Cond.instanceMethod ({ cls := "java/util/AbstractList", name := "<init>", desc := "()V" } : Jvm.MethodName)) ∈ lw_all := lw_g (lw_at lw_m1 77 rfl) rfl
theorem q202 : (Jvm.Cond.code ({ cls := "java/util/AbstractList", name := "<init>", desc := "()V" } : Jvm.MethodName) prog_66_method_1_code (1 : Nat) (Option.none : Option Jvm.ClassFile.FieldType)) ∈ lw_all := lw_g (lw_at lw_m1 78 rfl) rfl
theorem q203 : (Jvm.Cond.methodLink "java/util/AbstractList" (1 : Nat) ({ cls := "java/util/AbstractCollection", name := "<init>", desc := "()V" } : Jvm.MethodName)) ∈ lw_all := lw_g (lw_at lw_m1 79 rfl) rfl
theorem q552 : (Jvm.Cond.fieldLink "java/util/AbstractList" (7 : Nat) "java/util/AbstractList" "modCount" "I") ∈ lw_all := lw_g (lw_at lw_m2 188 rfl) rfl
theorem q560 : (Jvm.Cond.soleField "java/util/AbstractList" "modCount") ∈ lw_all := lw_g (lw_at lw_m2 196 rfl) rfl
/-! java/lang/StringUTF16 -/
def RJ10 : String := "java/lang/StringUTF16"
abbrev cJ10_newBytesFor : ByteArray := prog_59_method_2_code
def yJ10_newBytesFor : MethodName := ⟨RJ10, "newBytesFor", "(I)[B"⟩
abbrev cJ10_newBytesLength : ByteArray := prog_59_method_3_code
def yJ10_newBytesLength : MethodName := ⟨RJ10, "newBytesLength", "(I)I"⟩
abbrev cJ10_putCharsAt : ByteArray := prog_59_method_81_code
def yJ10_putCharsAt : MethodName := ⟨RJ10, "putCharsAt", "([BICCCC)I"⟩
abbrev cJ10_checkBoundsBeginEnd : ByteArray := prog_59_method_93_code
def yJ10_checkBoundsBeginEnd : MethodName := ⟨RJ10, "checkBoundsBeginEnd", "(II[B)V"⟩
abbrev cJ10_length : ByteArray := prog_59_method_6_code
def yJ10_length : MethodName := ⟨RJ10, "length", "([B)I"⟩
abbrev cJ10_putChar : ByteArray := prog_59_method_4_code
def yJ10_putChar : MethodName := ⟨RJ10, "putChar", "([BII)V"⟩
abbrev cJ10_inflate : ByteArray := prog_59_method_86_code
def yJ10_inflate : MethodName := ⟨RJ10, "inflate", "([BI[BII)V"⟩
abbrev cJ10_checkBoundsOffCount : ByteArray := prog_59_method_94_code
def yJ10_checkBoundsOffCount : MethodName := ⟨RJ10, "checkBoundsOffCount", "(II[B)V"⟩
abbrev cJ10_getChars : ByteArray := prog_59_method_77_code
def yJ10_getChars : MethodName := ⟨RJ10, "getChars", "(III[B)I"⟩
abbrev cJ10_getChars_2 : ByteArray := prog_59_method_89_code
def yJ10_getChars_2 : MethodName := ⟨RJ10, "getChars", "(II[B)I"⟩
abbrev cJ10_compress : ByteArray := prog_59_method_17_code
def yJ10_compress : MethodName := ⟨RJ10, "compress", "([BII)[B"⟩
abbrev cJ10_compress_2 : ByteArray := prog_59_method_22_code
def yJ10_compress_2 : MethodName := ⟨RJ10, "compress", "([BI[BII)I"⟩
abbrev cJ10_getChar : ByteArray := prog_59_method_5_code
def yJ10_getChar : MethodName := ⟨RJ10, "getChar", "([BI)C"⟩
abbrev cJ10_coderFromArrayLen : ByteArray := prog_59_method_15_code
def yJ10_coderFromArrayLen : MethodName := ⟨RJ10, "coderFromArrayLen", "([BI)B"⟩
abbrev cJ10_putCharSB : ByteArray := prog_59_method_71_code
def yJ10_putCharSB : MethodName := ⟨RJ10, "putCharSB", "([BII)V"⟩
abbrev cJ10_checkIndex : ByteArray := prog_59_method_91_code
def yJ10_checkIndex : MethodName := ⟨RJ10, "checkIndex", "(I[B)V"⟩
abbrev cJ10_hashCode : ByteArray := prog_59_method_39_code
def yJ10_hashCode : MethodName := ⟨RJ10, "hashCode", "([B)I"⟩
abbrev cJ10_charAt : ByteArray := prog_59_method_83_code
def yJ10_charAt : MethodName := ⟨RJ10, "charAt", "([BI)C"⟩
theorem q137 : (Jvm.Cond.initialized "java/lang/StringUTF16") ∈ lw_all := lw_g (lw_at lw_m1 13 rfl) rfl
theorem q268 : (Jvm.Cond.static ({ cls := "java/lang/StringUTF16", name := "newBytesFor", desc := "(I)[B" } : Jvm.MethodName)) ∈ lw_all := lw_g (lw_at lw_m1 144 rfl) rfl
theorem q269 : (Jvm.Cond.code ({ cls := "java/lang/StringUTF16", name := "newBytesFor", desc := "(I)[B" } : Jvm.MethodName) prog_59_method_2_code (1 : Nat) (Option.some (Jvm.ClassFile.FieldType.array Jvm.ClassFile.FieldType.byte))) ∈ lw_all := lw_g (lw_at lw_m1 145 rfl) rfl
theorem q270 : (Jvm.Cond.methodLink "java/lang/StringUTF16" (11 : Nat) ({ cls := "java/lang/StringUTF16", name := "newBytesLength", desc := "(I)I" } : Jvm.MethodName)) ∈ lw_all := lw_g (lw_at lw_m1 146 rfl) rfl
theorem q271 : (Jvm.Cond.static ({ cls := "java/lang/StringUTF16", name := "newBytesLength", desc := "(I)I" } : Jvm.MethodName)) ∈ lw_all := lw_g (lw_at lw_m1 147 rfl) rfl
theorem q272 : (Jvm.Cond.code ({ cls := "java/lang/StringUTF16", name := "newBytesLength", desc := "(I)I" } : Jvm.MethodName) prog_59_method_3_code (1 : Nat) (Option.some Jvm.ClassFile.FieldType.int)) ∈ lw_all := lw_g (lw_at lw_m1 148 rfl) rfl
theorem q273 : (Jvm.Cond.classLink "java/lang/StringUTF16" (17 : Nat) "java/lang/NegativeArraySizeException") ∈ lw_all := lw_g (lw_at lw_m1 149 rfl) rfl
theorem q282 : (Jvm.Cond.methodLink "java/lang/StringUTF16" (19 : Nat) ({ cls := "java/lang/NegativeArraySizeException", name := "<init>", desc := "()V" } : Jvm.MethodName)) ∈ lw_all := lw_g (lw_at lw_m1 158 rfl) rfl
theorem q306 : (Jvm.Cond.constant "java/lang/StringUTF16" (20 : Nat) (1073741823 : Int32)) ∈ lw_all := lw_g (lw_at lw_m1 182 rfl) rfl
theorem q373 : (Jvm.Cond.static ({ cls := "java/lang/StringUTF16", name := "putCharsAt", desc := "([BICCCC)I" } : Jvm.MethodName)) ∈ lw_all := lw_g (lw_at lw_m2 9 rfl) rfl
theorem q374 : (Jvm.Cond.code ({ cls := "java/lang/StringUTF16", name := "putCharsAt", desc := "([BICCCC)I" } : Jvm.MethodName) prog_59_method_81_code (7 : Nat) (Option.some Jvm.ClassFile.FieldType.int)) ∈ lw_all := lw_g (lw_at lw_m2 10 rfl) rfl
theorem q375 : (Jvm.Cond.methodLink "java/lang/StringUTF16" (96 : Nat) ({ cls := "java/lang/StringUTF16", name := "checkBoundsBeginEnd", desc := "(II[B)V" } : Jvm.MethodName)) ∈ lw_all := lw_g (lw_at lw_m2 11 rfl) rfl
theorem q376 : (Jvm.Cond.static ({ cls := "java/lang/StringUTF16", name := "checkBoundsBeginEnd", desc := "(II[B)V" } : Jvm.MethodName)) ∈ lw_all := lw_g (lw_at lw_m2 12 rfl) rfl
theorem q377 : (Jvm.Cond.code ({ cls := "java/lang/StringUTF16", name := "checkBoundsBeginEnd", desc := "(II[B)V" } : Jvm.MethodName) prog_59_method_93_code (3 : Nat) (Option.none : Option Jvm.ClassFile.FieldType)) ∈ lw_all := lw_g (lw_at lw_m2 13 rfl) rfl
theorem q378 : (Jvm.Cond.methodLink "java/lang/StringUTF16" (48 : Nat) ({ cls := "java/lang/StringUTF16", name := "length", desc := "([B)I" } : Jvm.MethodName)) ∈ lw_all := lw_g (lw_at lw_m2 14 rfl) rfl
theorem q379 : (Jvm.Cond.static ({ cls := "java/lang/StringUTF16", name := "length", desc := "([B)I" } : Jvm.MethodName)) ∈ lw_all := lw_g (lw_at lw_m2 15 rfl) rfl
theorem q380 : (Jvm.Cond.code ({ cls := "java/lang/StringUTF16", name := "length", desc := "([B)I" } : Jvm.MethodName) prog_59_method_6_code (1 : Nat) (Option.some Jvm.ClassFile.FieldType.int)) ∈ lw_all := lw_g (lw_at lw_m2 16 rfl) rfl
theorem q381 : (Jvm.Cond.methodLink "java/lang/StringUTF16" (241 : Nat) ({ cls := "java/lang/String", name := "checkBoundsBeginEnd", desc := "(III)V" } : Jvm.MethodName)) ∈ lw_all := lw_g (lw_at lw_m2 17 rfl) rfl
theorem q389 : (Jvm.Cond.methodLink "java/lang/StringUTF16" (111 : Nat) ({ cls := "java/lang/StringUTF16", name := "putChar", desc := "([BII)V" } : Jvm.MethodName)) ∈ lw_all := lw_g (lw_at lw_m2 25 rfl) rfl
theorem q390 : (Jvm.Cond.static ({ cls := "java/lang/StringUTF16", name := "putChar", desc := "([BII)V" } : Jvm.MethodName)) ∈ lw_all := lw_g (lw_at lw_m2 26 rfl) rfl
theorem q391 : (Jvm.Cond.code ({ cls := "java/lang/StringUTF16", name := "putChar", desc := "([BII)V" } : Jvm.MethodName) prog_59_method_4_code (3 : Nat) (Option.none : Option Jvm.ClassFile.FieldType)) ∈ lw_all := lw_g (lw_at lw_m2 27 rfl) rfl
theorem q392 : (Jvm.Cond.fieldLink "java/lang/StringUTF16" (44 : Nat) "java/lang/StringUTF16" "$assertionsDisabled" "Z") ∈ lw_all := lw_g (lw_at lw_m2 28 rfl) rfl
theorem q393 : (Jvm.Cond.laysStatic "java/lang/StringUTF16" "$assertionsDisabled" "Z") ∈ lw_tbl := lw_at lw_m2 29 rfl
theorem q394 : (Jvm.Cond.fieldLink "java/lang/StringUTF16" (59 : Nat) "java/lang/StringUTF16" "HI_BYTE_SHIFT" "I") ∈ lw_all := lw_g (lw_at lw_m2 30 rfl) rfl
theorem q395 : (Jvm.Cond.laysStatic "java/lang/StringUTF16" "HI_BYTE_SHIFT" "I") ∈ lw_tbl := lw_at lw_m2 31 rfl
theorem q396 : (Jvm.Cond.fieldLink "java/lang/StringUTF16" (63 : Nat) "java/lang/StringUTF16" "LO_BYTE_SHIFT" "I") ∈ lw_all := lw_g (lw_at lw_m2 32 rfl) rfl
theorem q397 : (Jvm.Cond.laysStatic "java/lang/StringUTF16" "LO_BYTE_SHIFT" "I") ∈ lw_tbl := lw_at lw_m2 33 rfl
theorem q424 : (Jvm.Cond.static ({ cls := "java/lang/StringUTF16", name := "inflate", desc := "([BI[BII)V" } : Jvm.MethodName)) ∈ lw_all := lw_g (lw_at lw_m2 60 rfl) rfl
theorem q425 : (Jvm.Cond.code ({ cls := "java/lang/StringUTF16", name := "inflate", desc := "([BI[BII)V" } : Jvm.MethodName) prog_59_method_86_code (6 : Nat) (Option.none : Option Jvm.ClassFile.FieldType)) ∈ lw_all := lw_g (lw_at lw_m2 61 rfl) rfl
theorem q426 : (Jvm.Cond.methodLink "java/lang/StringUTF16" (173 : Nat) ({ cls := "java/lang/StringUTF16", name := "checkBoundsOffCount", desc := "(II[B)V" } : Jvm.MethodName)) ∈ lw_all := lw_g (lw_at lw_m2 62 rfl) rfl
theorem q427 : (Jvm.Cond.static ({ cls := "java/lang/StringUTF16", name := "checkBoundsOffCount", desc := "(II[B)V" } : Jvm.MethodName)) ∈ lw_all := lw_g (lw_at lw_m2 63 rfl) rfl
theorem q428 : (Jvm.Cond.code ({ cls := "java/lang/StringUTF16", name := "checkBoundsOffCount", desc := "(II[B)V" } : Jvm.MethodName) prog_59_method_94_code (3 : Nat) (Option.none : Option Jvm.ClassFile.FieldType)) ∈ lw_all := lw_g (lw_at lw_m2 64 rfl) rfl
theorem q429 : (Jvm.Cond.methodLink "java/lang/StringUTF16" (419 : Nat) ({ cls := "java/lang/String", name := "checkBoundsOffCount", desc := "(III)I" } : Jvm.MethodName)) ∈ lw_all := lw_g (lw_at lw_m2 65 rfl) rfl
theorem q459 : (Jvm.Cond.static ({ cls := "java/lang/StringUTF16", name := "getChars", desc := "(III[B)I" } : Jvm.MethodName)) ∈ lw_all := lw_g (lw_at lw_m2 95 rfl) rfl
theorem q460 : (Jvm.Cond.code ({ cls := "java/lang/StringUTF16", name := "getChars", desc := "(III[B)I" } : Jvm.MethodName) prog_59_method_77_code (5 : Nat) (Option.some Jvm.ClassFile.FieldType.int)) ∈ lw_all := lw_g (lw_at lw_m2 96 rfl) rfl
theorem q461 : (Jvm.Cond.methodLink "java/lang/StringUTF16" (393 : Nat) ({ cls := "java/lang/StringUTF16", name := "getChars", desc := "(II[B)I" } : Jvm.MethodName)) ∈ lw_all := lw_g (lw_at lw_m2 97 rfl) rfl
theorem q462 : (Jvm.Cond.static ({ cls := "java/lang/StringUTF16", name := "getChars", desc := "(II[B)I" } : Jvm.MethodName)) ∈ lw_all := lw_g (lw_at lw_m2 98 rfl) rfl
theorem q463 : (Jvm.Cond.code ({ cls := "java/lang/StringUTF16", name := "getChars", desc := "(II[B)I" } : Jvm.MethodName) prog_59_method_89_code (7 : Nat) (Option.some Jvm.ClassFile.FieldType.int)) ∈ lw_all := lw_g (lw_at lw_m2 99 rfl) rfl
theorem q464 : (Jvm.Cond.fieldLink "java/lang/StringUTF16" (403 : Nat) "java/lang/Integer" "DigitOnes" "[B") ∈ lw_all := lw_g (lw_at lw_m2 100 rfl) rfl
theorem q465 : (Jvm.Cond.fieldLink "java/lang/StringUTF16" (407 : Nat) "java/lang/Integer" "DigitTens" "[B") ∈ lw_all := lw_g (lw_at lw_m2 101 rfl) rfl
theorem q524 : (Jvm.Cond.static ({ cls := "java/lang/StringUTF16", name := "compress", desc := "([BII)[B" } : Jvm.MethodName)) ∈ lw_all := lw_g (lw_at lw_m2 160 rfl) rfl
theorem q525 : (Jvm.Cond.code ({ cls := "java/lang/StringUTF16", name := "compress", desc := "([BII)[B" } : Jvm.MethodName) prog_59_method_17_code (6 : Nat) (Option.some (Jvm.ClassFile.FieldType.array Jvm.ClassFile.FieldType.byte))) ∈ lw_all := lw_g (lw_at lw_m2 161 rfl) rfl
theorem q526 : (Jvm.Cond.methodLink "java/lang/StringUTF16" (123 : Nat) ({ cls := "java/lang/StringUTF16", name := "compress", desc := "([BI[BII)I" } : Jvm.MethodName)) ∈ lw_all := lw_g (lw_at lw_m2 162 rfl) rfl
theorem q527 : (Jvm.Cond.static ({ cls := "java/lang/StringUTF16", name := "compress", desc := "([BI[BII)I" } : Jvm.MethodName)) ∈ lw_all := lw_g (lw_at lw_m2 163 rfl) rfl
theorem q528 : (Jvm.Cond.code ({ cls := "java/lang/StringUTF16", name := "compress", desc := "([BI[BII)I" } : Jvm.MethodName) prog_59_method_22_code (7 : Nat) (Option.some Jvm.ClassFile.FieldType.int)) ∈ lw_all := lw_g (lw_at lw_m2 164 rfl) rfl
theorem q529 : (Jvm.Cond.methodLink "java/lang/StringUTF16" (71 : Nat) ({ cls := "java/lang/StringUTF16", name := "getChar", desc := "([BI)C" } : Jvm.MethodName)) ∈ lw_all := lw_g (lw_at lw_m2 165 rfl) rfl
theorem q530 : (Jvm.Cond.static ({ cls := "java/lang/StringUTF16", name := "getChar", desc := "([BI)C" } : Jvm.MethodName)) ∈ lw_all := lw_g (lw_at lw_m2 166 rfl) rfl
theorem q531 : (Jvm.Cond.code ({ cls := "java/lang/StringUTF16", name := "getChar", desc := "([BI)C" } : Jvm.MethodName) prog_59_method_5_code (2 : Nat) (Option.some Jvm.ClassFile.FieldType.char)) ∈ lw_all := lw_g (lw_at lw_m2 167 rfl) rfl
theorem q532 : (Jvm.Cond.methodLink "java/lang/StringUTF16" (126 : Nat) ({ cls := "java/util/Arrays", name := "copyOfRange", desc := "([BII)[B" } : Jvm.MethodName)) ∈ lw_all := lw_g (lw_at lw_m2 168 rfl) rfl
theorem q534 : (Jvm.Cond.static ({ cls := "java/lang/StringUTF16", name := "coderFromArrayLen", desc := "([BI)B" } : Jvm.MethodName)) ∈ lw_all := lw_g (lw_at lw_m2 170 rfl) rfl
theorem q535 : (Jvm.Cond.code ({ cls := "java/lang/StringUTF16", name := "coderFromArrayLen", desc := "([BI)B" } : Jvm.MethodName) prog_59_method_15_code (2 : Nat) (Option.some Jvm.ClassFile.FieldType.byte)) ∈ lw_all := lw_g (lw_at lw_m2 171 rfl) rfl
theorem q1918 : (Jvm.Cond.static ({ cls := "java/lang/StringUTF16", name := "putCharSB", desc := "([BII)V" } : Jvm.MethodName)) ∈ lw_all := lw_g (lw_at lw_m8 114 rfl) rfl
theorem q1919 : (Jvm.Cond.code ({ cls := "java/lang/StringUTF16", name := "putCharSB", desc := "([BII)V" } : Jvm.MethodName) prog_59_method_71_code (3 : Nat) (Option.none : Option Jvm.ClassFile.FieldType)) ∈ lw_all := lw_g (lw_at lw_m8 115 rfl) rfl
theorem q1920 : (Jvm.Cond.methodLink "java/lang/StringUTF16" (67 : Nat) ({ cls := "java/lang/StringUTF16", name := "checkIndex", desc := "(I[B)V" } : Jvm.MethodName)) ∈ lw_all := lw_g (lw_at lw_m8 116 rfl) rfl
theorem q1921 : (Jvm.Cond.static ({ cls := "java/lang/StringUTF16", name := "checkIndex", desc := "(I[B)V" } : Jvm.MethodName)) ∈ lw_all := lw_g (lw_at lw_m8 117 rfl) rfl
theorem q1922 : (Jvm.Cond.code ({ cls := "java/lang/StringUTF16", name := "checkIndex", desc := "(I[B)V" } : Jvm.MethodName) prog_59_method_91_code (2 : Nat) (Option.none : Option Jvm.ClassFile.FieldType)) ∈ lw_all := lw_g (lw_at lw_m8 118 rfl) rfl
theorem q1923 : (Jvm.Cond.methodLink "java/lang/StringUTF16" (414 : Nat) ({ cls := "java/lang/String", name := "checkIndex", desc := "(II)V" } : Jvm.MethodName)) ∈ lw_all := lw_g (lw_at lw_m8 119 rfl) rfl
theorem q1989 : (Jvm.Cond.static ({ cls := "java/lang/StringUTF16", name := "hashCode", desc := "([B)I" } : Jvm.MethodName)) ∈ lw_all := lw_g (lw_at lw_m8 185 rfl) rfl
theorem q1990 : (Jvm.Cond.code ({ cls := "java/lang/StringUTF16", name := "hashCode", desc := "([B)I" } : Jvm.MethodName) prog_59_method_39_code (1 : Nat) (Option.some Jvm.ClassFile.FieldType.int)) ∈ lw_all := lw_g (lw_at lw_m8 186 rfl) rfl
theorem q1991 : (Jvm.Cond.methodLink "java/lang/StringUTF16" (220 : Nat) ({ cls := "jdk/internal/util/ArraysSupport", name := "vectorizedHashCode", desc := "(Ljava/lang/Object;IIII)I" } : Jvm.MethodName)) ∈ lw_all := lw_g (lw_at lw_m8 187 rfl) rfl
theorem q2106 : (Jvm.Cond.static ({ cls := "java/lang/StringUTF16", name := "charAt", desc := "([BI)C" } : Jvm.MethodName)) ∈ lw_all := lw_g (lw_at lw_m9 62 rfl) rfl
theorem q2107 : (Jvm.Cond.code ({ cls := "java/lang/StringUTF16", name := "charAt", desc := "([BI)C" } : Jvm.MethodName) prog_59_method_83_code (2 : Nat) (Option.some Jvm.ClassFile.FieldType.char)) ∈ lw_all := lw_g (lw_at lw_m9 63 rfl) rfl
/-! java/lang/NegativeArraySizeException -/
def RJ11 : String := "java/lang/NegativeArraySizeException"
def TJ11 : u_T := fun k => match k with
  | 0 => ("java/lang/Throwable", "cause", "Ljava/lang/Throwable;", false)
  | 1 => ("java/lang/Throwable", "stackTrace", "[Ljava/lang/StackTraceElement;", false)
  | 2 => ("java/lang/Throwable", "suppressedExceptions", "Ljava/util/List;", false)
  | 3 => ("java/lang/Throwable", "detailMessage", "Ljava/lang/String;", false)
  | 4 => ("java/lang/Throwable", "backtrace", "Ljava/lang/Object;", false)
  | _ => ("java/lang/Throwable", "depth", "I", false)
def tyJ11 : Nat → FieldType := fun k => match k with
  | 0 => .object "java/lang/Throwable"
  | 1 => .array (.object "java/lang/StackTraceElement")
  | 2 => .object "java/util/List"
  | 3 => .object "java/lang/String"
  | 4 => .object "java/lang/Object"
  | _ => .int
abbrev wsJ110 : List Cond := u_ws RJ11 TJ11 6
theorem nmJ11 : ∀ a, a < 6 → ∀ b, b < 6 → a ≠ b → (TJ11 a).2.1 ≠ (TJ11 b).2.1 := by decide +kernel
theorem tyJ11_ok : ∀ k, k < 6 → parseFieldDescriptor (TJ11 k).2.2.1 = some (tyJ11 k) := by decide +kernel
abbrev cJ11_init : ByteArray := prog_53_method_1_code
def yJ11_init : MethodName := ⟨RJ11, "<init>", "()V"⟩
abbrev cJ11_init_2 : ByteArray := prog_53_method_2_code
def yJ11_init_2 : MethodName := ⟨RJ11, "<init>", "(Ljava/lang/String;)V"⟩
theorem q138 : (Jvm.Cond.initialized "java/lang/NegativeArraySizeException") ∈ lw_all := lw_g (lw_at lw_m1 14 rfl) rfl
theorem q249 : (Jvm.Cond.selects "java/lang/NegativeArraySizeException" ({ cls := "java/lang/Throwable", name := "fillInStackTrace", desc := "()Ljava/lang/Throwable;" } : Jvm.MethodName) ({ cls := "java/lang/Throwable", name := "fillInStackTrace", desc := "()Ljava/lang/Throwable;" } : Jvm.MethodName)) ∈ lw_all := lw_g (lw_at lw_m1 125 rfl) rfl
theorem q274 : (Jvm.Cond.instantiable "java/lang/NegativeArraySizeException" (6 : Nat)) ∈ lw_all := lw_g (lw_at lw_m1 150 rfl) rfl
theorem q275 : (Jvm.Cond.castable "java/lang/NegativeArraySizeException" "java/lang/NegativeArraySizeException") ∈ lw_tbl := lw_at lw_m1 151 rfl
theorem q276 : (Jvm.Cond.selects "java/lang/NegativeArraySizeException" ({ cls := "java/lang/Throwable", name := "fillInStackTrace", desc := "(I)Ljava/lang/Throwable;" } : Jvm.MethodName) ({ cls := "java/lang/Throwable", name := "fillInStackTrace", desc := "(I)Ljava/lang/Throwable;" } : Jvm.MethodName)) ∈ lw_all := lw_g (lw_at lw_m1 152 rfl) rfl
theorem q277 : (Jvm.Cond.lays "java/lang/NegativeArraySizeException" "java/lang/Throwable" "cause" "Ljava/lang/Throwable;") ∈ lw_all := lw_g (lw_at lw_m1 153 rfl) rfl
theorem q278 : (Jvm.Cond.lays "java/lang/NegativeArraySizeException" "java/lang/Throwable" "stackTrace" "[Ljava/lang/StackTraceElement;") ∈ lw_all := lw_g (lw_at lw_m1 154 rfl) rfl
theorem q279 : (Jvm.Cond.lays "java/lang/NegativeArraySizeException" "java/lang/Throwable" "suppressedExceptions" "Ljava/util/List;") ∈ lw_all := lw_g (lw_at lw_m1 155 rfl) rfl
theorem q280 : (Jvm.Cond.lays "java/lang/NegativeArraySizeException" "java/lang/Throwable" "detailMessage" "Ljava/lang/String;") ∈ lw_all := lw_g (lw_at lw_m1 156 rfl) rfl
theorem q281 : (Jvm.Cond.lays "java/lang/NegativeArraySizeException" "java/lang/Throwable" "backtrace" "Ljava/lang/Object;") ∈ lw_all := lw_g (lw_at lw_m1 157 rfl) rfl
theorem q283 : (Jvm.Cond.instanceMethod ({ cls := "java/lang/NegativeArraySizeException", name := "<init>", desc := "()V" } : Jvm.MethodName)) ∈ lw_all := lw_g (lw_at lw_m1 159 rfl) rfl
theorem q284 : (Jvm.Cond.code ({ cls := "java/lang/NegativeArraySizeException", name := "<init>", desc := "()V" } : Jvm.MethodName) prog_53_method_1_code (1 : Nat) (Option.none : Option Jvm.ClassFile.FieldType)) ∈ lw_all := lw_g (lw_at lw_m1 160 rfl) rfl
theorem q285 : (Jvm.Cond.methodLink "java/lang/NegativeArraySizeException" (1 : Nat) ({ cls := "java/lang/RuntimeException", name := "<init>", desc := "()V" } : Jvm.MethodName)) ∈ lw_all := lw_g (lw_at lw_m1 161 rfl) rfl
theorem q301 : (Jvm.Cond.lays "java/lang/NegativeArraySizeException" "java/lang/Throwable" "depth" "I") ∈ lw_all := lw_g (lw_at lw_m1 177 rfl) rfl
theorem q304 : (Jvm.Cond.superclass "java/lang/NegativeArraySizeException" "java/lang/RuntimeException") ∈ lw_all := lw_g (lw_at lw_m1 180 rfl) rfl
theorem q691 : (Jvm.Cond.selects "java/lang/NegativeArraySizeException" ({ cls := "java/lang/Object", name := "getClass", desc := "()Ljava/lang/Class;" } : Jvm.MethodName) ({ cls := "java/lang/Object", name := "getClass", desc := "()Ljava/lang/Class;" } : Jvm.MethodName)) ∈ lw_all := lw_g (lw_at lw_m3 87 rfl) rfl
theorem q1040 : (Jvm.Cond.instanceMethod ({ cls := "java/lang/NegativeArraySizeException", name := "<init>", desc := "(Ljava/lang/String;)V" } : Jvm.MethodName)) ∈ lw_all := lw_g (lw_at lw_m4 196 rfl) rfl
theorem q1041 : (Jvm.Cond.code ({ cls := "java/lang/NegativeArraySizeException", name := "<init>", desc := "(Ljava/lang/String;)V" } : Jvm.MethodName) prog_53_method_2_code (2 : Nat) (Option.none : Option Jvm.ClassFile.FieldType)) ∈ lw_all := lw_g (lw_at lw_m4 197 rfl) rfl
theorem q1042 : (Jvm.Cond.methodLink "java/lang/NegativeArraySizeException" (7 : Nat) ({ cls := "java/lang/RuntimeException", name := "<init>", desc := "(Ljava/lang/String;)V" } : Jvm.MethodName)) ∈ lw_all := lw_g (lw_at lw_m4 198 rfl) rfl
theorem q1653 : (Jvm.Cond.selects "java/lang/NegativeArraySizeException" ({ cls := "java/lang/Object", name := "equals", desc := "(Ljava/lang/Object;)Z" } : Jvm.MethodName) ({ cls := "java/lang/Object", name := "equals", desc := "(Ljava/lang/Object;)Z" } : Jvm.MethodName)) ∈ lw_all := lw_g (lw_at lw_m7 89 rfl) rfl
theorem q3244 : (Jvm.Cond.castable "java/lang/NegativeArraySizeException" "java/lang/Object") ∈ lw_tbl := lw_at lw_m14 0 rfl
theorem in_J11 : ∀ w ∈ wsJ110, w ∈ lw_all := lw_in wsJ110 [277, 278, 279, 280, 281, 301] (by decide +kernel) (by decide +kernel)
/-! jdk/internal/util/ArraysSupport -/
def RJ12 : String := "jdk/internal/util/ArraysSupport"
abbrev cJ12_newLength : ByteArray := prog_75_method_27_code
def yJ12_newLength : MethodName := ⟨RJ12, "newLength", "(III)I"⟩
abbrev cJ12_hugeLength : ByteArray := prog_75_method_28_code
def yJ12_hugeLength : MethodName := ⟨RJ12, "hugeLength", "(II)I"⟩
abbrev cJ12_vectorizedHashCode : ByteArray := prog_75_method_4_code
def yJ12_vectorizedHashCode : MethodName := ⟨RJ12, "vectorizedHashCode", "(Ljava/lang/Object;IIII)I"⟩
abbrev cJ12_signedHashCode : ByteArray := prog_75_method_5_code
def yJ12_signedHashCode : MethodName := ⟨RJ12, "signedHashCode", "(I[BII)I"⟩
abbrev cJ12_utf16hashCode : ByteArray := prog_75_method_10_code
def yJ12_utf16hashCode : MethodName := ⟨RJ12, "utf16hashCode", "(I[BII)I"⟩
abbrev cJ12_hashCode : ByteArray := prog_75_method_7_code
def yJ12_hashCode : MethodName := ⟨RJ12, "hashCode", "(I[CII)I"⟩
abbrev cJ12_hashCode_2 : ByteArray := prog_75_method_6_code
def yJ12_hashCode_2 : MethodName := ⟨RJ12, "hashCode", "(I[BII)I"⟩
abbrev cJ12_hashCode_3 : ByteArray := prog_75_method_8_code
def yJ12_hashCode_3 : MethodName := ⟨RJ12, "hashCode", "(I[SII)I"⟩
abbrev cJ12_hashCode_4 : ByteArray := prog_75_method_9_code
def yJ12_hashCode_4 : MethodName := ⟨RJ12, "hashCode", "(I[III)I"⟩
theorem q139 : (Jvm.Cond.initialized "jdk/internal/util/ArraysSupport") ∈ lw_all := lw_g (lw_at lw_m1 15 rfl) rfl
theorem q341 : (Jvm.Cond.static ({ cls := "jdk/internal/util/ArraysSupport", name := "newLength", desc := "(III)I" } : Jvm.MethodName)) ∈ lw_all := lw_g (lw_at lw_m1 217 rfl) rfl
theorem q342 : (Jvm.Cond.code ({ cls := "jdk/internal/util/ArraysSupport", name := "newLength", desc := "(III)I" } : Jvm.MethodName) prog_75_method_27_code (4 : Nat) (Option.some Jvm.ClassFile.FieldType.int)) ∈ lw_all := lw_g (lw_at lw_m1 218 rfl) rfl
theorem q343 : (Jvm.Cond.methodLink "jdk/internal/util/ArraysSupport" (194 : Nat) ({ cls := "java/lang/Math", name := "max", desc := "(II)I" } : Jvm.MethodName)) ∈ lw_all := lw_g (lw_at lw_m1 219 rfl) rfl
theorem q346 : (Jvm.Cond.constant "jdk/internal/util/ArraysSupport" (200 : Nat) (2147483639 : Int32)) ∈ lw_all := lw_g (lw_at lw_m1 222 rfl) rfl
theorem q347 : (Jvm.Cond.methodLink "jdk/internal/util/ArraysSupport" (201 : Nat) ({ cls := "jdk/internal/util/ArraysSupport", name := "hugeLength", desc := "(II)I" } : Jvm.MethodName)) ∈ lw_all := lw_g (lw_at lw_m1 223 rfl) rfl
theorem q348 : (Jvm.Cond.static ({ cls := "jdk/internal/util/ArraysSupport", name := "hugeLength", desc := "(II)I" } : Jvm.MethodName)) ∈ lw_all := lw_g (lw_at lw_m1 224 rfl) rfl
theorem q349 : (Jvm.Cond.code ({ cls := "jdk/internal/util/ArraysSupport", name := "hugeLength", desc := "(II)I" } : Jvm.MethodName) prog_75_method_28_code (3 : Nat) (Option.some Jvm.ClassFile.FieldType.int)) ∈ lw_all := lw_g (lw_at lw_m1 225 rfl) rfl
theorem q1943 : (Jvm.Cond.static ({ cls := "jdk/internal/util/ArraysSupport", name := "vectorizedHashCode", desc := "(Ljava/lang/Object;IIII)I" } : Jvm.MethodName)) ∈ lw_all := lw_g (lw_at lw_m8 139 rfl) rfl
theorem q1944 : (Jvm.Cond.code ({ cls := "jdk/internal/util/ArraysSupport", name := "vectorizedHashCode", desc := "(Ljava/lang/Object;IIII)I" } : Jvm.MethodName) prog_75_method_4_code (5 : Nat) (Option.some Jvm.ClassFile.FieldType.int)) ∈ lw_all := lw_g (lw_at lw_m8 140 rfl) rfl
theorem q1945 : (Jvm.Cond.classLink "jdk/internal/util/ArraysSupport" (60 : Nat) "[B") ∈ lw_all := lw_g (lw_at lw_m8 141 rfl) rfl
theorem q1946 : (Jvm.Cond.methodLink "jdk/internal/util/ArraysSupport" (62 : Nat) ({ cls := "jdk/internal/util/ArraysSupport", name := "signedHashCode", desc := "(I[BII)I" } : Jvm.MethodName)) ∈ lw_all := lw_g (lw_at lw_m8 142 rfl) rfl
theorem q1947 : (Jvm.Cond.static ({ cls := "jdk/internal/util/ArraysSupport", name := "signedHashCode", desc := "(I[BII)I" } : Jvm.MethodName)) ∈ lw_all := lw_g (lw_at lw_m8 143 rfl) rfl
theorem q1948 : (Jvm.Cond.code ({ cls := "jdk/internal/util/ArraysSupport", name := "signedHashCode", desc := "(I[BII)I" } : Jvm.MethodName) prog_75_method_5_code (6 : Nat) (Option.some Jvm.ClassFile.FieldType.int)) ∈ lw_all := lw_g (lw_at lw_m8 144 rfl) rfl
theorem q1949 : (Jvm.Cond.methodLink "jdk/internal/util/ArraysSupport" (66 : Nat) ({ cls := "jdk/internal/util/ArraysSupport", name := "utf16hashCode", desc := "(I[BII)I" } : Jvm.MethodName)) ∈ lw_all := lw_g (lw_at lw_m8 145 rfl) rfl
theorem q1950 : (Jvm.Cond.static ({ cls := "jdk/internal/util/ArraysSupport", name := "utf16hashCode", desc := "(I[BII)I" } : Jvm.MethodName)) ∈ lw_all := lw_g (lw_at lw_m8 146 rfl) rfl
theorem q1951 : (Jvm.Cond.code ({ cls := "jdk/internal/util/ArraysSupport", name := "utf16hashCode", desc := "(I[BII)I" } : Jvm.MethodName) prog_75_method_10_code (6 : Nat) (Option.some Jvm.ClassFile.FieldType.int)) ∈ lw_all := lw_g (lw_at lw_m8 147 rfl) rfl
theorem q1952 : (Jvm.Cond.fieldLink "jdk/internal/util/ArraysSupport" (106 : Nat) "jdk/internal/util/ArraysSupport" "JLA" "Ljdk/internal/access/JavaLangAccess;") ∈ lw_all := lw_g (lw_at lw_m8 148 rfl) rfl
theorem q1953 : (Jvm.Cond.laysStatic "jdk/internal/util/ArraysSupport" "JLA" "Ljdk/internal/access/JavaLangAccess;") ∈ lw_tbl := lw_at lw_m8 149 rfl
theorem q1954 : (Jvm.Cond.interfaceEntry "jdk/internal/util/ArraysSupport" (110 : Nat)) ∈ lw_tbl := lw_at lw_m8 150 rfl
theorem q1955 : (Jvm.Cond.methodLink "jdk/internal/util/ArraysSupport" (110 : Nat) ({ cls := "jdk/internal/access/JavaLangAccess", name := "getUTF16Char", desc := "([BI)C" } : Jvm.MethodName)) ∈ lw_all := lw_g (lw_at lw_m8 151 rfl) rfl
theorem q1965 : (Jvm.Cond.classLink "jdk/internal/util/ArraysSupport" (69 : Nat) "[C") ∈ lw_all := lw_g (lw_at lw_m8 161 rfl) rfl
theorem q1966 : (Jvm.Cond.methodLink "jdk/internal/util/ArraysSupport" (71 : Nat) ({ cls := "jdk/internal/util/ArraysSupport", name := "hashCode", desc := "(I[CII)I" } : Jvm.MethodName)) ∈ lw_all := lw_g (lw_at lw_m8 162 rfl) rfl
theorem q1967 : (Jvm.Cond.static ({ cls := "jdk/internal/util/ArraysSupport", name := "hashCode", desc := "(I[CII)I" } : Jvm.MethodName)) ∈ lw_all := lw_g (lw_at lw_m8 163 rfl) rfl
theorem q1968 : (Jvm.Cond.code ({ cls := "jdk/internal/util/ArraysSupport", name := "hashCode", desc := "(I[CII)I" } : Jvm.MethodName) prog_75_method_7_code (6 : Nat) (Option.some Jvm.ClassFile.FieldType.int)) ∈ lw_all := lw_g (lw_at lw_m8 164 rfl) rfl
theorem q1969 : (Jvm.Cond.methodLink "jdk/internal/util/ArraysSupport" (75 : Nat) ({ cls := "jdk/internal/util/ArraysSupport", name := "hashCode", desc := "(I[BII)I" } : Jvm.MethodName)) ∈ lw_all := lw_g (lw_at lw_m8 165 rfl) rfl
theorem q1970 : (Jvm.Cond.static ({ cls := "jdk/internal/util/ArraysSupport", name := "hashCode", desc := "(I[BII)I" } : Jvm.MethodName)) ∈ lw_all := lw_g (lw_at lw_m8 166 rfl) rfl
theorem q1971 : (Jvm.Cond.code ({ cls := "jdk/internal/util/ArraysSupport", name := "hashCode", desc := "(I[BII)I" } : Jvm.MethodName) prog_75_method_6_code (6 : Nat) (Option.some Jvm.ClassFile.FieldType.int)) ∈ lw_all := lw_g (lw_at lw_m8 167 rfl) rfl
theorem q1972 : (Jvm.Cond.classLink "jdk/internal/util/ArraysSupport" (77 : Nat) "[S") ∈ lw_all := lw_g (lw_at lw_m8 168 rfl) rfl
theorem q1973 : (Jvm.Cond.methodLink "jdk/internal/util/ArraysSupport" (79 : Nat) ({ cls := "jdk/internal/util/ArraysSupport", name := "hashCode", desc := "(I[SII)I" } : Jvm.MethodName)) ∈ lw_all := lw_g (lw_at lw_m8 169 rfl) rfl
theorem q1974 : (Jvm.Cond.static ({ cls := "jdk/internal/util/ArraysSupport", name := "hashCode", desc := "(I[SII)I" } : Jvm.MethodName)) ∈ lw_all := lw_g (lw_at lw_m8 170 rfl) rfl
theorem q1975 : (Jvm.Cond.code ({ cls := "jdk/internal/util/ArraysSupport", name := "hashCode", desc := "(I[SII)I" } : Jvm.MethodName) prog_75_method_8_code (6 : Nat) (Option.some Jvm.ClassFile.FieldType.int)) ∈ lw_all := lw_g (lw_at lw_m8 171 rfl) rfl
theorem q1976 : (Jvm.Cond.classLink "jdk/internal/util/ArraysSupport" (82 : Nat) "[I") ∈ lw_all := lw_g (lw_at lw_m8 172 rfl) rfl
theorem q1977 : (Jvm.Cond.methodLink "jdk/internal/util/ArraysSupport" (84 : Nat) ({ cls := "jdk/internal/util/ArraysSupport", name := "hashCode", desc := "(I[III)I" } : Jvm.MethodName)) ∈ lw_all := lw_g (lw_at lw_m8 173 rfl) rfl
theorem q1978 : (Jvm.Cond.static ({ cls := "jdk/internal/util/ArraysSupport", name := "hashCode", desc := "(I[III)I" } : Jvm.MethodName)) ∈ lw_all := lw_g (lw_at lw_m8 174 rfl) rfl
theorem q1979 : (Jvm.Cond.code ({ cls := "jdk/internal/util/ArraysSupport", name := "hashCode", desc := "(I[III)I" } : Jvm.MethodName) prog_75_method_9_code (6 : Nat) (Option.some Jvm.ClassFile.FieldType.int)) ∈ lw_all := lw_g (lw_at lw_m8 175 rfl) rfl
theorem q1980 : (Jvm.Cond.classLink "jdk/internal/util/ArraysSupport" (87 : Nat) "java/lang/IllegalArgumentException") ∈ lw_all := lw_g (lw_at lw_m8 176 rfl) rfl
theorem q1981 : (Jvm.Cond.classLink "jdk/internal/util/ArraysSupport" (89 : Nat) "java/lang/StringBuilder") ∈ lw_all := lw_g (lw_at lw_m8 177 rfl) rfl
theorem q1982 : (Jvm.Cond.methodLink "jdk/internal/util/ArraysSupport" (91 : Nat) ({ cls := "java/lang/StringBuilder", name := "<init>", desc := "()V" } : Jvm.MethodName)) ∈ lw_all := lw_g (lw_at lw_m8 178 rfl) rfl
theorem q1983 : (Jvm.Cond.stringRef "jdk/internal/util/ArraysSupport" (92 : Nat) "unrecognized basic type: ") ∈ lw_tbl := lw_at lw_m8 179 rfl
theorem q1984 : (Jvm.Cond.methodLink "jdk/internal/util/ArraysSupport" (94 : Nat) ({ cls := "java/lang/StringBuilder", name := "append", desc := "(Ljava/lang/String;)Ljava/lang/StringBuilder;" } : Jvm.MethodName)) ∈ lw_all := lw_g (lw_at lw_m8 180 rfl) rfl
theorem q1985 : (Jvm.Cond.methodLink "jdk/internal/util/ArraysSupport" (98 : Nat) ({ cls := "java/lang/StringBuilder", name := "append", desc := "(I)Ljava/lang/StringBuilder;" } : Jvm.MethodName)) ∈ lw_all := lw_g (lw_at lw_m8 181 rfl) rfl
theorem q1986 : (Jvm.Cond.methodLink "jdk/internal/util/ArraysSupport" (101 : Nat) ({ cls := "java/lang/StringBuilder", name := "toString", desc := "()Ljava/lang/String;" } : Jvm.MethodName)) ∈ lw_all := lw_g (lw_at lw_m8 182 rfl) rfl
theorem q1987 : (Jvm.Cond.methodLink "jdk/internal/util/ArraysSupport" (105 : Nat) ({ cls := "java/lang/IllegalArgumentException", name := "<init>", desc := "(Ljava/lang/String;)V" } : Jvm.MethodName)) ∈ lw_all := lw_g (lw_at lw_m8 183 rfl) rfl
/-! java/lang/Math -/
def RJ13 : String := "java/lang/Math"
abbrev cJ13_max : ByteArray := prog_52_method_65_code
def yJ13_max : MethodName := ⟨RJ13, "max", "(II)I"⟩
abbrev cJ13_min : ByteArray := prog_52_method_69_code
def yJ13_min : MethodName := ⟨RJ13, "min", "(II)I"⟩
abbrev cJ13_abs : ByteArray := prog_52_method_59_code
def yJ13_abs : MethodName := ⟨RJ13, "abs", "(I)I"⟩
theorem q140 : (Jvm.Cond.initialized "java/lang/Math") ∈ lw_all := lw_g (lw_at lw_m1 16 rfl) rfl
theorem q344 : (Jvm.Cond.static ({ cls := "java/lang/Math", name := "max", desc := "(II)I" } : Jvm.MethodName)) ∈ lw_all := lw_g (lw_at lw_m1 220 rfl) rfl
theorem q345 : (Jvm.Cond.code ({ cls := "java/lang/Math", name := "max", desc := "(II)I" } : Jvm.MethodName) prog_52_method_65_code (2 : Nat) (Option.some Jvm.ClassFile.FieldType.int)) ∈ lw_all := lw_g (lw_at lw_m1 221 rfl) rfl
theorem q362 : (Jvm.Cond.static ({ cls := "java/lang/Math", name := "min", desc := "(II)I" } : Jvm.MethodName)) ∈ lw_all := lw_g (lw_at lw_m1 238 rfl) rfl
theorem q363 : (Jvm.Cond.code ({ cls := "java/lang/Math", name := "min", desc := "(II)I" } : Jvm.MethodName) prog_52_method_69_code (2 : Nat) (Option.some Jvm.ClassFile.FieldType.int)) ∈ lw_all := lw_g (lw_at lw_m1 239 rfl) rfl
theorem q1579 : (Jvm.Cond.static ({ cls := "java/lang/Math", name := "abs", desc := "(I)I" } : Jvm.MethodName)) ∈ lw_all := lw_g (lw_at lw_m7 15 rfl) rfl
theorem q1580 : (Jvm.Cond.code ({ cls := "java/lang/Math", name := "abs", desc := "(I)I" } : Jvm.MethodName) prog_52_method_59_code (1 : Nat) (Option.some Jvm.ClassFile.FieldType.int)) ∈ lw_all := lw_g (lw_at lw_m7 16 rfl) rfl
/-! java/util/Arrays -/
def RJ14 : String := "java/util/Arrays"
abbrev cJ14_copyOf : ByteArray := prog_68_method_121_code
def yJ14_copyOf : MethodName := ⟨RJ14, "copyOf", "([BI)[B"⟩
abbrev cJ14_copyOfRange : ByteArray := prog_68_method_132_code
def yJ14_copyOfRange : MethodName := ⟨RJ14, "copyOfRange", "([BII)[B"⟩
abbrev cJ14_copyOfRangeByte : ByteArray := prog_68_method_133_code
def yJ14_copyOfRangeByte : MethodName := ⟨RJ14, "copyOfRangeByte", "([BII)[B"⟩
abbrev cJ14_checkLength : ByteArray := prog_68_method_131_code
def yJ14_checkLength : MethodName := ⟨RJ14, "checkLength", "(II)V"⟩
abbrev cJ14_copyOf_2 : ByteArray := prog_68_method_119_code
def yJ14_copyOf_2 : MethodName := ⟨RJ14, "copyOf", "([Ljava/lang/Object;I)[Ljava/lang/Object;"⟩
abbrev cJ14_copyOf_3 : ByteArray := prog_68_method_120_code
def yJ14_copyOf_3 : MethodName := ⟨RJ14, "copyOf", "([Ljava/lang/Object;ILjava/lang/Class;)[Ljava/lang/Object;"⟩
theorem q141 : (Jvm.Cond.initialized "java/util/Arrays") ∈ lw_all := lw_g (lw_at lw_m1 17 rfl) rfl
theorem q352 : (Jvm.Cond.static ({ cls := "java/util/Arrays", name := "copyOf", desc := "([BI)[B" } : Jvm.MethodName)) ∈ lw_all := lw_g (lw_at lw_m1 228 rfl) rfl
theorem q353 : (Jvm.Cond.code ({ cls := "java/util/Arrays", name := "copyOf", desc := "([BI)[B" } : Jvm.MethodName) prog_68_method_121_code (3 : Nat) (Option.some (Jvm.ClassFile.FieldType.array Jvm.ClassFile.FieldType.byte))) ∈ lw_all := lw_g (lw_at lw_m1 229 rfl) rfl
theorem q354 : (Jvm.Cond.methodLink "java/util/Arrays" (310 : Nat) ({ cls := "[B", name := "clone", desc := "()Ljava/lang/Object;" } : Jvm.MethodName)) ∈ lw_all := lw_g (lw_at lw_m1 230 rfl) rfl
theorem q360 : (Jvm.Cond.classLink "java/util/Arrays" (311 : Nat) "[B") ∈ lw_all := lw_g (lw_at lw_m1 236 rfl) rfl
theorem q361 : (Jvm.Cond.methodLink "java/util/Arrays" (304 : Nat) ({ cls := "java/lang/Math", name := "min", desc := "(II)I" } : Jvm.MethodName)) ∈ lw_all := lw_g (lw_at lw_m1 237 rfl) rfl
theorem q364 : (Jvm.Cond.methodLink "java/util/Arrays" (150 : Nat) ({ cls := "java/lang/System", name := "arraycopy", desc := "(Ljava/lang/Object;ILjava/lang/Object;II)V" } : Jvm.MethodName)) ∈ lw_all := lw_g (lw_at lw_m2 0 rfl) rfl
theorem q494 : (Jvm.Cond.static ({ cls := "java/util/Arrays", name := "copyOfRange", desc := "([BII)[B" } : Jvm.MethodName)) ∈ lw_all := lw_g (lw_at lw_m2 130 rfl) rfl
theorem q495 : (Jvm.Cond.code ({ cls := "java/util/Arrays", name := "copyOfRange", desc := "([BII)[B" } : Jvm.MethodName) prog_68_method_132_code (3 : Nat) (Option.some (Jvm.ClassFile.FieldType.array Jvm.ClassFile.FieldType.byte))) ∈ lw_all := lw_g (lw_at lw_m2 131 rfl) rfl
theorem q496 : (Jvm.Cond.methodLink "java/util/Arrays" (339 : Nat) ({ cls := "java/util/Arrays", name := "copyOfRangeByte", desc := "([BII)[B" } : Jvm.MethodName)) ∈ lw_all := lw_g (lw_at lw_m2 132 rfl) rfl
theorem q497 : (Jvm.Cond.static ({ cls := "java/util/Arrays", name := "copyOfRangeByte", desc := "([BII)[B" } : Jvm.MethodName)) ∈ lw_all := lw_g (lw_at lw_m2 133 rfl) rfl
theorem q498 : (Jvm.Cond.code ({ cls := "java/util/Arrays", name := "copyOfRangeByte", desc := "([BII)[B" } : Jvm.MethodName) prog_68_method_133_code (5 : Nat) (Option.some (Jvm.ClassFile.FieldType.array Jvm.ClassFile.FieldType.byte))) ∈ lw_all := lw_g (lw_at lw_m2 134 rfl) rfl
theorem q499 : (Jvm.Cond.methodLink "java/util/Arrays" (343 : Nat) ({ cls := "java/util/Arrays", name := "checkLength", desc := "(II)V" } : Jvm.MethodName)) ∈ lw_all := lw_g (lw_at lw_m2 135 rfl) rfl
theorem q500 : (Jvm.Cond.static ({ cls := "java/util/Arrays", name := "checkLength", desc := "(II)V" } : Jvm.MethodName)) ∈ lw_all := lw_g (lw_at lw_m2 136 rfl) rfl
theorem q501 : (Jvm.Cond.code ({ cls := "java/util/Arrays", name := "checkLength", desc := "(II)V" } : Jvm.MethodName) prog_68_method_131_code (2 : Nat) (Option.none : Option Jvm.ClassFile.FieldType)) ∈ lw_all := lw_g (lw_at lw_m2 137 rfl) rfl
theorem q502 : (Jvm.Cond.classLink "java/util/Arrays" (43 : Nat) "java/lang/IllegalArgumentException") ∈ lw_all := lw_g (lw_at lw_m2 138 rfl) rfl
theorem q503 : (Jvm.Cond.classLink "java/util/Arrays" (45 : Nat) "java/lang/StringBuilder") ∈ lw_all := lw_g (lw_at lw_m2 139 rfl) rfl
theorem q504 : (Jvm.Cond.methodLink "java/util/Arrays" (47 : Nat) ({ cls := "java/lang/StringBuilder", name := "<init>", desc := "()V" } : Jvm.MethodName)) ∈ lw_all := lw_g (lw_at lw_m2 140 rfl) rfl
theorem q505 : (Jvm.Cond.methodLink "java/util/Arrays" (54 : Nat) ({ cls := "java/lang/StringBuilder", name := "append", desc := "(I)Ljava/lang/StringBuilder;" } : Jvm.MethodName)) ∈ lw_all := lw_g (lw_at lw_m2 141 rfl) rfl
theorem q506 : (Jvm.Cond.stringRef "java/util/Arrays" (337 : Nat) " > ") ∈ lw_tbl := lw_at lw_m2 142 rfl
theorem q507 : (Jvm.Cond.methodLink "java/util/Arrays" (50 : Nat) ({ cls := "java/lang/StringBuilder", name := "append", desc := "(Ljava/lang/String;)Ljava/lang/StringBuilder;" } : Jvm.MethodName)) ∈ lw_all := lw_g (lw_at lw_m2 143 rfl) rfl
theorem q508 : (Jvm.Cond.methodLink "java/util/Arrays" (61 : Nat) ({ cls := "java/lang/StringBuilder", name := "toString", desc := "()Ljava/lang/String;" } : Jvm.MethodName)) ∈ lw_all := lw_g (lw_at lw_m2 144 rfl) rfl
theorem q509 : (Jvm.Cond.methodLink "java/util/Arrays" (65 : Nat) ({ cls := "java/lang/IllegalArgumentException", name := "<init>", desc := "(Ljava/lang/String;)V" } : Jvm.MethodName)) ∈ lw_all := lw_g (lw_at lw_m2 145 rfl) rfl
theorem q652 : (Jvm.Cond.static ({ cls := "java/util/Arrays", name := "copyOf", desc := "([Ljava/lang/Object;I)[Ljava/lang/Object;" } : Jvm.MethodName)) ∈ lw_all := lw_g (lw_at lw_m3 48 rfl) rfl
theorem q653 : (Jvm.Cond.code ({ cls := "java/util/Arrays", name := "copyOf", desc := "([Ljava/lang/Object;I)[Ljava/lang/Object;" } : Jvm.MethodName) prog_68_method_119_code (2 : Nat) (Option.some (Jvm.ClassFile.FieldType.array (Jvm.ClassFile.FieldType.object "java/lang/Object")))) ∈ lw_all := lw_g (lw_at lw_m3 49 rfl) rfl
theorem q654 : (Jvm.Cond.methodLink "java/util/Arrays" (86 : Nat) ({ cls := "java/lang/Object", name := "getClass", desc := "()Ljava/lang/Class;" } : Jvm.MethodName)) ∈ lw_all := lw_g (lw_at lw_m3 50 rfl) rfl
theorem q697 : (Jvm.Cond.methodLink "java/util/Arrays" (300 : Nat) ({ cls := "java/util/Arrays", name := "copyOf", desc := "([Ljava/lang/Object;ILjava/lang/Class;)[Ljava/lang/Object;" } : Jvm.MethodName)) ∈ lw_all := lw_g (lw_at lw_m3 93 rfl) rfl
theorem q698 : (Jvm.Cond.static ({ cls := "java/util/Arrays", name := "copyOf", desc := "([Ljava/lang/Object;ILjava/lang/Class;)[Ljava/lang/Object;" } : Jvm.MethodName)) ∈ lw_all := lw_g (lw_at lw_m3 94 rfl) rfl
theorem q699 : (Jvm.Cond.code ({ cls := "java/util/Arrays", name := "copyOf", desc := "([Ljava/lang/Object;ILjava/lang/Class;)[Ljava/lang/Object;" } : Jvm.MethodName) prog_68_method_120_code (4 : Nat) (Option.some (Jvm.ClassFile.FieldType.array (Jvm.ClassFile.FieldType.object "java/lang/Object")))) ∈ lw_all := lw_g (lw_at lw_m3 95 rfl) rfl
theorem q700 : (Jvm.Cond.classLink "java/util/Arrays" (110 : Nat) "[Ljava/lang/Object;") ∈ lw_all := lw_g (lw_at lw_m3 96 rfl) rfl
theorem q701 : (Jvm.Cond.classLink "java/util/Arrays" (2 : Nat) "java/lang/Object") ∈ lw_all := lw_g (lw_at lw_m3 97 rfl) rfl
/-! jdk/internal/util/Preconditions -/
def RJ15 : String := "jdk/internal/util/Preconditions"
abbrev cJ15_checkFromToIndex : ByteArray := prog_76_method_12_code
def yJ15_checkFromToIndex : MethodName := ⟨RJ15, "checkFromToIndex", "(IIILjava/util/function/BiFunction;)I"⟩
abbrev cJ15_checkFromIndexSize : ByteArray := prog_76_method_13_code
def yJ15_checkFromIndexSize : MethodName := ⟨RJ15, "checkFromIndexSize", "(IIILjava/util/function/BiFunction;)I"⟩
abbrev cJ15_checkIndex : ByteArray := prog_76_method_11_code
def yJ15_checkIndex : MethodName := ⟨RJ15, "checkIndex", "(IILjava/util/function/BiFunction;)I"⟩
theorem q143 : (Jvm.Cond.initialized "jdk/internal/util/Preconditions") ∈ lw_all := lw_g (lw_at lw_m1 19 rfl) rfl
theorem q385 : (Jvm.Cond.laysStatic "jdk/internal/util/Preconditions" "SIOOBE_FORMATTER" "Ljava/util/function/BiFunction;") ∈ lw_tbl := lw_at lw_m2 21 rfl
theorem q387 : (Jvm.Cond.static ({ cls := "jdk/internal/util/Preconditions", name := "checkFromToIndex", desc := "(IIILjava/util/function/BiFunction;)I" } : Jvm.MethodName)) ∈ lw_all := lw_g (lw_at lw_m2 23 rfl) rfl
theorem q388 : (Jvm.Cond.code ({ cls := "jdk/internal/util/Preconditions", name := "checkFromToIndex", desc := "(IIILjava/util/function/BiFunction;)I" } : Jvm.MethodName) prog_76_method_12_code (4 : Nat) (Option.some Jvm.ClassFile.FieldType.int)) ∈ lw_all := lw_g (lw_at lw_m2 24 rfl) rfl
theorem q433 : (Jvm.Cond.static ({ cls := "jdk/internal/util/Preconditions", name := "checkFromIndexSize", desc := "(IIILjava/util/function/BiFunction;)I" } : Jvm.MethodName)) ∈ lw_all := lw_g (lw_at lw_m2 69 rfl) rfl
theorem q434 : (Jvm.Cond.code ({ cls := "jdk/internal/util/Preconditions", name := "checkFromIndexSize", desc := "(IIILjava/util/function/BiFunction;)I" } : Jvm.MethodName) prog_76_method_13_code (4 : Nat) (Option.some Jvm.ClassFile.FieldType.int)) ∈ lw_all := lw_g (lw_at lw_m2 70 rfl) rfl
theorem q715 : (Jvm.Cond.static ({ cls := "jdk/internal/util/Preconditions", name := "checkIndex", desc := "(IILjava/util/function/BiFunction;)I" } : Jvm.MethodName)) ∈ lw_all := lw_g (lw_at lw_m3 111 rfl) rfl
theorem q716 : (Jvm.Cond.code ({ cls := "jdk/internal/util/Preconditions", name := "checkIndex", desc := "(IILjava/util/function/BiFunction;)I" } : Jvm.MethodName) prog_76_method_11_code (3 : Nat) (Option.some Jvm.ClassFile.FieldType.int)) ∈ lw_all := lw_g (lw_at lw_m3 112 rfl) rfl
/-! java/lang/StringLatin1 -/
def RJ16 : String := "java/lang/StringLatin1"
abbrev cJ16_inflate : ByteArray := prog_58_method_50_code
def yJ16_inflate : MethodName := ⟨RJ16, "inflate", "([BI[BII)V"⟩
abbrev cJ16_equals : ByteArray := prog_58_method_13_code
def yJ16_equals : MethodName := ⟨RJ16, "equals", "([B[B)Z"⟩
abbrev cJ16_canEncode : ByteArray := prog_58_method_3_code
def yJ16_canEncode : MethodName := ⟨RJ16, "canEncode", "(C)Z"⟩
abbrev cJ16_hashCode : ByteArray := prog_58_method_21_code
def yJ16_hashCode : MethodName := ⟨RJ16, "hashCode", "([B)I"⟩
abbrev cJ16_charAt : ByteArray := prog_58_method_2_code
def yJ16_charAt : MethodName := ⟨RJ16, "charAt", "([BI)C"⟩
theorem q144 : (Jvm.Cond.initialized "java/lang/StringLatin1") ∈ lw_all := lw_g (lw_at lw_m1 20 rfl) rfl
theorem q421 : (Jvm.Cond.static ({ cls := "java/lang/StringLatin1", name := "inflate", desc := "([BI[BII)V" } : Jvm.MethodName)) ∈ lw_all := lw_g (lw_at lw_m2 57 rfl) rfl
theorem q422 : (Jvm.Cond.code ({ cls := "java/lang/StringLatin1", name := "inflate", desc := "([BI[BII)V" } : Jvm.MethodName) prog_58_method_50_code (5 : Nat) (Option.none : Option Jvm.ClassFile.FieldType)) ∈ lw_all := lw_g (lw_at lw_m2 58 rfl) rfl
theorem q423 : (Jvm.Cond.methodLink "java/lang/StringLatin1" (240 : Nat) ({ cls := "java/lang/StringUTF16", name := "inflate", desc := "([BI[BII)V" } : Jvm.MethodName)) ∈ lw_all := lw_g (lw_at lw_m2 59 rfl) rfl
theorem q1659 : (Jvm.Cond.static ({ cls := "java/lang/StringLatin1", name := "equals", desc := "([B[B)Z" } : Jvm.MethodName)) ∈ lw_all := lw_g (lw_at lw_m7 95 rfl) rfl
theorem q1660 : (Jvm.Cond.code ({ cls := "java/lang/StringLatin1", name := "equals", desc := "([B[B)Z" } : Jvm.MethodName) prog_58_method_13_code (3 : Nat) (Option.some Jvm.ClassFile.FieldType.boolean)) ∈ lw_all := lw_g (lw_at lw_m7 96 rfl) rfl
theorem q1915 : (Jvm.Cond.static ({ cls := "java/lang/StringLatin1", name := "canEncode", desc := "(C)Z" } : Jvm.MethodName)) ∈ lw_all := lw_g (lw_at lw_m8 111 rfl) rfl
theorem q1916 : (Jvm.Cond.code ({ cls := "java/lang/StringLatin1", name := "canEncode", desc := "(C)Z" } : Jvm.MethodName) prog_58_method_3_code (1 : Nat) (Option.some Jvm.ClassFile.FieldType.boolean)) ∈ lw_all := lw_g (lw_at lw_m8 112 rfl) rfl
theorem q1940 : (Jvm.Cond.static ({ cls := "java/lang/StringLatin1", name := "hashCode", desc := "([B)I" } : Jvm.MethodName)) ∈ lw_all := lw_g (lw_at lw_m8 136 rfl) rfl
theorem q1941 : (Jvm.Cond.code ({ cls := "java/lang/StringLatin1", name := "hashCode", desc := "([B)I" } : Jvm.MethodName) prog_58_method_21_code (1 : Nat) (Option.some Jvm.ClassFile.FieldType.int)) ∈ lw_all := lw_g (lw_at lw_m8 137 rfl) rfl
theorem q1942 : (Jvm.Cond.methodLink "java/lang/StringLatin1" (84 : Nat) ({ cls := "jdk/internal/util/ArraysSupport", name := "vectorizedHashCode", desc := "(Ljava/lang/Object;IIII)I" } : Jvm.MethodName)) ∈ lw_all := lw_g (lw_at lw_m8 138 rfl) rfl
theorem q2102 : (Jvm.Cond.static ({ cls := "java/lang/StringLatin1", name := "charAt", desc := "([BI)C" } : Jvm.MethodName)) ∈ lw_all := lw_g (lw_at lw_m9 58 rfl) rfl
theorem q2103 : (Jvm.Cond.code ({ cls := "java/lang/StringLatin1", name := "charAt", desc := "([BI)C" } : Jvm.MethodName) prog_58_method_2_code (2 : Nat) (Option.some Jvm.ClassFile.FieldType.char)) ∈ lw_all := lw_g (lw_at lw_m9 59 rfl) rfl
theorem q2104 : (Jvm.Cond.methodLink "java/lang/StringLatin1" (9 : Nat) ({ cls := "java/lang/String", name := "checkIndex", desc := "(II)V" } : Jvm.MethodName)) ∈ lw_all := lw_g (lw_at lw_m9 60 rfl) rfl
/-! java/lang/Number -/
def RJ17 : String := "java/lang/Number"
abbrev cJ17_init : ByteArray := prog_54_method_1_code
def yJ17_init : MethodName := ⟨RJ17, "<init>", "()V"⟩
theorem q145 : (Jvm.Cond.initialized "java/lang/Number") ∈ lw_all := lw_g (lw_at lw_m1 21 rfl) rfl
theorem q1764 : (Jvm.Cond.instanceMethod ({ cls := "java/lang/Number", name := "<init>", desc := "()V" } : Jvm.MethodName)) ∈ lw_all := lw_g (lw_at lw_m7 200 rfl) rfl
theorem q1765 : (Jvm.Cond.code ({ cls := "java/lang/Number", name := "<init>", desc := "()V" } : Jvm.MethodName) prog_54_method_1_code (1 : Nat) (Option.none : Option Jvm.ClassFile.FieldType)) ∈ lw_all := lw_g (lw_at lw_m7 201 rfl) rfl
theorem q1766 : (Jvm.Cond.methodLink "java/lang/Number" (1 : Nat) ({ cls := "java/lang/Object", name := "<init>", desc := "()V" } : Jvm.MethodName)) ∈ lw_all := lw_g (lw_at lw_m7 202 rfl) rfl
/-! java/lang/Integer -/
def RJ18 : String := "java/lang/Integer"
def TJ18 : u_T := fun k => match k with
  | _ => ("java/lang/Integer", "value", "I", true)
def tyJ18 : Nat → FieldType := fun k => match k with
  | _ => .int
abbrev wsJ180 : List Cond := u_ws RJ18 TJ18 1
theorem nmJ18 : ∀ a, a < 1 → ∀ b, b < 1 → a ≠ b → (TJ18 a).2.1 ≠ (TJ18 b).2.1 := by decide +kernel
theorem tyJ18_ok : ∀ k, k < 1 → parseFieldDescriptor (TJ18 k).2.2.1 = some (tyJ18 k) := by decide +kernel
abbrev cJ18_stringSize : ByteArray := prog_49_method_13_code
def yJ18_stringSize : MethodName := ⟨RJ18, "stringSize", "(I)I"⟩
abbrev cJ18_getChars : ByteArray := prog_49_method_12_code
def yJ18_getChars : MethodName := ⟨RJ18, "getChars", "(II[B)I"⟩
abbrev cJ18_equals : ByteArray := prog_49_method_34_code
def yJ18_equals : MethodName := ⟨RJ18, "equals", "(Ljava/lang/Object;)Z"⟩
abbrev cJ18_intValue : ByteArray := prog_49_method_27_code
def yJ18_intValue : MethodName := ⟨RJ18, "intValue", "()I"⟩
abbrev cJ18_valueOf : ByteArray := prog_49_method_22_code
def yJ18_valueOf : MethodName := ⟨RJ18, "valueOf", "(I)Ljava/lang/Integer;"⟩
abbrev cJ18_init : ByteArray := prog_49_method_23_code
def yJ18_init : MethodName := ⟨RJ18, "<init>", "(I)V"⟩
theorem q146 : (Jvm.Cond.initialized "java/lang/Integer") ∈ lw_all := lw_g (lw_at lw_m1 22 rfl) rfl
theorem q449 : (Jvm.Cond.static ({ cls := "java/lang/Integer", name := "stringSize", desc := "(I)I" } : Jvm.MethodName)) ∈ lw_all := lw_g (lw_at lw_m2 85 rfl) rfl
theorem q450 : (Jvm.Cond.code ({ cls := "java/lang/Integer", name := "stringSize", desc := "(I)I" } : Jvm.MethodName) prog_49_method_13_code (4 : Nat) (Option.some Jvm.ClassFile.FieldType.int)) ∈ lw_all := lw_g (lw_at lw_m2 86 rfl) rfl
theorem q452 : (Jvm.Cond.static ({ cls := "java/lang/Integer", name := "getChars", desc := "(II[B)I" } : Jvm.MethodName)) ∈ lw_all := lw_g (lw_at lw_m2 88 rfl) rfl
theorem q453 : (Jvm.Cond.code ({ cls := "java/lang/Integer", name := "getChars", desc := "(II[B)I" } : Jvm.MethodName) prog_49_method_12_code (7 : Nat) (Option.some Jvm.ClassFile.FieldType.int)) ∈ lw_all := lw_g (lw_at lw_m2 89 rfl) rfl
theorem q454 : (Jvm.Cond.fieldLink "java/lang/Integer" (83 : Nat) "java/lang/Integer" "DigitOnes" "[B") ∈ lw_all := lw_g (lw_at lw_m2 90 rfl) rfl
theorem q455 : (Jvm.Cond.laysStatic "java/lang/Integer" "DigitOnes" "[B") ∈ lw_tbl := lw_at lw_m2 91 rfl
theorem q456 : (Jvm.Cond.fieldLink "java/lang/Integer" (87 : Nat) "java/lang/Integer" "DigitTens" "[B") ∈ lw_all := lw_g (lw_at lw_m2 92 rfl) rfl
theorem q457 : (Jvm.Cond.laysStatic "java/lang/Integer" "DigitTens" "[B") ∈ lw_tbl := lw_at lw_m2 93 rfl
theorem q690 : (Jvm.Cond.selects "java/lang/Integer" ({ cls := "java/lang/Object", name := "getClass", desc := "()Ljava/lang/Class;" } : Jvm.MethodName) ({ cls := "java/lang/Object", name := "getClass", desc := "()Ljava/lang/Class;" } : Jvm.MethodName)) ∈ lw_all := lw_g (lw_at lw_m3 86 rfl) rfl
theorem q1645 : (Jvm.Cond.selects "java/lang/Integer" ({ cls := "java/lang/Object", name := "equals", desc := "(Ljava/lang/Object;)Z" } : Jvm.MethodName) ({ cls := "java/lang/Integer", name := "equals", desc := "(Ljava/lang/Object;)Z" } : Jvm.MethodName)) ∈ lw_all := lw_g (lw_at lw_m7 81 rfl) rfl
theorem q1646 : (Jvm.Cond.instanceMethod ({ cls := "java/lang/Integer", name := "equals", desc := "(Ljava/lang/Object;)Z" } : Jvm.MethodName)) ∈ lw_all := lw_g (lw_at lw_m7 82 rfl) rfl
theorem q1647 : (Jvm.Cond.code ({ cls := "java/lang/Integer", name := "equals", desc := "(Ljava/lang/Object;)Z" } : Jvm.MethodName) prog_49_method_34_code (2 : Nat) (Option.some Jvm.ClassFile.FieldType.boolean)) ∈ lw_all := lw_g (lw_at lw_m7 83 rfl) rfl
theorem q1648 : (Jvm.Cond.classLink "java/lang/Integer" (1 : Nat) "java/lang/Integer") ∈ lw_all := lw_g (lw_at lw_m7 84 rfl) rfl
theorem q1649 : (Jvm.Cond.methodLink "java/lang/Integer" (211 : Nat) ({ cls := "java/lang/Integer", name := "intValue", desc := "()I" } : Jvm.MethodName)) ∈ lw_all := lw_g (lw_at lw_m7 85 rfl) rfl
theorem q1650 : (Jvm.Cond.instanceMethod ({ cls := "java/lang/Integer", name := "intValue", desc := "()I" } : Jvm.MethodName)) ∈ lw_all := lw_g (lw_at lw_m7 86 rfl) rfl
theorem q1651 : (Jvm.Cond.selects "java/lang/Integer" ({ cls := "java/lang/Integer", name := "intValue", desc := "()I" } : Jvm.MethodName) ({ cls := "java/lang/Integer", name := "intValue", desc := "()I" } : Jvm.MethodName)) ∈ lw_all := lw_g (lw_at lw_m7 87 rfl) rfl
theorem q1652 : (Jvm.Cond.code ({ cls := "java/lang/Integer", name := "intValue", desc := "()I" } : Jvm.MethodName) prog_49_method_27_code (1 : Nat) (Option.some Jvm.ClassFile.FieldType.int)) ∈ lw_all := lw_g (lw_at lw_m7 88 rfl) rfl
theorem q1753 : (Jvm.Cond.static ({ cls := "java/lang/Integer", name := "valueOf", desc := "(I)Ljava/lang/Integer;" } : Jvm.MethodName)) ∈ lw_all := lw_g (lw_at lw_m7 189 rfl) rfl
theorem q1754 : (Jvm.Cond.code ({ cls := "java/lang/Integer", name := "valueOf", desc := "(I)Ljava/lang/Integer;" } : Jvm.MethodName) prog_49_method_22_code (1 : Nat) (Option.some (Jvm.ClassFile.FieldType.object "java/lang/Integer"))) ∈ lw_all := lw_g (lw_at lw_m7 190 rfl) rfl
theorem q1755 : (Jvm.Cond.fieldLink "java/lang/Integer" (191 : Nat) "java/lang/Integer$IntegerCache" "high" "I") ∈ lw_all := lw_g (lw_at lw_m7 191 rfl) rfl
theorem q1757 : (Jvm.Cond.fieldLink "java/lang/Integer" (195 : Nat) "java/lang/Integer$IntegerCache" "cache" "[Ljava/lang/Integer;") ∈ lw_all := lw_g (lw_at lw_m7 193 rfl) rfl
theorem q1759 : (Jvm.Cond.instantiable "java/lang/Integer" (1 : Nat)) ∈ lw_all := lw_g (lw_at lw_m7 195 rfl) rfl
theorem q1760 : (Jvm.Cond.methodLink "java/lang/Integer" (199 : Nat) ({ cls := "java/lang/Integer", name := "<init>", desc := "(I)V" } : Jvm.MethodName)) ∈ lw_all := lw_g (lw_at lw_m7 196 rfl) rfl
theorem q1761 : (Jvm.Cond.instanceMethod ({ cls := "java/lang/Integer", name := "<init>", desc := "(I)V" } : Jvm.MethodName)) ∈ lw_all := lw_g (lw_at lw_m7 197 rfl) rfl
theorem q1762 : (Jvm.Cond.code ({ cls := "java/lang/Integer", name := "<init>", desc := "(I)V" } : Jvm.MethodName) prog_49_method_23_code (2 : Nat) (Option.none : Option Jvm.ClassFile.FieldType)) ∈ lw_all := lw_g (lw_at lw_m7 198 rfl) rfl
theorem q1763 : (Jvm.Cond.methodLink "java/lang/Integer" (202 : Nat) ({ cls := "java/lang/Number", name := "<init>", desc := "()V" } : Jvm.MethodName)) ∈ lw_all := lw_g (lw_at lw_m7 199 rfl) rfl
theorem q1767 : (Jvm.Cond.fieldLink "java/lang/Integer" (205 : Nat) "java/lang/Integer" "value" "I") ∈ lw_all := lw_g (lw_at lw_m7 203 rfl) rfl
theorem q1768 : (Jvm.Cond.laysFinal "java/lang/Integer" "java/lang/Integer" "value" "I") ∈ lw_all := lw_g (lw_at lw_m7 204 rfl) rfl
theorem q1769 : (Jvm.Cond.soleField "java/lang/Integer" "value") ∈ lw_all := lw_g (lw_at lw_m7 205 rfl) rfl
theorem q1770 : (Jvm.Cond.superclass "java/lang/Integer" "java/lang/Number") ∈ lw_all := lw_g (lw_at lw_m7 206 rfl) rfl
theorem q3259 : (Jvm.Cond.castable "java/lang/Integer" "java/lang/Object") ∈ lw_tbl := lw_at lw_m14 15 rfl
theorem in_J18 : ∀ w ∈ wsJ180, w ∈ lw_all := lw_in wsJ180 [1768] (by decide +kernel) (by decide +kernel)
/-! java/util/Objects -/
def RJ19 : String := "java/util/Objects"
abbrev cJ19_checkIndex : ByteArray := prog_71_method_17_code
def yJ19_checkIndex : MethodName := ⟨RJ19, "checkIndex", "(II)I"⟩
theorem q153 : (Jvm.Cond.initialized "java/util/Objects") ∈ lw_all := lw_g (lw_at lw_m1 29 rfl) rfl
theorem q712 : (Jvm.Cond.static ({ cls := "java/util/Objects", name := "checkIndex", desc := "(II)I" } : Jvm.MethodName)) ∈ lw_all := lw_g (lw_at lw_m3 108 rfl) rfl
theorem q713 : (Jvm.Cond.code ({ cls := "java/util/Objects", name := "checkIndex", desc := "(II)I" } : Jvm.MethodName) prog_71_method_17_code (2 : Nat) (Option.some Jvm.ClassFile.FieldType.int)) ∈ lw_all := lw_g (lw_at lw_m3 109 rfl) rfl
theorem q714 : (Jvm.Cond.methodLink "java/util/Objects" (105 : Nat) ({ cls := "jdk/internal/util/Preconditions", name := "checkIndex", desc := "(IILjava/util/function/BiFunction;)I" } : Jvm.MethodName)) ∈ lw_all := lw_g (lw_at lw_m3 110 rfl) rfl
/-! java/util/ArrayList -/
def RJ2 : String := "java/util/ArrayList"
def TJ2 : u_T := fun k => match k with
  | 0 => ("java/util/AbstractList", "modCount", "I", false)
  | 1 => ("java/util/ArrayList", "elementData", "[Ljava/lang/Object;", false)
  | _ => ("java/util/ArrayList", "size", "I", false)
def tyJ2 : Nat → FieldType := fun k => match k with
  | 0 => .int
  | 1 => .array (.object "java/lang/Object")
  | _ => .int
abbrev wsJ20 : List Cond := u_ws RJ2 TJ2 3
theorem nmJ2 : ∀ a, a < 3 → ∀ b, b < 3 → a ≠ b → (TJ2 a).2.1 ≠ (TJ2 b).2.1 := by decide +kernel
theorem tyJ2_ok : ∀ k, k < 3 → parseFieldDescriptor (TJ2 k).2.2.1 = some (tyJ2 k) := by decide +kernel
abbrev cJ2_init : ByteArray := prog_67_method_1_code
def yJ2_init : MethodName := ⟨RJ2, "<init>", "(I)V"⟩
abbrev cJ2_add : ByteArray := prog_67_method_25_code
def yJ2_add : MethodName := ⟨RJ2, "add", "(Ljava/lang/Object;)Z"⟩
abbrev cJ2_add_2 : ByteArray := prog_67_method_24_code
def yJ2_add_2 : MethodName := ⟨RJ2, "add", "(Ljava/lang/Object;[Ljava/lang/Object;I)V"⟩
abbrev cJ2_grow : ByteArray := prog_67_method_7_code
def yJ2_grow : MethodName := ⟨RJ2, "grow", "()[Ljava/lang/Object;"⟩
abbrev cJ2_grow_2 : ByteArray := prog_67_method_6_code
def yJ2_grow_2 : MethodName := ⟨RJ2, "grow", "(I)[Ljava/lang/Object;"⟩
abbrev cJ2_get : ByteArray := prog_67_method_20_code
def yJ2_get : MethodName := ⟨RJ2, "get", "(I)Ljava/lang/Object;"⟩
abbrev cJ2_elementData : ByteArray := prog_67_method_18_code
def yJ2_elementData : MethodName := ⟨RJ2, "elementData", "(I)Ljava/lang/Object;"⟩
abbrev cJ2_size : ByteArray := prog_67_method_8_code
def yJ2_size : MethodName := ⟨RJ2, "size", "()I"⟩
abbrev cJ2_contains : ByteArray := prog_67_method_10_code
def yJ2_contains : MethodName := ⟨RJ2, "contains", "(Ljava/lang/Object;)Z"⟩
abbrev cJ2_indexOf : ByteArray := prog_67_method_11_code
def yJ2_indexOf : MethodName := ⟨RJ2, "indexOf", "(Ljava/lang/Object;)I"⟩
abbrev cJ2_indexOfRange : ByteArray := prog_67_method_12_code
def yJ2_indexOfRange : MethodName := ⟨RJ2, "indexOfRange", "(Ljava/lang/Object;II)I"⟩
abbrev cJ2_isEmpty : ByteArray := prog_67_method_9_code
def yJ2_isEmpty : MethodName := ⟨RJ2, "isEmpty", "()Z"⟩
abbrev cJ2_remove : ByteArray := prog_67_method_29_code
def yJ2_remove : MethodName := ⟨RJ2, "remove", "(I)Ljava/lang/Object;"⟩
abbrev cJ2_fastRemove : ByteArray := prog_67_method_39_code
def yJ2_fastRemove : MethodName := ⟨RJ2, "fastRemove", "([Ljava/lang/Object;I)V"⟩
theorem q129 : (Jvm.Cond.initialized "java/util/ArrayList") ∈ lw_all := lw_g (lw_at lw_m1 5 rfl) rfl
theorem q196 : (Jvm.Cond.instantiable "java/util/ArrayList" (3 : Nat)) ∈ lw_all := lw_g (lw_at lw_m1 72 rfl) rfl
theorem q198 : (Jvm.Cond.instanceMethod ({ cls := "java/util/ArrayList", name := "<init>", desc := "(I)V" } : Jvm.MethodName)) ∈ lw_all := lw_g (lw_at lw_m1 74 rfl) rfl
theorem q199 : (Jvm.Cond.code ({ cls := "java/util/ArrayList", name := "<init>", desc := "(I)V" } : Jvm.MethodName) prog_67_method_1_code (2 : Nat) (Option.none : Option Jvm.ClassFile.FieldType)) ∈ lw_all := lw_g (lw_at lw_m1 75 rfl) rfl
theorem q200 : (Jvm.Cond.methodLink "java/util/ArrayList" (1 : Nat) ({ cls := "java/util/AbstractList", name := "<init>", desc := "()V" } : Jvm.MethodName)) ∈ lw_all := lw_g (lw_at lw_m1 76 rfl) rfl
theorem q207 : (Jvm.Cond.classLink "java/util/ArrayList" (7 : Nat) "java/lang/Object") ∈ lw_all := lw_g (lw_at lw_m1 83 rfl) rfl
theorem q209 : (Jvm.Cond.fieldLink "java/util/ArrayList" (15 : Nat) "java/util/ArrayList" "EMPTY_ELEMENTDATA" "[Ljava/lang/Object;") ∈ lw_all := lw_g (lw_at lw_m1 85 rfl) rfl
theorem q210 : (Jvm.Cond.laysStatic "java/util/ArrayList" "EMPTY_ELEMENTDATA" "[Ljava/lang/Object;") ∈ lw_tbl := lw_at lw_m1 86 rfl
theorem q211 : (Jvm.Cond.classLink "java/util/ArrayList" (18 : Nat) "java/lang/IllegalArgumentException") ∈ lw_all := lw_g (lw_at lw_m1 87 rfl) rfl
theorem q256 : (Jvm.Cond.classLink "java/util/ArrayList" (20 : Nat) "java/lang/StringBuilder") ∈ lw_all := lw_g (lw_at lw_m1 132 rfl) rfl
theorem q258 : (Jvm.Cond.methodLink "java/util/ArrayList" (22 : Nat) ({ cls := "java/lang/StringBuilder", name := "<init>", desc := "()V" } : Jvm.MethodName)) ∈ lw_all := lw_g (lw_at lw_m1 134 rfl) rfl
theorem q320 : (Jvm.Cond.stringRef "java/util/ArrayList" (23 : Nat) "Illegal Capacity: ") ∈ lw_tbl := lw_at lw_m1 196 rfl
theorem q321 : (Jvm.Cond.methodLink "java/util/ArrayList" (25 : Nat) ({ cls := "java/lang/StringBuilder", name := "append", desc := "(Ljava/lang/String;)Ljava/lang/StringBuilder;" } : Jvm.MethodName)) ∈ lw_all := lw_g (lw_at lw_m1 197 rfl) rfl
theorem q441 : (Jvm.Cond.methodLink "java/util/ArrayList" (29 : Nat) ({ cls := "java/lang/StringBuilder", name := "append", desc := "(I)Ljava/lang/StringBuilder;" } : Jvm.MethodName)) ∈ lw_all := lw_g (lw_at lw_m2 77 rfl) rfl
theorem q466 : (Jvm.Cond.methodLink "java/util/ArrayList" (32 : Nat) ({ cls := "java/lang/StringBuilder", name := "toString", desc := "()Ljava/lang/String;" } : Jvm.MethodName)) ∈ lw_all := lw_g (lw_at lw_m2 102 rfl) rfl
theorem q549 : (Jvm.Cond.methodLink "java/util/ArrayList" (36 : Nat) ({ cls := "java/lang/IllegalArgumentException", name := "<init>", desc := "(Ljava/lang/String;)V" } : Jvm.MethodName)) ∈ lw_all := lw_g (lw_at lw_m2 185 rfl) rfl
theorem q550 : (Jvm.Cond.fieldLink "java/util/ArrayList" (9 : Nat) "java/util/ArrayList" "elementData" "[Ljava/lang/Object;") ∈ lw_all := lw_g (lw_at lw_m2 186 rfl) rfl
theorem q551 : (Jvm.Cond.fieldLink "java/util/ArrayList" (48 : Nat) "java/util/ArrayList" "size" "I") ∈ lw_all := lw_g (lw_at lw_m2 187 rfl) rfl
theorem q553 : (Jvm.Cond.fieldLink "java/util/ArrayList" (63 : Nat) "java/util/ArrayList" "modCount" "I") ∈ lw_all := lw_g (lw_at lw_m2 189 rfl) rfl
theorem q554 : (Jvm.Cond.sameField "java/util/ArrayList" "java/util/AbstractList" "modCount" "I") ∈ lw_all := lw_g (lw_at lw_m2 190 rfl) rfl
theorem q555 : (Jvm.Cond.lays "java/util/ArrayList" "java/util/ArrayList" "elementData" "[Ljava/lang/Object;") ∈ lw_all := lw_g (lw_at lw_m2 191 rfl) rfl
theorem q556 : (Jvm.Cond.soleField "java/util/ArrayList" "elementData") ∈ lw_all := lw_g (lw_at lw_m2 192 rfl) rfl
theorem q557 : (Jvm.Cond.lays "java/util/ArrayList" "java/util/ArrayList" "size" "I") ∈ lw_all := lw_g (lw_at lw_m2 193 rfl) rfl
theorem q558 : (Jvm.Cond.soleField "java/util/ArrayList" "size") ∈ lw_all := lw_g (lw_at lw_m2 194 rfl) rfl
theorem q559 : (Jvm.Cond.lays "java/util/ArrayList" "java/util/AbstractList" "modCount" "I") ∈ lw_all := lw_g (lw_at lw_m2 195 rfl) rfl
theorem q561 : (Jvm.Cond.superclass "java/util/ArrayList" "java/util/AbstractList") ∈ lw_all := lw_g (lw_at lw_m2 197 rfl) rfl
theorem q633 : (Jvm.Cond.instanceMethod ({ cls := "java/util/ArrayList", name := "add", desc := "(Ljava/lang/Object;)Z" } : Jvm.MethodName)) ∈ lw_all := lw_g (lw_at lw_m3 29 rfl) rfl
theorem q634 : (Jvm.Cond.selects "java/util/ArrayList" ({ cls := "java/util/ArrayList", name := "add", desc := "(Ljava/lang/Object;)Z" } : Jvm.MethodName) ({ cls := "java/util/ArrayList", name := "add", desc := "(Ljava/lang/Object;)Z" } : Jvm.MethodName)) ∈ lw_all := lw_g (lw_at lw_m3 30 rfl) rfl
theorem q635 : (Jvm.Cond.code ({ cls := "java/util/ArrayList", name := "add", desc := "(Ljava/lang/Object;)Z" } : Jvm.MethodName) prog_67_method_25_code (2 : Nat) (Option.some Jvm.ClassFile.FieldType.boolean)) ∈ lw_all := lw_g (lw_at lw_m3 31 rfl) rfl
theorem q636 : (Jvm.Cond.methodLink "java/util/ArrayList" (131 : Nat) ({ cls := "java/util/ArrayList", name := "add", desc := "(Ljava/lang/Object;[Ljava/lang/Object;I)V" } : Jvm.MethodName)) ∈ lw_all := lw_g (lw_at lw_m3 32 rfl) rfl
theorem q637 : (Jvm.Cond.privateMethod ({ cls := "java/util/ArrayList", name := "add", desc := "(Ljava/lang/Object;[Ljava/lang/Object;I)V" } : Jvm.MethodName)) ∈ lw_tbl := lw_at lw_m3 33 rfl
theorem q638 : (Jvm.Cond.instanceMethod ({ cls := "java/util/ArrayList", name := "add", desc := "(Ljava/lang/Object;[Ljava/lang/Object;I)V" } : Jvm.MethodName)) ∈ lw_all := lw_g (lw_at lw_m3 34 rfl) rfl
theorem q639 : (Jvm.Cond.code ({ cls := "java/util/ArrayList", name := "add", desc := "(Ljava/lang/Object;[Ljava/lang/Object;I)V" } : Jvm.MethodName) prog_67_method_24_code (4 : Nat) (Option.none : Option Jvm.ClassFile.FieldType)) ∈ lw_all := lw_g (lw_at lw_m3 35 rfl) rfl
theorem q640 : (Jvm.Cond.methodLink "java/util/ArrayList" (129 : Nat) ({ cls := "java/util/ArrayList", name := "grow", desc := "()[Ljava/lang/Object;" } : Jvm.MethodName)) ∈ lw_all := lw_g (lw_at lw_m3 36 rfl) rfl
theorem q641 : (Jvm.Cond.privateMethod ({ cls := "java/util/ArrayList", name := "grow", desc := "()[Ljava/lang/Object;" } : Jvm.MethodName)) ∈ lw_tbl := lw_at lw_m3 37 rfl
theorem q642 : (Jvm.Cond.instanceMethod ({ cls := "java/util/ArrayList", name := "grow", desc := "()[Ljava/lang/Object;" } : Jvm.MethodName)) ∈ lw_all := lw_g (lw_at lw_m3 38 rfl) rfl
theorem q643 : (Jvm.Cond.code ({ cls := "java/util/ArrayList", name := "grow", desc := "()[Ljava/lang/Object;" } : Jvm.MethodName) prog_67_method_7_code (1 : Nat) (Option.some (Jvm.ClassFile.FieldType.array (Jvm.ClassFile.FieldType.object "java/lang/Object")))) ∈ lw_all := lw_g (lw_at lw_m3 39 rfl) rfl
theorem q644 : (Jvm.Cond.methodLink "java/util/ArrayList" (69 : Nat) ({ cls := "java/util/ArrayList", name := "grow", desc := "(I)[Ljava/lang/Object;" } : Jvm.MethodName)) ∈ lw_all := lw_g (lw_at lw_m3 40 rfl) rfl
theorem q645 : (Jvm.Cond.privateMethod ({ cls := "java/util/ArrayList", name := "grow", desc := "(I)[Ljava/lang/Object;" } : Jvm.MethodName)) ∈ lw_tbl := lw_at lw_m3 41 rfl
theorem q646 : (Jvm.Cond.instanceMethod ({ cls := "java/util/ArrayList", name := "grow", desc := "(I)[Ljava/lang/Object;" } : Jvm.MethodName)) ∈ lw_all := lw_g (lw_at lw_m3 42 rfl) rfl
theorem q647 : (Jvm.Cond.code ({ cls := "java/util/ArrayList", name := "grow", desc := "(I)[Ljava/lang/Object;" } : Jvm.MethodName) prog_67_method_6_code (4 : Nat) (Option.some (Jvm.ClassFile.FieldType.array (Jvm.ClassFile.FieldType.object "java/lang/Object")))) ∈ lw_all := lw_g (lw_at lw_m3 43 rfl) rfl
theorem q648 : (Jvm.Cond.fieldLink "java/util/ArrayList" (39 : Nat) "java/util/ArrayList" "DEFAULTCAPACITY_EMPTY_ELEMENTDATA" "[Ljava/lang/Object;") ∈ lw_all := lw_g (lw_at lw_m3 44 rfl) rfl
theorem q649 : (Jvm.Cond.laysStatic "java/util/ArrayList" "DEFAULTCAPACITY_EMPTY_ELEMENTDATA" "[Ljava/lang/Object;") ∈ lw_tbl := lw_at lw_m3 45 rfl
theorem q650 : (Jvm.Cond.methodLink "java/util/ArrayList" (73 : Nat) ({ cls := "jdk/internal/util/ArraysSupport", name := "newLength", desc := "(III)I" } : Jvm.MethodName)) ∈ lw_all := lw_g (lw_at lw_m3 46 rfl) rfl
theorem q651 : (Jvm.Cond.methodLink "java/util/ArrayList" (66 : Nat) ({ cls := "java/util/Arrays", name := "copyOf", desc := "([Ljava/lang/Object;I)[Ljava/lang/Object;" } : Jvm.MethodName)) ∈ lw_all := lw_g (lw_at lw_m3 47 rfl) rfl
theorem q695 : (Jvm.Cond.selects "java/util/ArrayList" ({ cls := "java/lang/Object", name := "getClass", desc := "()Ljava/lang/Class;" } : Jvm.MethodName) ({ cls := "java/lang/Object", name := "getClass", desc := "()Ljava/lang/Class;" } : Jvm.MethodName)) ∈ lw_all := lw_g (lw_at lw_m3 91 rfl) rfl
theorem q702 : (Jvm.Cond.methodLink "java/util/ArrayList" (79 : Nat) ({ cls := "java/lang/Math", name := "max", desc := "(II)I" } : Jvm.MethodName)) ∈ lw_all := lw_g (lw_at lw_m3 98 rfl) rfl
theorem q708 : (Jvm.Cond.instanceMethod ({ cls := "java/util/ArrayList", name := "get", desc := "(I)Ljava/lang/Object;" } : Jvm.MethodName)) ∈ lw_all := lw_g (lw_at lw_m3 104 rfl) rfl
theorem q709 : (Jvm.Cond.selects "java/util/ArrayList" ({ cls := "java/util/ArrayList", name := "get", desc := "(I)Ljava/lang/Object;" } : Jvm.MethodName) ({ cls := "java/util/ArrayList", name := "get", desc := "(I)Ljava/lang/Object;" } : Jvm.MethodName)) ∈ lw_all := lw_g (lw_at lw_m3 105 rfl) rfl
theorem q710 : (Jvm.Cond.code ({ cls := "java/util/ArrayList", name := "get", desc := "(I)Ljava/lang/Object;" } : Jvm.MethodName) prog_67_method_20_code (2 : Nat) (Option.some (Jvm.ClassFile.FieldType.object "java/lang/Object"))) ∈ lw_all := lw_g (lw_at lw_m3 106 rfl) rfl
theorem q711 : (Jvm.Cond.methodLink "java/util/ArrayList" (118 : Nat) ({ cls := "java/util/Objects", name := "checkIndex", desc := "(II)I" } : Jvm.MethodName)) ∈ lw_all := lw_g (lw_at lw_m3 107 rfl) rfl
theorem q717 : (Jvm.Cond.methodLink "java/util/ArrayList" (123 : Nat) ({ cls := "java/util/ArrayList", name := "elementData", desc := "(I)Ljava/lang/Object;" } : Jvm.MethodName)) ∈ lw_all := lw_g (lw_at lw_m3 113 rfl) rfl
theorem q718 : (Jvm.Cond.instanceMethod ({ cls := "java/util/ArrayList", name := "elementData", desc := "(I)Ljava/lang/Object;" } : Jvm.MethodName)) ∈ lw_all := lw_g (lw_at lw_m3 114 rfl) rfl
theorem q719 : (Jvm.Cond.selects "java/util/ArrayList" ({ cls := "java/util/ArrayList", name := "elementData", desc := "(I)Ljava/lang/Object;" } : Jvm.MethodName) ({ cls := "java/util/ArrayList", name := "elementData", desc := "(I)Ljava/lang/Object;" } : Jvm.MethodName)) ∈ lw_all := lw_g (lw_at lw_m3 115 rfl) rfl
theorem q720 : (Jvm.Cond.code ({ cls := "java/util/ArrayList", name := "elementData", desc := "(I)Ljava/lang/Object;" } : Jvm.MethodName) prog_67_method_18_code (2 : Nat) (Option.some (Jvm.ClassFile.FieldType.object "java/lang/Object"))) ∈ lw_all := lw_g (lw_at lw_m3 116 rfl) rfl
theorem q948 : (Jvm.Cond.instanceMethod ({ cls := "java/util/ArrayList", name := "size", desc := "()I" } : Jvm.MethodName)) ∈ lw_all := lw_g (lw_at lw_m4 104 rfl) rfl
theorem q949 : (Jvm.Cond.selects "java/util/ArrayList" ({ cls := "java/util/ArrayList", name := "size", desc := "()I" } : Jvm.MethodName) ({ cls := "java/util/ArrayList", name := "size", desc := "()I" } : Jvm.MethodName)) ∈ lw_all := lw_g (lw_at lw_m4 105 rfl) rfl
theorem q950 : (Jvm.Cond.code ({ cls := "java/util/ArrayList", name := "size", desc := "()I" } : Jvm.MethodName) prog_67_method_8_code (1 : Nat) (Option.some Jvm.ClassFile.FieldType.int)) ∈ lw_all := lw_g (lw_at lw_m4 106 rfl) rfl
theorem q1597 : (Jvm.Cond.instanceMethod ({ cls := "java/util/ArrayList", name := "contains", desc := "(Ljava/lang/Object;)Z" } : Jvm.MethodName)) ∈ lw_all := lw_g (lw_at lw_m7 33 rfl) rfl
theorem q1598 : (Jvm.Cond.selects "java/util/ArrayList" ({ cls := "java/util/ArrayList", name := "contains", desc := "(Ljava/lang/Object;)Z" } : Jvm.MethodName) ({ cls := "java/util/ArrayList", name := "contains", desc := "(Ljava/lang/Object;)Z" } : Jvm.MethodName)) ∈ lw_all := lw_g (lw_at lw_m7 34 rfl) rfl
theorem q1599 : (Jvm.Cond.code ({ cls := "java/util/ArrayList", name := "contains", desc := "(Ljava/lang/Object;)Z" } : Jvm.MethodName) prog_67_method_10_code (2 : Nat) (Option.some Jvm.ClassFile.FieldType.boolean)) ∈ lw_all := lw_g (lw_at lw_m7 35 rfl) rfl
theorem q1600 : (Jvm.Cond.methodLink "java/util/ArrayList" (85 : Nat) ({ cls := "java/util/ArrayList", name := "indexOf", desc := "(Ljava/lang/Object;)I" } : Jvm.MethodName)) ∈ lw_all := lw_g (lw_at lw_m7 36 rfl) rfl
theorem q1601 : (Jvm.Cond.instanceMethod ({ cls := "java/util/ArrayList", name := "indexOf", desc := "(Ljava/lang/Object;)I" } : Jvm.MethodName)) ∈ lw_all := lw_g (lw_at lw_m7 37 rfl) rfl
theorem q1602 : (Jvm.Cond.selects "java/util/ArrayList" ({ cls := "java/util/ArrayList", name := "indexOf", desc := "(Ljava/lang/Object;)I" } : Jvm.MethodName) ({ cls := "java/util/ArrayList", name := "indexOf", desc := "(Ljava/lang/Object;)I" } : Jvm.MethodName)) ∈ lw_all := lw_g (lw_at lw_m7 38 rfl) rfl
theorem q1603 : (Jvm.Cond.code ({ cls := "java/util/ArrayList", name := "indexOf", desc := "(Ljava/lang/Object;)I" } : Jvm.MethodName) prog_67_method_11_code (2 : Nat) (Option.some Jvm.ClassFile.FieldType.int)) ∈ lw_all := lw_g (lw_at lw_m7 39 rfl) rfl
theorem q1604 : (Jvm.Cond.methodLink "java/util/ArrayList" (89 : Nat) ({ cls := "java/util/ArrayList", name := "indexOfRange", desc := "(Ljava/lang/Object;II)I" } : Jvm.MethodName)) ∈ lw_all := lw_g (lw_at lw_m7 40 rfl) rfl
theorem q1605 : (Jvm.Cond.instanceMethod ({ cls := "java/util/ArrayList", name := "indexOfRange", desc := "(Ljava/lang/Object;II)I" } : Jvm.MethodName)) ∈ lw_all := lw_g (lw_at lw_m7 41 rfl) rfl
theorem q1606 : (Jvm.Cond.selects "java/util/ArrayList" ({ cls := "java/util/ArrayList", name := "indexOfRange", desc := "(Ljava/lang/Object;II)I" } : Jvm.MethodName) ({ cls := "java/util/ArrayList", name := "indexOfRange", desc := "(Ljava/lang/Object;II)I" } : Jvm.MethodName)) ∈ lw_all := lw_g (lw_at lw_m7 42 rfl) rfl
theorem q1607 : (Jvm.Cond.code ({ cls := "java/util/ArrayList", name := "indexOfRange", desc := "(Ljava/lang/Object;II)I" } : Jvm.MethodName) prog_67_method_12_code (6 : Nat) (Option.some Jvm.ClassFile.FieldType.int)) ∈ lw_all := lw_g (lw_at lw_m7 43 rfl) rfl
theorem q1609 : (Jvm.Cond.methodLink "java/util/ArrayList" (93 : Nat) ({ cls := "java/lang/Object", name := "equals", desc := "(Ljava/lang/Object;)Z" } : Jvm.MethodName)) ∈ lw_all := lw_g (lw_at lw_m7 45 rfl) rfl
theorem q1672 : (Jvm.Cond.instanceMethod ({ cls := "java/util/ArrayList", name := "isEmpty", desc := "()Z" } : Jvm.MethodName)) ∈ lw_all := lw_g (lw_at lw_m7 108 rfl) rfl
theorem q1673 : (Jvm.Cond.selects "java/util/ArrayList" ({ cls := "java/util/ArrayList", name := "isEmpty", desc := "()Z" } : Jvm.MethodName) ({ cls := "java/util/ArrayList", name := "isEmpty", desc := "()Z" } : Jvm.MethodName)) ∈ lw_all := lw_g (lw_at lw_m7 109 rfl) rfl
theorem q1674 : (Jvm.Cond.code ({ cls := "java/util/ArrayList", name := "isEmpty", desc := "()Z" } : Jvm.MethodName) prog_67_method_9_code (1 : Nat) (Option.some Jvm.ClassFile.FieldType.boolean)) ∈ lw_all := lw_g (lw_at lw_m7 110 rfl) rfl
theorem q1676 : (Jvm.Cond.instanceMethod ({ cls := "java/util/ArrayList", name := "remove", desc := "(I)Ljava/lang/Object;" } : Jvm.MethodName)) ∈ lw_all := lw_g (lw_at lw_m7 112 rfl) rfl
theorem q1677 : (Jvm.Cond.selects "java/util/ArrayList" ({ cls := "java/util/ArrayList", name := "remove", desc := "(I)Ljava/lang/Object;" } : Jvm.MethodName) ({ cls := "java/util/ArrayList", name := "remove", desc := "(I)Ljava/lang/Object;" } : Jvm.MethodName)) ∈ lw_all := lw_g (lw_at lw_m7 113 rfl) rfl
theorem q1678 : (Jvm.Cond.code ({ cls := "java/util/ArrayList", name := "remove", desc := "(I)Ljava/lang/Object;" } : Jvm.MethodName) prog_67_method_29_code (4 : Nat) (Option.some (Jvm.ClassFile.FieldType.object "java/lang/Object"))) ∈ lw_all := lw_g (lw_at lw_m7 114 rfl) rfl
theorem q1679 : (Jvm.Cond.methodLink "java/util/ArrayList" (144 : Nat) ({ cls := "java/util/ArrayList", name := "fastRemove", desc := "([Ljava/lang/Object;I)V" } : Jvm.MethodName)) ∈ lw_all := lw_g (lw_at lw_m7 115 rfl) rfl
theorem q1680 : (Jvm.Cond.privateMethod ({ cls := "java/util/ArrayList", name := "fastRemove", desc := "([Ljava/lang/Object;I)V" } : Jvm.MethodName)) ∈ lw_tbl := lw_at lw_m7 116 rfl
theorem q1681 : (Jvm.Cond.instanceMethod ({ cls := "java/util/ArrayList", name := "fastRemove", desc := "([Ljava/lang/Object;I)V" } : Jvm.MethodName)) ∈ lw_all := lw_g (lw_at lw_m7 117 rfl) rfl
theorem q1682 : (Jvm.Cond.code ({ cls := "java/util/ArrayList", name := "fastRemove", desc := "([Ljava/lang/Object;I)V" } : Jvm.MethodName) prog_67_method_39_code (4 : Nat) (Option.none : Option Jvm.ClassFile.FieldType)) ∈ lw_all := lw_g (lw_at lw_m7 118 rfl) rfl
theorem q1683 : (Jvm.Cond.methodLink "java/util/ArrayList" (112 : Nat) ({ cls := "java/lang/System", name := "arraycopy", desc := "(Ljava/lang/Object;ILjava/lang/Object;II)V" } : Jvm.MethodName)) ∈ lw_all := lw_g (lw_at lw_m7 119 rfl) rfl
theorem q3241 : (Jvm.Cond.castable "java/util/ArrayList" "java/lang/Object") ∈ lw_tbl := lw_at lw_m13 237 rfl
theorem in_J2 : ∀ w ∈ wsJ20, w ∈ lw_all := lw_in wsJ20 [559, 555, 557] (by decide +kernel) (by decide +kernel)
/-! java/lang/IndexOutOfBoundsException -/
def RJ20 : String := "java/lang/IndexOutOfBoundsException"
def TJ20 : u_T := fun k => match k with
  | 0 => ("java/lang/Throwable", "cause", "Ljava/lang/Throwable;", false)
  | 1 => ("java/lang/Throwable", "stackTrace", "[Ljava/lang/StackTraceElement;", false)
  | 2 => ("java/lang/Throwable", "suppressedExceptions", "Ljava/util/List;", false)
  | 3 => ("java/lang/Throwable", "detailMessage", "Ljava/lang/String;", false)
  | 4 => ("java/lang/Throwable", "backtrace", "Ljava/lang/Object;", false)
  | _ => ("java/lang/Throwable", "depth", "I", false)
def tyJ20 : Nat → FieldType := fun k => match k with
  | 0 => .object "java/lang/Throwable"
  | 1 => .array (.object "java/lang/StackTraceElement")
  | 2 => .object "java/util/List"
  | 3 => .object "java/lang/String"
  | 4 => .object "java/lang/Object"
  | _ => .int
abbrev wsJ200 : List Cond := u_ws RJ20 TJ20 6
theorem nmJ20 : ∀ a, a < 6 → ∀ b, b < 6 → a ≠ b → (TJ20 a).2.1 ≠ (TJ20 b).2.1 := by decide +kernel
theorem tyJ20_ok : ∀ k, k < 6 → parseFieldDescriptor (TJ20 k).2.2.1 = some (tyJ20 k) := by decide +kernel
abbrev cJ20_init : ByteArray := prog_48_method_2_code
def yJ20_init : MethodName := ⟨RJ20, "<init>", "(Ljava/lang/String;)V"⟩
abbrev cJ20_init_2 : ByteArray := prog_48_method_1_code
def yJ20_init_2 : MethodName := ⟨RJ20, "<init>", "()V"⟩
theorem q155 : (Jvm.Cond.initialized "java/lang/IndexOutOfBoundsException") ∈ lw_all := lw_g (lw_at lw_m1 31 rfl) rfl
theorem q248 : (Jvm.Cond.selects "java/lang/IndexOutOfBoundsException" ({ cls := "java/lang/Throwable", name := "fillInStackTrace", desc := "()Ljava/lang/Throwable;" } : Jvm.MethodName) ({ cls := "java/lang/Throwable", name := "fillInStackTrace", desc := "()Ljava/lang/Throwable;" } : Jvm.MethodName)) ∈ lw_all := lw_g (lw_at lw_m1 124 rfl) rfl
theorem q689 : (Jvm.Cond.selects "java/lang/IndexOutOfBoundsException" ({ cls := "java/lang/Object", name := "getClass", desc := "()Ljava/lang/Class;" } : Jvm.MethodName) ({ cls := "java/lang/Object", name := "getClass", desc := "()Ljava/lang/Class;" } : Jvm.MethodName)) ∈ lw_all := lw_g (lw_at lw_m3 85 rfl) rfl
theorem q1220 : (Jvm.Cond.instanceMethod ({ cls := "java/lang/IndexOutOfBoundsException", name := "<init>", desc := "(Ljava/lang/String;)V" } : Jvm.MethodName)) ∈ lw_all := lw_g (lw_at lw_m5 136 rfl) rfl
theorem q1221 : (Jvm.Cond.code ({ cls := "java/lang/IndexOutOfBoundsException", name := "<init>", desc := "(Ljava/lang/String;)V" } : Jvm.MethodName) prog_48_method_2_code (2 : Nat) (Option.none : Option Jvm.ClassFile.FieldType)) ∈ lw_all := lw_g (lw_at lw_m5 137 rfl) rfl
theorem q1222 : (Jvm.Cond.methodLink "java/lang/IndexOutOfBoundsException" (7 : Nat) ({ cls := "java/lang/RuntimeException", name := "<init>", desc := "(Ljava/lang/String;)V" } : Jvm.MethodName)) ∈ lw_all := lw_g (lw_at lw_m5 138 rfl) rfl
theorem q1231 : (Jvm.Cond.declares ({ cls := "java/lang/IndexOutOfBoundsException", name := "<init>", desc := "()V" } : Jvm.MethodName)) ∈ lw_tbl := lw_at lw_m5 147 rfl
theorem q1232 : (Jvm.Cond.declares ({ cls := "java/lang/IndexOutOfBoundsException", name := "<init>", desc := "(Ljava/lang/String;)V" } : Jvm.MethodName)) ∈ lw_tbl := lw_at lw_m5 148 rfl
theorem q1247 : (Jvm.Cond.instantiable "java/lang/IndexOutOfBoundsException" (6 : Nat)) ∈ lw_all := lw_g (lw_at lw_m5 163 rfl) rfl
theorem q1248 : (Jvm.Cond.castable "java/lang/IndexOutOfBoundsException" "java/lang/IndexOutOfBoundsException") ∈ lw_tbl := lw_at lw_m5 164 rfl
theorem q1249 : (Jvm.Cond.selects "java/lang/IndexOutOfBoundsException" ({ cls := "java/lang/Throwable", name := "fillInStackTrace", desc := "(I)Ljava/lang/Throwable;" } : Jvm.MethodName) ({ cls := "java/lang/Throwable", name := "fillInStackTrace", desc := "(I)Ljava/lang/Throwable;" } : Jvm.MethodName)) ∈ lw_all := lw_g (lw_at lw_m5 165 rfl) rfl
theorem q1250 : (Jvm.Cond.lays "java/lang/IndexOutOfBoundsException" "java/lang/Throwable" "cause" "Ljava/lang/Throwable;") ∈ lw_all := lw_g (lw_at lw_m5 166 rfl) rfl
theorem q1251 : (Jvm.Cond.lays "java/lang/IndexOutOfBoundsException" "java/lang/Throwable" "stackTrace" "[Ljava/lang/StackTraceElement;") ∈ lw_all := lw_g (lw_at lw_m5 167 rfl) rfl
theorem q1252 : (Jvm.Cond.lays "java/lang/IndexOutOfBoundsException" "java/lang/Throwable" "suppressedExceptions" "Ljava/util/List;") ∈ lw_all := lw_g (lw_at lw_m5 168 rfl) rfl
theorem q1253 : (Jvm.Cond.lays "java/lang/IndexOutOfBoundsException" "java/lang/Throwable" "detailMessage" "Ljava/lang/String;") ∈ lw_all := lw_g (lw_at lw_m5 169 rfl) rfl
theorem q1254 : (Jvm.Cond.lays "java/lang/IndexOutOfBoundsException" "java/lang/Throwable" "backtrace" "Ljava/lang/Object;") ∈ lw_all := lw_g (lw_at lw_m5 170 rfl) rfl
theorem q1256 : (Jvm.Cond.instanceMethod ({ cls := "java/lang/IndexOutOfBoundsException", name := "<init>", desc := "()V" } : Jvm.MethodName)) ∈ lw_all := lw_g (lw_at lw_m5 172 rfl) rfl
theorem q1257 : (Jvm.Cond.code ({ cls := "java/lang/IndexOutOfBoundsException", name := "<init>", desc := "()V" } : Jvm.MethodName) prog_48_method_1_code (1 : Nat) (Option.none : Option Jvm.ClassFile.FieldType)) ∈ lw_all := lw_g (lw_at lw_m5 173 rfl) rfl
theorem q1258 : (Jvm.Cond.methodLink "java/lang/IndexOutOfBoundsException" (1 : Nat) ({ cls := "java/lang/RuntimeException", name := "<init>", desc := "()V" } : Jvm.MethodName)) ∈ lw_all := lw_g (lw_at lw_m5 174 rfl) rfl
theorem q1259 : (Jvm.Cond.lays "java/lang/IndexOutOfBoundsException" "java/lang/Throwable" "depth" "I") ∈ lw_all := lw_g (lw_at lw_m5 175 rfl) rfl
theorem q1260 : (Jvm.Cond.superclass "java/lang/IndexOutOfBoundsException" "java/lang/RuntimeException") ∈ lw_all := lw_g (lw_at lw_m5 176 rfl) rfl
theorem q1644 : (Jvm.Cond.selects "java/lang/IndexOutOfBoundsException" ({ cls := "java/lang/Object", name := "equals", desc := "(Ljava/lang/Object;)Z" } : Jvm.MethodName) ({ cls := "java/lang/Object", name := "equals", desc := "(Ljava/lang/Object;)Z" } : Jvm.MethodName)) ∈ lw_all := lw_g (lw_at lw_m7 80 rfl) rfl
theorem q3253 : (Jvm.Cond.castable "java/lang/IndexOutOfBoundsException" "java/lang/Object") ∈ lw_tbl := lw_at lw_m14 9 rfl
theorem in_J20 : ∀ w ∈ wsJ200, w ∈ lw_all := lw_in wsJ200 [1250, 1251, 1252, 1253, 1254, 1259] (by decide +kernel) (by decide +kernel)
/-! java/lang/ArrayIndexOutOfBoundsException -/
def RJ21 : String := "java/lang/ArrayIndexOutOfBoundsException"
def TJ21 : u_T := fun k => match k with
  | 0 => ("java/lang/Throwable", "backtrace", "Ljava/lang/Object;", false)
  | 1 => ("java/lang/Throwable", "detailMessage", "Ljava/lang/String;", false)
  | 2 => ("java/lang/Throwable", "cause", "Ljava/lang/Throwable;", false)
  | 3 => ("java/lang/Throwable", "stackTrace", "[Ljava/lang/StackTraceElement;", false)
  | 4 => ("java/lang/Throwable", "depth", "I", false)
  | _ => ("java/lang/Throwable", "suppressedExceptions", "Ljava/util/List;", false)
def tyJ21 : Nat → FieldType := fun k => match k with
  | 0 => .object "java/lang/Object"
  | 1 => .object "java/lang/String"
  | 2 => .object "java/lang/Throwable"
  | 3 => .array (.object "java/lang/StackTraceElement")
  | 4 => .int
  | _ => .object "java/util/List"
abbrev wsJ210 : List Cond := u_ws RJ21 TJ21 6
theorem nmJ21 : ∀ a, a < 6 → ∀ b, b < 6 → a ≠ b → (TJ21 a).2.1 ≠ (TJ21 b).2.1 := by decide +kernel
theorem tyJ21_ok : ∀ k, k < 6 → parseFieldDescriptor (TJ21 k).2.2.1 = some (tyJ21 k) := by decide +kernel
abbrev cJ21_init : ByteArray := prog_40_method_2_code
def yJ21_init : MethodName := ⟨RJ21, "<init>", "(Ljava/lang/String;)V"⟩
theorem q156 : (Jvm.Cond.initialized "java/lang/ArrayIndexOutOfBoundsException") ∈ lw_all := lw_g (lw_at lw_m1 32 rfl) rfl
theorem q245 : (Jvm.Cond.selects "java/lang/ArrayIndexOutOfBoundsException" ({ cls := "java/lang/Throwable", name := "fillInStackTrace", desc := "()Ljava/lang/Throwable;" } : Jvm.MethodName) ({ cls := "java/lang/Throwable", name := "fillInStackTrace", desc := "()Ljava/lang/Throwable;" } : Jvm.MethodName)) ∈ lw_all := lw_g (lw_at lw_m1 121 rfl) rfl
theorem q685 : (Jvm.Cond.selects "java/lang/ArrayIndexOutOfBoundsException" ({ cls := "java/lang/Object", name := "getClass", desc := "()Ljava/lang/Class;" } : Jvm.MethodName) ({ cls := "java/lang/Object", name := "getClass", desc := "()Ljava/lang/Class;" } : Jvm.MethodName)) ∈ lw_all := lw_g (lw_at lw_m3 81 rfl) rfl
theorem q1216 : (Jvm.Cond.instantiable "java/lang/ArrayIndexOutOfBoundsException" (6 : Nat)) ∈ lw_all := lw_g (lw_at lw_m5 132 rfl) rfl
theorem q1217 : (Jvm.Cond.instanceMethod ({ cls := "java/lang/ArrayIndexOutOfBoundsException", name := "<init>", desc := "(Ljava/lang/String;)V" } : Jvm.MethodName)) ∈ lw_all := lw_g (lw_at lw_m5 133 rfl) rfl
theorem q1218 : (Jvm.Cond.code ({ cls := "java/lang/ArrayIndexOutOfBoundsException", name := "<init>", desc := "(Ljava/lang/String;)V" } : Jvm.MethodName) prog_40_method_2_code (2 : Nat) (Option.none : Option Jvm.ClassFile.FieldType)) ∈ lw_all := lw_g (lw_at lw_m5 134 rfl) rfl
theorem q1219 : (Jvm.Cond.methodLink "java/lang/ArrayIndexOutOfBoundsException" (7 : Nat) ({ cls := "java/lang/IndexOutOfBoundsException", name := "<init>", desc := "(Ljava/lang/String;)V" } : Jvm.MethodName)) ∈ lw_all := lw_g (lw_at lw_m5 135 rfl) rfl
theorem q1223 : (Jvm.Cond.lays "java/lang/ArrayIndexOutOfBoundsException" "java/lang/Throwable" "backtrace" "Ljava/lang/Object;") ∈ lw_all := lw_g (lw_at lw_m5 139 rfl) rfl
theorem q1224 : (Jvm.Cond.lays "java/lang/ArrayIndexOutOfBoundsException" "java/lang/Throwable" "detailMessage" "Ljava/lang/String;") ∈ lw_all := lw_g (lw_at lw_m5 140 rfl) rfl
theorem q1225 : (Jvm.Cond.lays "java/lang/ArrayIndexOutOfBoundsException" "java/lang/Throwable" "cause" "Ljava/lang/Throwable;") ∈ lw_all := lw_g (lw_at lw_m5 141 rfl) rfl
theorem q1226 : (Jvm.Cond.lays "java/lang/ArrayIndexOutOfBoundsException" "java/lang/Throwable" "stackTrace" "[Ljava/lang/StackTraceElement;") ∈ lw_all := lw_g (lw_at lw_m5 142 rfl) rfl
theorem q1227 : (Jvm.Cond.lays "java/lang/ArrayIndexOutOfBoundsException" "java/lang/Throwable" "depth" "I") ∈ lw_all := lw_g (lw_at lw_m5 143 rfl) rfl
theorem q1228 : (Jvm.Cond.lays "java/lang/ArrayIndexOutOfBoundsException" "java/lang/Throwable" "suppressedExceptions" "Ljava/util/List;") ∈ lw_all := lw_g (lw_at lw_m5 144 rfl) rfl
theorem q1229 : (Jvm.Cond.superclass "java/lang/ArrayIndexOutOfBoundsException" "java/lang/IndexOutOfBoundsException") ∈ lw_all := lw_g (lw_at lw_m5 145 rfl) rfl
theorem q1230 : (Jvm.Cond.castable "java/lang/ArrayIndexOutOfBoundsException" "java/lang/ArrayIndexOutOfBoundsException") ∈ lw_tbl := lw_at lw_m5 146 rfl
theorem q1233 : (Jvm.Cond.selects "java/lang/ArrayIndexOutOfBoundsException" ({ cls := "java/lang/Throwable", name := "fillInStackTrace", desc := "(I)Ljava/lang/Throwable;" } : Jvm.MethodName) ({ cls := "java/lang/Throwable", name := "fillInStackTrace", desc := "(I)Ljava/lang/Throwable;" } : Jvm.MethodName)) ∈ lw_all := lw_g (lw_at lw_m5 149 rfl) rfl
theorem q1640 : (Jvm.Cond.selects "java/lang/ArrayIndexOutOfBoundsException" ({ cls := "java/lang/Object", name := "equals", desc := "(Ljava/lang/Object;)Z" } : Jvm.MethodName) ({ cls := "java/lang/Object", name := "equals", desc := "(Ljava/lang/Object;)Z" } : Jvm.MethodName)) ∈ lw_all := lw_g (lw_at lw_m7 76 rfl) rfl
theorem q3224 : (Jvm.Cond.castable "java/lang/ArrayIndexOutOfBoundsException" "java/lang/IndexOutOfBoundsException") ∈ lw_tbl := lw_at lw_m13 220 rfl
theorem q3252 : (Jvm.Cond.castable "java/lang/ArrayIndexOutOfBoundsException" "java/lang/Object") ∈ lw_tbl := lw_at lw_m14 8 rfl
theorem in_J21 : ∀ w ∈ wsJ210, w ∈ lw_all := lw_in wsJ210 [1223, 1224, 1225, 1226, 1227, 1228] (by decide +kernel) (by decide +kernel)
/-! java/lang/ClassCastException -/
def RJ22 : String := "java/lang/ClassCastException"
def TJ22 : u_T := fun k => match k with
  | 0 => ("java/lang/Throwable", "backtrace", "Ljava/lang/Object;", false)
  | 1 => ("java/lang/Throwable", "detailMessage", "Ljava/lang/String;", false)
  | 2 => ("java/lang/Throwable", "cause", "Ljava/lang/Throwable;", false)
  | 3 => ("java/lang/Throwable", "stackTrace", "[Ljava/lang/StackTraceElement;", false)
  | 4 => ("java/lang/Throwable", "depth", "I", false)
  | _ => ("java/lang/Throwable", "suppressedExceptions", "Ljava/util/List;", false)
def tyJ22 : Nat → FieldType := fun k => match k with
  | 0 => .object "java/lang/Object"
  | 1 => .object "java/lang/String"
  | 2 => .object "java/lang/Throwable"
  | 3 => .array (.object "java/lang/StackTraceElement")
  | 4 => .int
  | _ => .object "java/util/List"
abbrev wsJ220 : List Cond := u_ws RJ22 TJ22 6
theorem nmJ22 : ∀ a, a < 6 → ∀ b, b < 6 → a ≠ b → (TJ22 a).2.1 ≠ (TJ22 b).2.1 := by decide +kernel
theorem tyJ22_ok : ∀ k, k < 6 → parseFieldDescriptor (TJ22 k).2.2.1 = some (tyJ22 k) := by decide +kernel
abbrev cJ22_init : ByteArray := prog_42_method_2_code
def yJ22_init : MethodName := ⟨RJ22, "<init>", "(Ljava/lang/String;)V"⟩
theorem q157 : (Jvm.Cond.initialized "java/lang/ClassCastException") ∈ lw_all := lw_g (lw_at lw_m1 33 rfl) rfl
theorem q246 : (Jvm.Cond.selects "java/lang/ClassCastException" ({ cls := "java/lang/Throwable", name := "fillInStackTrace", desc := "()Ljava/lang/Throwable;" } : Jvm.MethodName) ({ cls := "java/lang/Throwable", name := "fillInStackTrace", desc := "()Ljava/lang/Throwable;" } : Jvm.MethodName)) ∈ lw_all := lw_g (lw_at lw_m1 122 rfl) rfl
theorem q686 : (Jvm.Cond.selects "java/lang/ClassCastException" ({ cls := "java/lang/Object", name := "getClass", desc := "()Ljava/lang/Class;" } : Jvm.MethodName) ({ cls := "java/lang/Object", name := "getClass", desc := "()Ljava/lang/Class;" } : Jvm.MethodName)) ∈ lw_all := lw_g (lw_at lw_m3 82 rfl) rfl
theorem q1370 : (Jvm.Cond.instantiable "java/lang/ClassCastException" (6 : Nat)) ∈ lw_all := lw_g (lw_at lw_m6 46 rfl) rfl
theorem q1371 : (Jvm.Cond.instanceMethod ({ cls := "java/lang/ClassCastException", name := "<init>", desc := "(Ljava/lang/String;)V" } : Jvm.MethodName)) ∈ lw_all := lw_g (lw_at lw_m6 47 rfl) rfl
theorem q1372 : (Jvm.Cond.code ({ cls := "java/lang/ClassCastException", name := "<init>", desc := "(Ljava/lang/String;)V" } : Jvm.MethodName) prog_42_method_2_code (2 : Nat) (Option.none : Option Jvm.ClassFile.FieldType)) ∈ lw_all := lw_g (lw_at lw_m6 48 rfl) rfl
theorem q1373 : (Jvm.Cond.methodLink "java/lang/ClassCastException" (7 : Nat) ({ cls := "java/lang/RuntimeException", name := "<init>", desc := "(Ljava/lang/String;)V" } : Jvm.MethodName)) ∈ lw_all := lw_g (lw_at lw_m6 49 rfl) rfl
theorem q1374 : (Jvm.Cond.lays "java/lang/ClassCastException" "java/lang/Throwable" "backtrace" "Ljava/lang/Object;") ∈ lw_all := lw_g (lw_at lw_m6 50 rfl) rfl
theorem q1375 : (Jvm.Cond.lays "java/lang/ClassCastException" "java/lang/Throwable" "detailMessage" "Ljava/lang/String;") ∈ lw_all := lw_g (lw_at lw_m6 51 rfl) rfl
theorem q1376 : (Jvm.Cond.lays "java/lang/ClassCastException" "java/lang/Throwable" "cause" "Ljava/lang/Throwable;") ∈ lw_all := lw_g (lw_at lw_m6 52 rfl) rfl
theorem q1377 : (Jvm.Cond.lays "java/lang/ClassCastException" "java/lang/Throwable" "stackTrace" "[Ljava/lang/StackTraceElement;") ∈ lw_all := lw_g (lw_at lw_m6 53 rfl) rfl
theorem q1378 : (Jvm.Cond.lays "java/lang/ClassCastException" "java/lang/Throwable" "depth" "I") ∈ lw_all := lw_g (lw_at lw_m6 54 rfl) rfl
theorem q1379 : (Jvm.Cond.lays "java/lang/ClassCastException" "java/lang/Throwable" "suppressedExceptions" "Ljava/util/List;") ∈ lw_all := lw_g (lw_at lw_m6 55 rfl) rfl
theorem q1380 : (Jvm.Cond.superclass "java/lang/ClassCastException" "java/lang/RuntimeException") ∈ lw_all := lw_g (lw_at lw_m6 56 rfl) rfl
theorem q1381 : (Jvm.Cond.castable "java/lang/ClassCastException" "java/lang/ClassCastException") ∈ lw_tbl := lw_at lw_m6 57 rfl
theorem q1382 : (Jvm.Cond.selects "java/lang/ClassCastException" ({ cls := "java/lang/Throwable", name := "fillInStackTrace", desc := "(I)Ljava/lang/Throwable;" } : Jvm.MethodName) ({ cls := "java/lang/Throwable", name := "fillInStackTrace", desc := "(I)Ljava/lang/Throwable;" } : Jvm.MethodName)) ∈ lw_all := lw_g (lw_at lw_m6 58 rfl) rfl
theorem q1641 : (Jvm.Cond.selects "java/lang/ClassCastException" ({ cls := "java/lang/Object", name := "equals", desc := "(Ljava/lang/Object;)Z" } : Jvm.MethodName) ({ cls := "java/lang/Object", name := "equals", desc := "(Ljava/lang/Object;)Z" } : Jvm.MethodName)) ∈ lw_all := lw_g (lw_at lw_m7 77 rfl) rfl
theorem q3254 : (Jvm.Cond.castable "java/lang/ClassCastException" "java/lang/Object") ∈ lw_tbl := lw_at lw_m14 10 rfl
theorem in_J22 : ∀ w ∈ wsJ220, w ∈ lw_all := lw_in wsJ220 [1374, 1375, 1376, 1377, 1378, 1379] (by decide +kernel) (by decide +kernel)
/-! java/lang/IllegalStateException -/
def RJ23 : String := "java/lang/IllegalStateException"
def TJ23 : u_T := fun k => match k with
  | 0 => ("java/lang/Throwable", "cause", "Ljava/lang/Throwable;", false)
  | 1 => ("java/lang/Throwable", "stackTrace", "[Ljava/lang/StackTraceElement;", false)
  | 2 => ("java/lang/Throwable", "suppressedExceptions", "Ljava/util/List;", false)
  | 3 => ("java/lang/Throwable", "detailMessage", "Ljava/lang/String;", false)
  | 4 => ("java/lang/Throwable", "backtrace", "Ljava/lang/Object;", false)
  | _ => ("java/lang/Throwable", "depth", "I", false)
def tyJ23 : Nat → FieldType := fun k => match k with
  | 0 => .object "java/lang/Throwable"
  | 1 => .array (.object "java/lang/StackTraceElement")
  | 2 => .object "java/util/List"
  | 3 => .object "java/lang/String"
  | 4 => .object "java/lang/Object"
  | _ => .int
abbrev wsJ230 : List Cond := u_ws RJ23 TJ23 6
theorem nmJ23 : ∀ a, a < 6 → ∀ b, b < 6 → a ≠ b → (TJ23 a).2.1 ≠ (TJ23 b).2.1 := by decide +kernel
theorem tyJ23_ok : ∀ k, k < 6 → parseFieldDescriptor (TJ23 k).2.2.1 = some (tyJ23 k) := by decide +kernel
abbrev cJ23_init : ByteArray := prog_47_method_1_code
def yJ23_init : MethodName := ⟨RJ23, "<init>", "()V"⟩
theorem q180 : (Jvm.Cond.initialized "java/lang/IllegalStateException") ∈ lw_all := lw_g (lw_at lw_m1 56 rfl) rfl
theorem q247 : (Jvm.Cond.selects "java/lang/IllegalStateException" ({ cls := "java/lang/Throwable", name := "fillInStackTrace", desc := "()Ljava/lang/Throwable;" } : Jvm.MethodName) ({ cls := "java/lang/Throwable", name := "fillInStackTrace", desc := "()Ljava/lang/Throwable;" } : Jvm.MethodName)) ∈ lw_all := lw_g (lw_at lw_m1 123 rfl) rfl
theorem q688 : (Jvm.Cond.selects "java/lang/IllegalStateException" ({ cls := "java/lang/Object", name := "getClass", desc := "()Ljava/lang/Class;" } : Jvm.MethodName) ({ cls := "java/lang/Object", name := "getClass", desc := "()Ljava/lang/Class;" } : Jvm.MethodName)) ∈ lw_all := lw_g (lw_at lw_m3 84 rfl) rfl
theorem q1643 : (Jvm.Cond.selects "java/lang/IllegalStateException" ({ cls := "java/lang/Object", name := "equals", desc := "(Ljava/lang/Object;)Z" } : Jvm.MethodName) ({ cls := "java/lang/Object", name := "equals", desc := "(Ljava/lang/Object;)Z" } : Jvm.MethodName)) ∈ lw_all := lw_g (lw_at lw_m7 79 rfl) rfl
theorem q2335 : (Jvm.Cond.instantiable "java/lang/IllegalStateException" (6 : Nat)) ∈ lw_all := lw_g (lw_at lw_m10 51 rfl) rfl
theorem q2336 : (Jvm.Cond.castable "java/lang/IllegalStateException" "java/lang/IllegalStateException") ∈ lw_tbl := lw_at lw_m10 52 rfl
theorem q2337 : (Jvm.Cond.selects "java/lang/IllegalStateException" ({ cls := "java/lang/Throwable", name := "fillInStackTrace", desc := "(I)Ljava/lang/Throwable;" } : Jvm.MethodName) ({ cls := "java/lang/Throwable", name := "fillInStackTrace", desc := "(I)Ljava/lang/Throwable;" } : Jvm.MethodName)) ∈ lw_all := lw_g (lw_at lw_m10 53 rfl) rfl
theorem q2338 : (Jvm.Cond.lays "java/lang/IllegalStateException" "java/lang/Throwable" "cause" "Ljava/lang/Throwable;") ∈ lw_all := lw_g (lw_at lw_m10 54 rfl) rfl
theorem q2339 : (Jvm.Cond.lays "java/lang/IllegalStateException" "java/lang/Throwable" "stackTrace" "[Ljava/lang/StackTraceElement;") ∈ lw_all := lw_g (lw_at lw_m10 55 rfl) rfl
theorem q2340 : (Jvm.Cond.lays "java/lang/IllegalStateException" "java/lang/Throwable" "suppressedExceptions" "Ljava/util/List;") ∈ lw_all := lw_g (lw_at lw_m10 56 rfl) rfl
theorem q2341 : (Jvm.Cond.lays "java/lang/IllegalStateException" "java/lang/Throwable" "detailMessage" "Ljava/lang/String;") ∈ lw_all := lw_g (lw_at lw_m10 57 rfl) rfl
theorem q2342 : (Jvm.Cond.lays "java/lang/IllegalStateException" "java/lang/Throwable" "backtrace" "Ljava/lang/Object;") ∈ lw_all := lw_g (lw_at lw_m10 58 rfl) rfl
theorem q2344 : (Jvm.Cond.instanceMethod ({ cls := "java/lang/IllegalStateException", name := "<init>", desc := "()V" } : Jvm.MethodName)) ∈ lw_all := lw_g (lw_at lw_m10 60 rfl) rfl
theorem q2345 : (Jvm.Cond.code ({ cls := "java/lang/IllegalStateException", name := "<init>", desc := "()V" } : Jvm.MethodName) prog_47_method_1_code (1 : Nat) (Option.none : Option Jvm.ClassFile.FieldType)) ∈ lw_all := lw_g (lw_at lw_m10 61 rfl) rfl
theorem q2346 : (Jvm.Cond.methodLink "java/lang/IllegalStateException" (1 : Nat) ({ cls := "java/lang/RuntimeException", name := "<init>", desc := "()V" } : Jvm.MethodName)) ∈ lw_all := lw_g (lw_at lw_m10 62 rfl) rfl
theorem q2347 : (Jvm.Cond.lays "java/lang/IllegalStateException" "java/lang/Throwable" "depth" "I") ∈ lw_all := lw_g (lw_at lw_m10 63 rfl) rfl
theorem q2348 : (Jvm.Cond.superclass "java/lang/IllegalStateException" "java/lang/RuntimeException") ∈ lw_all := lw_g (lw_at lw_m10 64 rfl) rfl
theorem q3276 : (Jvm.Cond.castable "java/lang/IllegalStateException" "java/lang/Object") ∈ lw_tbl := lw_at lw_m14 32 rfl
theorem in_J23 : ∀ w ∈ wsJ230, w ∈ lw_all := lw_in wsJ230 [2338, 2339, 2340, 2341, 2342, 2347] (by decide +kernel) (by decide +kernel)
/-! java/lang/Object -/
def RJ24 : String := "java/lang/Object"
abbrev cJ24_init : ByteArray := object_method_1_code
def yJ24_init : MethodName := ⟨RJ24, "<init>", "()V"⟩
abbrev cJ24_equals : ByteArray := object_method_4_code
def yJ24_equals : MethodName := ⟨RJ24, "equals", "(Ljava/lang/Object;)Z"⟩
theorem q187 : (Jvm.Cond.instanceMethod ({ cls := "java/lang/Object", name := "<init>", desc := "()V" } : Jvm.MethodName)) ∈ lw_all := lw_g (lw_at lw_m1 63 rfl) rfl
theorem q188 : (Jvm.Cond.code ({ cls := "java/lang/Object", name := "<init>", desc := "()V" } : Jvm.MethodName) object_method_1_code (1 : Nat) (Option.none : Option Jvm.ClassFile.FieldType)) ∈ lw_all := lw_g (lw_at lw_m1 64 rfl) rfl
theorem q356 : (Jvm.Cond.native ({ cls := "java/lang/Object", name := "clone", desc := "()Ljava/lang/Object;" } : Jvm.MethodName)) ∈ lw_all := lw_g (lw_at lw_m1 232 rfl) rfl
theorem q357 : (Jvm.Cond.instanceMethod ({ cls := "java/lang/Object", name := "clone", desc := "()Ljava/lang/Object;" } : Jvm.MethodName)) ∈ lw_all := lw_g (lw_at lw_m1 233 rfl) rfl
theorem q655 : (Jvm.Cond.instanceMethod ({ cls := "java/lang/Object", name := "getClass", desc := "()Ljava/lang/Class;" } : Jvm.MethodName)) ∈ lw_all := lw_g (lw_at lw_m3 51 rfl) rfl
theorem q656 : (Jvm.Cond.sameMethod "java/lang/Object" "java/lang/Object" "getClass" "()Ljava/lang/Class;") ∈ lw_all := lw_g (lw_at lw_m3 52 rfl) rfl
theorem q696 : (Jvm.Cond.native ({ cls := "java/lang/Object", name := "getClass", desc := "()Ljava/lang/Class;" } : Jvm.MethodName)) ∈ lw_all := lw_g (lw_at lw_m3 92 rfl) rfl
theorem q1608 : (Jvm.Cond.declares ({ cls := "java/lang/Object", name := "equals", desc := "(Ljava/lang/Object;)Z" } : Jvm.MethodName)) ∈ lw_tbl := lw_at lw_m7 44 rfl
theorem q1610 : (Jvm.Cond.instanceMethod ({ cls := "java/lang/Object", name := "equals", desc := "(Ljava/lang/Object;)Z" } : Jvm.MethodName)) ∈ lw_all := lw_g (lw_at lw_m7 46 rfl) rfl
theorem q1611 : (Jvm.Cond.sameMethod "java/lang/Object" "java/lang/Object" "equals" "(Ljava/lang/Object;)Z") ∈ lw_all := lw_g (lw_at lw_m7 47 rfl) rfl
theorem q1663 : (Jvm.Cond.code ({ cls := "java/lang/Object", name := "equals", desc := "(Ljava/lang/Object;)Z" } : Jvm.MethodName) object_method_4_code (2 : Nat) (Option.some Jvm.ClassFile.FieldType.boolean)) ∈ lw_all := lw_g (lw_at lw_m7 99 rfl) rfl
theorem q3219 : (Jvm.Cond.initialized "java/lang/Object") ∈ lw_all := lw_g (lw_at lw_m13 215 rfl) rfl
theorem q3285 : (Jvm.Cond.declares ({ cls := "java/lang/Object", name := "getClass", desc := "()Ljava/lang/Class;" } : Jvm.MethodName)) ∈ lw_tbl := lw_at lw_m14 41 rfl
/-! java/lang/System$2 -/
def RJ25 : String := "java/lang/System$2"
abbrev cJ25_getUTF16Char : ByteArray := prog_61_method_45_code
def yJ25_getUTF16Char : MethodName := ⟨RJ25, "getUTF16Char", "([BI)C"⟩
theorem q694 : (Jvm.Cond.selects "java/lang/System$2" ({ cls := "java/lang/Object", name := "getClass", desc := "()Ljava/lang/Class;" } : Jvm.MethodName) ({ cls := "java/lang/Object", name := "getClass", desc := "()Ljava/lang/Class;" } : Jvm.MethodName)) ∈ lw_all := lw_g (lw_at lw_m3 90 rfl) rfl
theorem q1662 : (Jvm.Cond.selects "java/lang/System$2" ({ cls := "java/lang/Object", name := "equals", desc := "(Ljava/lang/Object;)Z" } : Jvm.MethodName) ({ cls := "java/lang/Object", name := "equals", desc := "(Ljava/lang/Object;)Z" } : Jvm.MethodName)) ∈ lw_all := lw_g (lw_at lw_m7 98 rfl) rfl
theorem q1958 : (Jvm.Cond.castable "java/lang/System$2" "jdk/internal/access/JavaLangAccess") ∈ lw_tbl := lw_at lw_m8 154 rfl
theorem q1959 : (Jvm.Cond.selects "java/lang/System$2" ({ cls := "jdk/internal/access/JavaLangAccess", name := "getUTF16Char", desc := "([BI)C" } : Jvm.MethodName) ({ cls := "java/lang/System$2", name := "getUTF16Char", desc := "([BI)C" } : Jvm.MethodName)) ∈ lw_all := lw_g (lw_at lw_m8 155 rfl) rfl
theorem q1960 : (Jvm.Cond.unhidden "java/lang/System$2" "getUTF16Char" "([BI)C") ∈ lw_tbl := lw_at lw_m8 156 rfl
theorem q1961 : (Jvm.Cond.instanceMethod ({ cls := "java/lang/System$2", name := "getUTF16Char", desc := "([BI)C" } : Jvm.MethodName)) ∈ lw_all := lw_g (lw_at lw_m8 157 rfl) rfl
theorem q1962 : (Jvm.Cond.publicMethod ({ cls := "java/lang/System$2", name := "getUTF16Char", desc := "([BI)C" } : Jvm.MethodName)) ∈ lw_tbl := lw_at lw_m8 158 rfl
theorem q1963 : (Jvm.Cond.code ({ cls := "java/lang/System$2", name := "getUTF16Char", desc := "([BI)C" } : Jvm.MethodName) prog_61_method_45_code (3 : Nat) (Option.some Jvm.ClassFile.FieldType.char)) ∈ lw_all := lw_g (lw_at lw_m8 159 rfl) rfl
theorem q1964 : (Jvm.Cond.methodLink "java/lang/System$2" (185 : Nat) ({ cls := "java/lang/StringUTF16", name := "getChar", desc := "([BI)C" } : Jvm.MethodName)) ∈ lw_all := lw_g (lw_at lw_m8 160 rfl) rfl
theorem q3265 : (Jvm.Cond.castable "java/lang/System$2" "java/lang/Object") ∈ lw_tbl := lw_at lw_m14 21 rfl
/-! java/lang/Throwable -/
def RJ3 : String := "java/lang/Throwable"
def TJ3 : u_T := fun k => match k with
  | 0 => ("java/lang/Throwable", "cause", "Ljava/lang/Throwable;", false)
  | 1 => ("java/lang/Throwable", "stackTrace", "[Ljava/lang/StackTraceElement;", false)
  | 2 => ("java/lang/Throwable", "suppressedExceptions", "Ljava/util/List;", false)
  | 3 => ("java/lang/Throwable", "detailMessage", "Ljava/lang/String;", false)
  | _ => ("java/lang/Throwable", "backtrace", "Ljava/lang/Object;", false)
def tyJ3 : Nat → FieldType := fun k => match k with
  | 0 => .object "java/lang/Throwable"
  | 1 => .array (.object "java/lang/StackTraceElement")
  | 2 => .object "java/util/List"
  | 3 => .object "java/lang/String"
  | _ => .object "java/lang/Object"
abbrev wsJ30 : List Cond := u_ws RJ3 TJ3 5
theorem nmJ3 : ∀ a, a < 5 → ∀ b, b < 5 → a ≠ b → (TJ3 a).2.1 ≠ (TJ3 b).2.1 := by decide +kernel
theorem tyJ3_ok : ∀ k, k < 5 → parseFieldDescriptor (TJ3 k).2.2.1 = some (tyJ3 k) := by decide +kernel
abbrev cJ3_init : ByteArray := prog_62_method_1_code
def yJ3_init : MethodName := ⟨RJ3, "<init>", "()V"⟩
abbrev cJ3_init_2 : ByteArray := prog_62_method_2_code
def yJ3_init_2 : MethodName := ⟨RJ3, "<init>", "(Ljava/lang/String;)V"⟩
abbrev cJ3_init_3 : ByteArray := prog_62_method_5_code
def yJ3_init_3 : MethodName := ⟨RJ3, "<init>", "(Ljava/lang/String;Ljava/lang/Throwable;ZZ)V"⟩
theorem q130 : (Jvm.Cond.initialized "java/lang/Throwable") ∈ lw_all := lw_g (lw_at lw_m1 6 rfl) rfl
theorem q218 : (Jvm.Cond.declares ({ cls := "java/lang/Throwable", name := "<init>", desc := "()V" } : Jvm.MethodName)) ∈ lw_tbl := lw_at lw_m1 94 rfl
theorem q219 : (Jvm.Cond.declares ({ cls := "java/lang/Throwable", name := "<init>", desc := "(Ljava/lang/String;)V" } : Jvm.MethodName)) ∈ lw_tbl := lw_at lw_m1 95 rfl
theorem q223 : (Jvm.Cond.lays "java/lang/Throwable" "java/lang/Throwable" "cause" "Ljava/lang/Throwable;") ∈ lw_all := lw_g (lw_at lw_m1 99 rfl) rfl
theorem q225 : (Jvm.Cond.lays "java/lang/Throwable" "java/lang/Throwable" "stackTrace" "[Ljava/lang/StackTraceElement;") ∈ lw_all := lw_g (lw_at lw_m1 101 rfl) rfl
theorem q227 : (Jvm.Cond.lays "java/lang/Throwable" "java/lang/Throwable" "suppressedExceptions" "Ljava/util/List;") ∈ lw_all := lw_g (lw_at lw_m1 103 rfl) rfl
theorem q229 : (Jvm.Cond.lays "java/lang/Throwable" "java/lang/Throwable" "detailMessage" "Ljava/lang/String;") ∈ lw_all := lw_g (lw_at lw_m1 105 rfl) rfl
theorem q231 : (Jvm.Cond.lays "java/lang/Throwable" "java/lang/Throwable" "backtrace" "Ljava/lang/Object;") ∈ lw_all := lw_g (lw_at lw_m1 107 rfl) rfl
theorem q232 : (Jvm.Cond.fieldLink "java/lang/Throwable" (198 : Nat) "java/lang/Throwable" "backtrace" "Ljava/lang/Object;") ∈ lw_all := lw_g (lw_at lw_m1 108 rfl) rfl
theorem q233 : (Jvm.Cond.superclass "java/lang/Throwable" "java/lang/Object") ∈ lw_all := lw_g (lw_at lw_m1 109 rfl) rfl
theorem q234 : (Jvm.Cond.instanceMethod ({ cls := "java/lang/Throwable", name := "<init>", desc := "()V" } : Jvm.MethodName)) ∈ lw_all := lw_g (lw_at lw_m1 110 rfl) rfl
theorem q235 : (Jvm.Cond.code ({ cls := "java/lang/Throwable", name := "<init>", desc := "()V" } : Jvm.MethodName) prog_62_method_1_code (1 : Nat) (Option.none : Option Jvm.ClassFile.FieldType)) ∈ lw_all := lw_g (lw_at lw_m1 111 rfl) rfl
theorem q236 : (Jvm.Cond.methodLink "java/lang/Throwable" (1 : Nat) ({ cls := "java/lang/Object", name := "<init>", desc := "()V" } : Jvm.MethodName)) ∈ lw_all := lw_g (lw_at lw_m1 112 rfl) rfl
theorem q237 : (Jvm.Cond.fieldLink "java/lang/Throwable" (13 : Nat) "java/lang/Throwable" "UNASSIGNED_STACK" "[Ljava/lang/StackTraceElement;") ∈ lw_all := lw_g (lw_at lw_m1 113 rfl) rfl
theorem q238 : (Jvm.Cond.laysStatic "java/lang/Throwable" "UNASSIGNED_STACK" "[Ljava/lang/StackTraceElement;") ∈ lw_tbl := lw_at lw_m1 114 rfl
theorem q239 : (Jvm.Cond.fieldLink "java/lang/Throwable" (20 : Nat) "java/lang/Throwable" "SUPPRESSED_SENTINEL" "Ljava/util/List;") ∈ lw_all := lw_g (lw_at lw_m1 115 rfl) rfl
theorem q240 : (Jvm.Cond.laysStatic "java/lang/Throwable" "SUPPRESSED_SENTINEL" "Ljava/util/List;") ∈ lw_tbl := lw_at lw_m1 116 rfl
theorem q241 : (Jvm.Cond.methodLink "java/lang/Throwable" (27 : Nat) ({ cls := "java/lang/Throwable", name := "fillInStackTrace", desc := "()Ljava/lang/Throwable;" } : Jvm.MethodName)) ∈ lw_all := lw_g (lw_at lw_m1 117 rfl) rfl
theorem q242 : (Jvm.Cond.instanceMethod ({ cls := "java/lang/Throwable", name := "fillInStackTrace", desc := "()Ljava/lang/Throwable;" } : Jvm.MethodName)) ∈ lw_all := lw_g (lw_at lw_m1 118 rfl) rfl
theorem q243 : (Jvm.Cond.sameMethod "java/lang/Throwable" "java/lang/Throwable" "fillInStackTrace" "()Ljava/lang/Throwable;") ∈ lw_all := lw_g (lw_at lw_m1 119 rfl) rfl
theorem q250 : (Jvm.Cond.codeSync ({ cls := "java/lang/Throwable", name := "fillInStackTrace", desc := "()Ljava/lang/Throwable;" } : Jvm.MethodName) prog_62_method_18_code (1 : Nat) (Option.some (Jvm.ClassFile.FieldType.object "java/lang/Throwable"))) ∈ lw_all := lw_g (lw_at lw_m1 126 rfl) rfl
theorem q251 : (Jvm.Cond.methodLink "java/lang/Throwable" (202 : Nat) ({ cls := "java/lang/Throwable", name := "fillInStackTrace", desc := "(I)Ljava/lang/Throwable;" } : Jvm.MethodName)) ∈ lw_all := lw_g (lw_at lw_m1 127 rfl) rfl
theorem q252 : (Jvm.Cond.privateMethod ({ cls := "java/lang/Throwable", name := "fillInStackTrace", desc := "(I)Ljava/lang/Throwable;" } : Jvm.MethodName)) ∈ lw_tbl := lw_at lw_m1 128 rfl
theorem q253 : (Jvm.Cond.instanceMethod ({ cls := "java/lang/Throwable", name := "fillInStackTrace", desc := "(I)Ljava/lang/Throwable;" } : Jvm.MethodName)) ∈ lw_all := lw_g (lw_at lw_m1 129 rfl) rfl
theorem q254 : (Jvm.Cond.instantiable "java/lang/Throwable" (6 : Nat)) ∈ lw_all := lw_g (lw_at lw_m1 130 rfl) rfl
theorem q255 : (Jvm.Cond.native ({ cls := "java/lang/Throwable", name := "fillInStackTrace", desc := "(I)Ljava/lang/Throwable;" } : Jvm.MethodName)) ∈ lw_all := lw_g (lw_at lw_m1 131 rfl) rfl
theorem q292 : (Jvm.Cond.fieldLink "java/lang/Throwable" (198 : Nat) "java/lang/Throwable" "backtrace" "Ljava/lang/Object;") ∈ lw_all := lw_g (lw_at lw_m1 168 rfl) rfl
theorem q293 : (Jvm.Cond.fieldLink "java/lang/Throwable" (31 : Nat) "java/lang/Throwable" "detailMessage" "Ljava/lang/String;") ∈ lw_all := lw_g (lw_at lw_m1 169 rfl) rfl
theorem q294 : (Jvm.Cond.fieldLink "java/lang/Throwable" (7 : Nat) "java/lang/Throwable" "cause" "Ljava/lang/Throwable;") ∈ lw_all := lw_g (lw_at lw_m1 170 rfl) rfl
theorem q295 : (Jvm.Cond.fieldLink "java/lang/Throwable" (17 : Nat) "java/lang/Throwable" "stackTrace" "[Ljava/lang/StackTraceElement;") ∈ lw_all := lw_g (lw_at lw_m1 171 rfl) rfl
theorem q296 : (Jvm.Cond.fieldLink "java/lang/Throwable" (24 : Nat) "java/lang/Throwable" "suppressedExceptions" "Ljava/util/List;") ∈ lw_all := lw_g (lw_at lw_m1 172 rfl) rfl
theorem q297 : (Jvm.Cond.soleField "java/lang/Throwable" "backtrace") ∈ lw_all := lw_g (lw_at lw_m1 173 rfl) rfl
theorem q298 : (Jvm.Cond.soleField "java/lang/Throwable" "detailMessage") ∈ lw_all := lw_g (lw_at lw_m1 174 rfl) rfl
theorem q299 : (Jvm.Cond.soleField "java/lang/Throwable" "cause") ∈ lw_all := lw_g (lw_at lw_m1 175 rfl) rfl
theorem q300 : (Jvm.Cond.soleField "java/lang/Throwable" "stackTrace") ∈ lw_all := lw_g (lw_at lw_m1 176 rfl) rfl
theorem q302 : (Jvm.Cond.soleField "java/lang/Throwable" "depth") ∈ lw_all := lw_g (lw_at lw_m1 178 rfl) rfl
theorem q303 : (Jvm.Cond.soleField "java/lang/Throwable" "suppressedExceptions") ∈ lw_all := lw_g (lw_at lw_m1 179 rfl) rfl
theorem q519 : (Jvm.Cond.instanceMethod ({ cls := "java/lang/Throwable", name := "<init>", desc := "(Ljava/lang/String;)V" } : Jvm.MethodName)) ∈ lw_all := lw_g (lw_at lw_m2 155 rfl) rfl
theorem q520 : (Jvm.Cond.code ({ cls := "java/lang/Throwable", name := "<init>", desc := "(Ljava/lang/String;)V" } : Jvm.MethodName) prog_62_method_2_code (2 : Nat) (Option.none : Option Jvm.ClassFile.FieldType)) ∈ lw_all := lw_g (lw_at lw_m2 156 rfl) rfl
theorem q2022 : (Jvm.Cond.instanceMethod ({ cls := "java/lang/Throwable", name := "<init>", desc := "(Ljava/lang/String;Ljava/lang/Throwable;ZZ)V" } : Jvm.MethodName)) ∈ lw_all := lw_g (lw_at lw_m8 218 rfl) rfl
theorem q2023 : (Jvm.Cond.code ({ cls := "java/lang/Throwable", name := "<init>", desc := "(Ljava/lang/String;Ljava/lang/Throwable;ZZ)V" } : Jvm.MethodName) prog_62_method_5_code (5 : Nat) (Option.none : Option Jvm.ClassFile.FieldType)) ∈ lw_all := lw_g (lw_at lw_m8 219 rfl) rfl
theorem q3198 : (Jvm.Cond.sameMethod "java/lang/Throwable" "java/lang/Throwable" "fillInStackTrace" "(I)Ljava/lang/Throwable;") ∈ lw_all := lw_g (lw_at lw_m13 194 rfl) rfl
theorem q3277 : (Jvm.Cond.castable "java/lang/Throwable" "java/lang/Object") ∈ lw_tbl := lw_at lw_m14 33 rfl
theorem in_J3 : ∀ w ∈ wsJ30, w ∈ lw_all := lw_in wsJ30 [223, 225, 227, 229, 231] (by decide +kernel) (by decide +kernel)
/-! java/lang/Exception -/
def RJ4 : String := "java/lang/Exception"
abbrev cJ4_init : ByteArray := prog_45_method_1_code
def yJ4_init : MethodName := ⟨RJ4, "<init>", "()V"⟩
abbrev cJ4_init_2 : ByteArray := prog_45_method_2_code
def yJ4_init_2 : MethodName := ⟨RJ4, "<init>", "(Ljava/lang/String;)V"⟩
abbrev cJ4_init_3 : ByteArray := prog_45_method_5_code
def yJ4_init_3 : MethodName := ⟨RJ4, "<init>", "(Ljava/lang/String;Ljava/lang/Throwable;ZZ)V"⟩
theorem q131 : (Jvm.Cond.initialized "java/lang/Exception") ∈ lw_all := lw_g (lw_at lw_m1 7 rfl) rfl
theorem q216 : (Jvm.Cond.declares ({ cls := "java/lang/Exception", name := "<init>", desc := "()V" } : Jvm.MethodName)) ∈ lw_tbl := lw_at lw_m1 92 rfl
theorem q217 : (Jvm.Cond.declares ({ cls := "java/lang/Exception", name := "<init>", desc := "(Ljava/lang/String;)V" } : Jvm.MethodName)) ∈ lw_tbl := lw_at lw_m1 93 rfl
theorem q289 : (Jvm.Cond.instanceMethod ({ cls := "java/lang/Exception", name := "<init>", desc := "()V" } : Jvm.MethodName)) ∈ lw_all := lw_g (lw_at lw_m1 165 rfl) rfl
theorem q290 : (Jvm.Cond.code ({ cls := "java/lang/Exception", name := "<init>", desc := "()V" } : Jvm.MethodName) prog_45_method_1_code (1 : Nat) (Option.none : Option Jvm.ClassFile.FieldType)) ∈ lw_all := lw_g (lw_at lw_m1 166 rfl) rfl
theorem q291 : (Jvm.Cond.methodLink "java/lang/Exception" (1 : Nat) ({ cls := "java/lang/Throwable", name := "<init>", desc := "()V" } : Jvm.MethodName)) ∈ lw_all := lw_g (lw_at lw_m1 167 rfl) rfl
theorem q516 : (Jvm.Cond.instanceMethod ({ cls := "java/lang/Exception", name := "<init>", desc := "(Ljava/lang/String;)V" } : Jvm.MethodName)) ∈ lw_all := lw_g (lw_at lw_m2 152 rfl) rfl
theorem q517 : (Jvm.Cond.code ({ cls := "java/lang/Exception", name := "<init>", desc := "(Ljava/lang/String;)V" } : Jvm.MethodName) prog_45_method_2_code (2 : Nat) (Option.none : Option Jvm.ClassFile.FieldType)) ∈ lw_all := lw_g (lw_at lw_m2 153 rfl) rfl
theorem q518 : (Jvm.Cond.methodLink "java/lang/Exception" (7 : Nat) ({ cls := "java/lang/Throwable", name := "<init>", desc := "(Ljava/lang/String;)V" } : Jvm.MethodName)) ∈ lw_all := lw_g (lw_at lw_m2 154 rfl) rfl
theorem q2019 : (Jvm.Cond.instanceMethod ({ cls := "java/lang/Exception", name := "<init>", desc := "(Ljava/lang/String;Ljava/lang/Throwable;ZZ)V" } : Jvm.MethodName)) ∈ lw_all := lw_g (lw_at lw_m8 215 rfl) rfl
theorem q2020 : (Jvm.Cond.code ({ cls := "java/lang/Exception", name := "<init>", desc := "(Ljava/lang/String;Ljava/lang/Throwable;ZZ)V" } : Jvm.MethodName) prog_45_method_5_code (5 : Nat) (Option.none : Option Jvm.ClassFile.FieldType)) ∈ lw_all := lw_g (lw_at lw_m8 216 rfl) rfl
theorem q2021 : (Jvm.Cond.methodLink "java/lang/Exception" (16 : Nat) ({ cls := "java/lang/Throwable", name := "<init>", desc := "(Ljava/lang/String;Ljava/lang/Throwable;ZZ)V" } : Jvm.MethodName)) ∈ lw_all := lw_g (lw_at lw_m8 217 rfl) rfl
/-! java/lang/RuntimeException -/
def RJ5 : String := "java/lang/RuntimeException"
abbrev cJ5_init : ByteArray := prog_55_method_1_code
def yJ5_init : MethodName := ⟨RJ5, "<init>", "()V"⟩
abbrev cJ5_init_2 : ByteArray := prog_55_method_2_code
def yJ5_init_2 : MethodName := ⟨RJ5, "<init>", "(Ljava/lang/String;)V"⟩
theorem q132 : (Jvm.Cond.initialized "java/lang/RuntimeException") ∈ lw_all := lw_g (lw_at lw_m1 8 rfl) rfl
theorem q214 : (Jvm.Cond.declares ({ cls := "java/lang/RuntimeException", name := "<init>", desc := "()V" } : Jvm.MethodName)) ∈ lw_tbl := lw_at lw_m1 90 rfl
theorem q215 : (Jvm.Cond.declares ({ cls := "java/lang/RuntimeException", name := "<init>", desc := "(Ljava/lang/String;)V" } : Jvm.MethodName)) ∈ lw_tbl := lw_at lw_m1 91 rfl
theorem q286 : (Jvm.Cond.instanceMethod ({ cls := "java/lang/RuntimeException", name := "<init>", desc := "()V" } : Jvm.MethodName)) ∈ lw_all := lw_g (lw_at lw_m1 162 rfl) rfl
theorem q287 : (Jvm.Cond.code ({ cls := "java/lang/RuntimeException", name := "<init>", desc := "()V" } : Jvm.MethodName) prog_55_method_1_code (1 : Nat) (Option.none : Option Jvm.ClassFile.FieldType)) ∈ lw_all := lw_g (lw_at lw_m1 163 rfl) rfl
theorem q288 : (Jvm.Cond.methodLink "java/lang/RuntimeException" (1 : Nat) ({ cls := "java/lang/Exception", name := "<init>", desc := "()V" } : Jvm.MethodName)) ∈ lw_all := lw_g (lw_at lw_m1 164 rfl) rfl
theorem q513 : (Jvm.Cond.instanceMethod ({ cls := "java/lang/RuntimeException", name := "<init>", desc := "(Ljava/lang/String;)V" } : Jvm.MethodName)) ∈ lw_all := lw_g (lw_at lw_m2 149 rfl) rfl
theorem q514 : (Jvm.Cond.code ({ cls := "java/lang/RuntimeException", name := "<init>", desc := "(Ljava/lang/String;)V" } : Jvm.MethodName) prog_55_method_2_code (2 : Nat) (Option.none : Option Jvm.ClassFile.FieldType)) ∈ lw_all := lw_g (lw_at lw_m2 150 rfl) rfl
theorem q515 : (Jvm.Cond.methodLink "java/lang/RuntimeException" (7 : Nat) ({ cls := "java/lang/Exception", name := "<init>", desc := "(Ljava/lang/String;)V" } : Jvm.MethodName)) ∈ lw_all := lw_g (lw_at lw_m2 151 rfl) rfl
/-! java/lang/IllegalArgumentException -/
def RJ6 : String := "java/lang/IllegalArgumentException"
def TJ6 : u_T := fun k => match k with
  | 0 => ("java/lang/Throwable", "cause", "Ljava/lang/Throwable;", false)
  | 1 => ("java/lang/Throwable", "stackTrace", "[Ljava/lang/StackTraceElement;", false)
  | 2 => ("java/lang/Throwable", "suppressedExceptions", "Ljava/util/List;", false)
  | 3 => ("java/lang/Throwable", "detailMessage", "Ljava/lang/String;", false)
  | 4 => ("java/lang/Throwable", "backtrace", "Ljava/lang/Object;", false)
  | _ => ("java/lang/Throwable", "depth", "I", false)
def tyJ6 : Nat → FieldType := fun k => match k with
  | 0 => .object "java/lang/Throwable"
  | 1 => .array (.object "java/lang/StackTraceElement")
  | 2 => .object "java/util/List"
  | 3 => .object "java/lang/String"
  | 4 => .object "java/lang/Object"
  | _ => .int
abbrev wsJ60 : List Cond := u_ws RJ6 TJ6 6
theorem nmJ6 : ∀ a, a < 6 → ∀ b, b < 6 → a ≠ b → (TJ6 a).2.1 ≠ (TJ6 b).2.1 := by decide +kernel
theorem tyJ6_ok : ∀ k, k < 6 → parseFieldDescriptor (TJ6 k).2.2.1 = some (tyJ6 k) := by decide +kernel
abbrev cJ6_init : ByteArray := prog_46_method_2_code
def yJ6_init : MethodName := ⟨RJ6, "<init>", "(Ljava/lang/String;)V"⟩
abbrev cJ6_init_2 : ByteArray := prog_46_method_1_code
def yJ6_init_2 : MethodName := ⟨RJ6, "<init>", "()V"⟩
theorem q133 : (Jvm.Cond.initialized "java/lang/IllegalArgumentException") ∈ lw_all := lw_g (lw_at lw_m1 9 rfl) rfl
theorem q212 : (Jvm.Cond.instantiable "java/lang/IllegalArgumentException" (6 : Nat)) ∈ lw_all := lw_g (lw_at lw_m1 88 rfl) rfl
theorem q213 : (Jvm.Cond.castable "java/lang/IllegalArgumentException" "java/lang/IllegalArgumentException") ∈ lw_tbl := lw_at lw_m1 89 rfl
theorem q220 : (Jvm.Cond.selects "java/lang/IllegalArgumentException" ({ cls := "java/lang/Throwable", name := "fillInStackTrace", desc := "(I)Ljava/lang/Throwable;" } : Jvm.MethodName) ({ cls := "java/lang/Throwable", name := "fillInStackTrace", desc := "(I)Ljava/lang/Throwable;" } : Jvm.MethodName)) ∈ lw_all := lw_g (lw_at lw_m1 96 rfl) rfl
theorem q221 : (Jvm.Cond.selects "java/lang/IllegalArgumentException" ({ cls := "java/lang/Throwable", name := "fillInStackTrace", desc := "()Ljava/lang/Throwable;" } : Jvm.MethodName) ({ cls := "java/lang/Throwable", name := "fillInStackTrace", desc := "()Ljava/lang/Throwable;" } : Jvm.MethodName)) ∈ lw_all := lw_g (lw_at lw_m1 97 rfl) rfl
theorem q222 : (Jvm.Cond.lays "java/lang/IllegalArgumentException" "java/lang/Throwable" "cause" "Ljava/lang/Throwable;") ∈ lw_all := lw_g (lw_at lw_m1 98 rfl) rfl
theorem q224 : (Jvm.Cond.lays "java/lang/IllegalArgumentException" "java/lang/Throwable" "stackTrace" "[Ljava/lang/StackTraceElement;") ∈ lw_all := lw_g (lw_at lw_m1 100 rfl) rfl
theorem q226 : (Jvm.Cond.lays "java/lang/IllegalArgumentException" "java/lang/Throwable" "suppressedExceptions" "Ljava/util/List;") ∈ lw_all := lw_g (lw_at lw_m1 102 rfl) rfl
theorem q228 : (Jvm.Cond.lays "java/lang/IllegalArgumentException" "java/lang/Throwable" "detailMessage" "Ljava/lang/String;") ∈ lw_all := lw_g (lw_at lw_m1 104 rfl) rfl
theorem q230 : (Jvm.Cond.lays "java/lang/IllegalArgumentException" "java/lang/Throwable" "backtrace" "Ljava/lang/Object;") ∈ lw_all := lw_g (lw_at lw_m1 106 rfl) rfl
theorem q510 : (Jvm.Cond.instanceMethod ({ cls := "java/lang/IllegalArgumentException", name := "<init>", desc := "(Ljava/lang/String;)V" } : Jvm.MethodName)) ∈ lw_all := lw_g (lw_at lw_m2 146 rfl) rfl
theorem q511 : (Jvm.Cond.code ({ cls := "java/lang/IllegalArgumentException", name := "<init>", desc := "(Ljava/lang/String;)V" } : Jvm.MethodName) prog_46_method_2_code (2 : Nat) (Option.none : Option Jvm.ClassFile.FieldType)) ∈ lw_all := lw_g (lw_at lw_m2 147 rfl) rfl
theorem q512 : (Jvm.Cond.methodLink "java/lang/IllegalArgumentException" (7 : Nat) ({ cls := "java/lang/RuntimeException", name := "<init>", desc := "(Ljava/lang/String;)V" } : Jvm.MethodName)) ∈ lw_all := lw_g (lw_at lw_m2 148 rfl) rfl
theorem q521 : (Jvm.Cond.lays "java/lang/IllegalArgumentException" "java/lang/Throwable" "depth" "I") ∈ lw_all := lw_g (lw_at lw_m2 157 rfl) rfl
theorem q522 : (Jvm.Cond.superclass "java/lang/IllegalArgumentException" "java/lang/RuntimeException") ∈ lw_all := lw_g (lw_at lw_m2 158 rfl) rfl
theorem q687 : (Jvm.Cond.selects "java/lang/IllegalArgumentException" ({ cls := "java/lang/Object", name := "getClass", desc := "()Ljava/lang/Class;" } : Jvm.MethodName) ({ cls := "java/lang/Object", name := "getClass", desc := "()Ljava/lang/Class;" } : Jvm.MethodName)) ∈ lw_all := lw_g (lw_at lw_m3 83 rfl) rfl
theorem q1267 : (Jvm.Cond.instanceMethod ({ cls := "java/lang/IllegalArgumentException", name := "<init>", desc := "()V" } : Jvm.MethodName)) ∈ lw_all := lw_g (lw_at lw_m5 183 rfl) rfl
theorem q1268 : (Jvm.Cond.code ({ cls := "java/lang/IllegalArgumentException", name := "<init>", desc := "()V" } : Jvm.MethodName) prog_46_method_1_code (1 : Nat) (Option.none : Option Jvm.ClassFile.FieldType)) ∈ lw_all := lw_g (lw_at lw_m5 184 rfl) rfl
theorem q1269 : (Jvm.Cond.methodLink "java/lang/IllegalArgumentException" (1 : Nat) ({ cls := "java/lang/RuntimeException", name := "<init>", desc := "()V" } : Jvm.MethodName)) ∈ lw_all := lw_g (lw_at lw_m5 185 rfl) rfl
theorem q1642 : (Jvm.Cond.selects "java/lang/IllegalArgumentException" ({ cls := "java/lang/Object", name := "equals", desc := "(Ljava/lang/Object;)Z" } : Jvm.MethodName) ({ cls := "java/lang/Object", name := "equals", desc := "(Ljava/lang/Object;)Z" } : Jvm.MethodName)) ∈ lw_all := lw_g (lw_at lw_m7 78 rfl) rfl
theorem q3242 : (Jvm.Cond.castable "java/lang/IllegalArgumentException" "java/lang/Object") ∈ lw_tbl := lw_at lw_m13 238 rfl
theorem in_J6 : ∀ w ∈ wsJ60, w ∈ lw_all := lw_in wsJ60 [222, 224, 226, 228, 230, 521] (by decide +kernel) (by decide +kernel)
/-! java/lang/AbstractStringBuilder -/
def RJ7 : String := "java/lang/AbstractStringBuilder"
abbrev cJ7_init : ByteArray := prog_38_method_2_code
def yJ7_init : MethodName := ⟨RJ7, "<init>", "(I)V"⟩
abbrev cJ7_append : ByteArray := prog_38_method_22_code
def yJ7_append : MethodName := ⟨RJ7, "append", "(Ljava/lang/String;)Ljava/lang/AbstractStringBuilder;"⟩
abbrev cJ7_appendNull : ByteArray := prog_38_method_26_code
def yJ7_appendNull : MethodName := ⟨RJ7, "appendNull", "()Ljava/lang/AbstractStringBuilder;"⟩
abbrev cJ7_ensureCapacityInternal : ByteArray := prog_38_method_9_code
def yJ7_ensureCapacityInternal : MethodName := ⟨RJ7, "ensureCapacityInternal", "(I)V"⟩
abbrev cJ7_newCapacity : ByteArray := prog_38_method_10_code
def yJ7_newCapacity : MethodName := ⟨RJ7, "newCapacity", "(I)I"⟩
abbrev cJ7_isLatin1 : ByteArray := prog_38_method_68_code
def yJ7_isLatin1 : MethodName := ⟨RJ7, "isLatin1", "()Z"⟩
abbrev cJ7_putStringAt : ByteArray := prog_38_method_73_code
def yJ7_putStringAt : MethodName := ⟨RJ7, "putStringAt", "(ILjava/lang/String;)V"⟩
abbrev cJ7_inflateIfNeededFor : ByteArray := prog_38_method_71_code
def yJ7_inflateIfNeededFor : MethodName := ⟨RJ7, "inflateIfNeededFor", "(Ljava/lang/String;)V"⟩
abbrev cJ7_inflate : ByteArray := prog_38_method_11_code
def yJ7_inflate : MethodName := ⟨RJ7, "inflate", "()V"⟩
abbrev cJ7_append_2 : ByteArray := prog_38_method_32_code
def yJ7_append_2 : MethodName := ⟨RJ7, "append", "(I)Ljava/lang/AbstractStringBuilder;"⟩
abbrev cJ7_getValue : ByteArray := prog_38_method_64_code
def yJ7_getValue : MethodName := ⟨RJ7, "getValue", "()[B"⟩
abbrev cJ7_length : ByteArray := prog_38_method_6_code
def yJ7_length : MethodName := ⟨RJ7, "length", "()I"⟩
abbrev cJ7_append_3 : ByteArray := prog_38_method_31_code
def yJ7_append_3 : MethodName := ⟨RJ7, "append", "(C)Ljava/lang/AbstractStringBuilder;"⟩
theorem q134 : (Jvm.Cond.initialized "java/lang/AbstractStringBuilder") ∈ lw_all := lw_g (lw_at lw_m1 10 rfl) rfl
theorem q262 : (Jvm.Cond.instanceMethod ({ cls := "java/lang/AbstractStringBuilder", name := "<init>", desc := "(I)V" } : Jvm.MethodName)) ∈ lw_all := lw_g (lw_at lw_m1 138 rfl) rfl
theorem q263 : (Jvm.Cond.code ({ cls := "java/lang/AbstractStringBuilder", name := "<init>", desc := "(I)V" } : Jvm.MethodName) prog_38_method_2_code (2 : Nat) (Option.none : Option Jvm.ClassFile.FieldType)) ∈ lw_all := lw_g (lw_at lw_m1 139 rfl) rfl
theorem q264 : (Jvm.Cond.methodLink "java/lang/AbstractStringBuilder" (3 : Nat) ({ cls := "java/lang/Object", name := "<init>", desc := "()V" } : Jvm.MethodName)) ∈ lw_all := lw_g (lw_at lw_m1 140 rfl) rfl
theorem q265 : (Jvm.Cond.fieldLink "java/lang/AbstractStringBuilder" (18 : Nat) "java/lang/String" "COMPACT_STRINGS" "Z") ∈ lw_all := lw_g (lw_at lw_m1 141 rfl) rfl
theorem q267 : (Jvm.Cond.methodLink "java/lang/AbstractStringBuilder" (26 : Nat) ({ cls := "java/lang/StringUTF16", name := "newBytesFor", desc := "(I)[B" } : Jvm.MethodName)) ∈ lw_all := lw_g (lw_at lw_m1 143 rfl) rfl
theorem q307 : (Jvm.Cond.fieldLink "java/lang/AbstractStringBuilder" (15 : Nat) "java/lang/AbstractStringBuilder" "value" "[B") ∈ lw_all := lw_g (lw_at lw_m1 183 rfl) rfl
theorem q308 : (Jvm.Cond.fieldLink "java/lang/AbstractStringBuilder" (22 : Nat) "java/lang/AbstractStringBuilder" "coder" "B") ∈ lw_all := lw_g (lw_at lw_m1 184 rfl) rfl
theorem q310 : (Jvm.Cond.fieldLink "java/lang/AbstractStringBuilder" (79 : Nat) "java/lang/AbstractStringBuilder" "count" "I") ∈ lw_all := lw_g (lw_at lw_m1 186 rfl) rfl
theorem q312 : (Jvm.Cond.soleField "java/lang/AbstractStringBuilder" "value") ∈ lw_all := lw_g (lw_at lw_m1 188 rfl) rfl
theorem q314 : (Jvm.Cond.soleField "java/lang/AbstractStringBuilder" "coder") ∈ lw_all := lw_g (lw_at lw_m1 190 rfl) rfl
theorem q316 : (Jvm.Cond.soleField "java/lang/AbstractStringBuilder" "maybeLatin1") ∈ lw_all := lw_g (lw_at lw_m1 192 rfl) rfl
theorem q318 : (Jvm.Cond.soleField "java/lang/AbstractStringBuilder" "count") ∈ lw_all := lw_g (lw_at lw_m1 194 rfl) rfl
theorem q326 : (Jvm.Cond.instanceMethod ({ cls := "java/lang/AbstractStringBuilder", name := "append", desc := "(Ljava/lang/String;)Ljava/lang/AbstractStringBuilder;" } : Jvm.MethodName)) ∈ lw_all := lw_g (lw_at lw_m1 202 rfl) rfl
theorem q327 : (Jvm.Cond.code ({ cls := "java/lang/AbstractStringBuilder", name := "append", desc := "(Ljava/lang/String;)Ljava/lang/AbstractStringBuilder;" } : Jvm.MethodName) prog_38_method_22_code (3 : Nat) (Option.some (Jvm.ClassFile.FieldType.object "java/lang/AbstractStringBuilder"))) ∈ lw_all := lw_g (lw_at lw_m1 203 rfl) rfl
theorem q328 : (Jvm.Cond.methodLink "java/lang/AbstractStringBuilder" (204 : Nat) ({ cls := "java/lang/AbstractStringBuilder", name := "appendNull", desc := "()Ljava/lang/AbstractStringBuilder;" } : Jvm.MethodName)) ∈ lw_all := lw_g (lw_at lw_m1 204 rfl) rfl
theorem q329 : (Jvm.Cond.privateMethod ({ cls := "java/lang/AbstractStringBuilder", name := "appendNull", desc := "()Ljava/lang/AbstractStringBuilder;" } : Jvm.MethodName)) ∈ lw_tbl := lw_at lw_m1 205 rfl
theorem q330 : (Jvm.Cond.instanceMethod ({ cls := "java/lang/AbstractStringBuilder", name := "appendNull", desc := "()Ljava/lang/AbstractStringBuilder;" } : Jvm.MethodName)) ∈ lw_all := lw_g (lw_at lw_m1 206 rfl) rfl
theorem q331 : (Jvm.Cond.code ({ cls := "java/lang/AbstractStringBuilder", name := "appendNull", desc := "()Ljava/lang/AbstractStringBuilder;" } : Jvm.MethodName) prog_38_method_26_code (3 : Nat) (Option.some (Jvm.ClassFile.FieldType.object "java/lang/AbstractStringBuilder"))) ∈ lw_all := lw_g (lw_at lw_m1 207 rfl) rfl
theorem q332 : (Jvm.Cond.methodLink "java/lang/AbstractStringBuilder" (100 : Nat) ({ cls := "java/lang/AbstractStringBuilder", name := "ensureCapacityInternal", desc := "(I)V" } : Jvm.MethodName)) ∈ lw_all := lw_g (lw_at lw_m1 208 rfl) rfl
theorem q333 : (Jvm.Cond.privateMethod ({ cls := "java/lang/AbstractStringBuilder", name := "ensureCapacityInternal", desc := "(I)V" } : Jvm.MethodName)) ∈ lw_tbl := lw_at lw_m1 209 rfl
theorem q334 : (Jvm.Cond.instanceMethod ({ cls := "java/lang/AbstractStringBuilder", name := "ensureCapacityInternal", desc := "(I)V" } : Jvm.MethodName)) ∈ lw_all := lw_g (lw_at lw_m1 210 rfl) rfl
theorem q335 : (Jvm.Cond.code ({ cls := "java/lang/AbstractStringBuilder", name := "ensureCapacityInternal", desc := "(I)V" } : Jvm.MethodName) prog_38_method_9_code (3 : Nat) (Option.none : Option Jvm.ClassFile.FieldType)) ∈ lw_all := lw_g (lw_at lw_m1 211 rfl) rfl
theorem q336 : (Jvm.Cond.methodLink "java/lang/AbstractStringBuilder" (104 : Nat) ({ cls := "java/lang/AbstractStringBuilder", name := "newCapacity", desc := "(I)I" } : Jvm.MethodName)) ∈ lw_all := lw_g (lw_at lw_m1 212 rfl) rfl
theorem q337 : (Jvm.Cond.privateMethod ({ cls := "java/lang/AbstractStringBuilder", name := "newCapacity", desc := "(I)I" } : Jvm.MethodName)) ∈ lw_tbl := lw_at lw_m1 213 rfl
theorem q338 : (Jvm.Cond.instanceMethod ({ cls := "java/lang/AbstractStringBuilder", name := "newCapacity", desc := "(I)I" } : Jvm.MethodName)) ∈ lw_all := lw_g (lw_at lw_m1 214 rfl) rfl
theorem q339 : (Jvm.Cond.code ({ cls := "java/lang/AbstractStringBuilder", name := "newCapacity", desc := "(I)I" } : Jvm.MethodName) prog_38_method_10_code (6 : Nat) (Option.some Jvm.ClassFile.FieldType.int)) ∈ lw_all := lw_g (lw_at lw_m1 215 rfl) rfl
theorem q340 : (Jvm.Cond.methodLink "java/lang/AbstractStringBuilder" (114 : Nat) ({ cls := "jdk/internal/util/ArraysSupport", name := "newLength", desc := "(III)I" } : Jvm.MethodName)) ∈ lw_all := lw_g (lw_at lw_m1 216 rfl) rfl
theorem q350 : (Jvm.Cond.constant "java/lang/AbstractStringBuilder" (39 : Nat) (2147483647 : Int32)) ∈ lw_all := lw_g (lw_at lw_m1 226 rfl) rfl
theorem q351 : (Jvm.Cond.methodLink "java/lang/AbstractStringBuilder" (108 : Nat) ({ cls := "java/util/Arrays", name := "copyOf", desc := "([BI)[B" } : Jvm.MethodName)) ∈ lw_all := lw_g (lw_at lw_m1 227 rfl) rfl
theorem q367 : (Jvm.Cond.methodLink "java/lang/AbstractStringBuilder" (83 : Nat) ({ cls := "java/lang/AbstractStringBuilder", name := "isLatin1", desc := "()Z" } : Jvm.MethodName)) ∈ lw_all := lw_g (lw_at lw_m2 3 rfl) rfl
theorem q368 : (Jvm.Cond.instanceMethod ({ cls := "java/lang/AbstractStringBuilder", name := "isLatin1", desc := "()Z" } : Jvm.MethodName)) ∈ lw_all := lw_g (lw_at lw_m2 4 rfl) rfl
theorem q369 : (Jvm.Cond.sameMethod "java/lang/AbstractStringBuilder" "java/lang/AbstractStringBuilder" "isLatin1" "()Z") ∈ lw_all := lw_g (lw_at lw_m2 5 rfl) rfl
theorem q371 : (Jvm.Cond.code ({ cls := "java/lang/AbstractStringBuilder", name := "isLatin1", desc := "()Z" } : Jvm.MethodName) prog_38_method_68_code (1 : Nat) (Option.some Jvm.ClassFile.FieldType.boolean)) ∈ lw_all := lw_g (lw_at lw_m2 7 rfl) rfl
theorem q372 : (Jvm.Cond.methodLink "java/lang/AbstractStringBuilder" (226 : Nat) ({ cls := "java/lang/StringUTF16", name := "putCharsAt", desc := "([BICCCC)I" } : Jvm.MethodName)) ∈ lw_all := lw_g (lw_at lw_m2 8 rfl) rfl
theorem q398 : (Jvm.Cond.methodLink "java/lang/AbstractStringBuilder" (32 : Nat) ({ cls := "java/lang/String", name := "length", desc := "()I" } : Jvm.MethodName)) ∈ lw_all := lw_g (lw_at lw_m2 34 rfl) rfl
theorem q407 : (Jvm.Cond.methodLink "java/lang/AbstractStringBuilder" (208 : Nat) ({ cls := "java/lang/AbstractStringBuilder", name := "putStringAt", desc := "(ILjava/lang/String;)V" } : Jvm.MethodName)) ∈ lw_all := lw_g (lw_at lw_m2 43 rfl) rfl
theorem q408 : (Jvm.Cond.privateMethod ({ cls := "java/lang/AbstractStringBuilder", name := "putStringAt", desc := "(ILjava/lang/String;)V" } : Jvm.MethodName)) ∈ lw_tbl := lw_at lw_m2 44 rfl
theorem q409 : (Jvm.Cond.instanceMethod ({ cls := "java/lang/AbstractStringBuilder", name := "putStringAt", desc := "(ILjava/lang/String;)V" } : Jvm.MethodName)) ∈ lw_all := lw_g (lw_at lw_m2 45 rfl) rfl
theorem q410 : (Jvm.Cond.code ({ cls := "java/lang/AbstractStringBuilder", name := "putStringAt", desc := "(ILjava/lang/String;)V" } : Jvm.MethodName) prog_38_method_73_code (3 : Nat) (Option.none : Option Jvm.ClassFile.FieldType)) ∈ lw_all := lw_g (lw_at lw_m2 46 rfl) rfl
theorem q411 : (Jvm.Cond.methodLink "java/lang/AbstractStringBuilder" (397 : Nat) ({ cls := "java/lang/AbstractStringBuilder", name := "inflateIfNeededFor", desc := "(Ljava/lang/String;)V" } : Jvm.MethodName)) ∈ lw_all := lw_g (lw_at lw_m2 47 rfl) rfl
theorem q412 : (Jvm.Cond.privateMethod ({ cls := "java/lang/AbstractStringBuilder", name := "inflateIfNeededFor", desc := "(Ljava/lang/String;)V" } : Jvm.MethodName)) ∈ lw_tbl := lw_at lw_m2 48 rfl
theorem q413 : (Jvm.Cond.instanceMethod ({ cls := "java/lang/AbstractStringBuilder", name := "inflateIfNeededFor", desc := "(Ljava/lang/String;)V" } : Jvm.MethodName)) ∈ lw_all := lw_g (lw_at lw_m2 49 rfl) rfl
theorem q414 : (Jvm.Cond.code ({ cls := "java/lang/AbstractStringBuilder", name := "inflateIfNeededFor", desc := "(Ljava/lang/String;)V" } : Jvm.MethodName) prog_38_method_71_code (2 : Nat) (Option.none : Option Jvm.ClassFile.FieldType)) ∈ lw_all := lw_g (lw_at lw_m2 50 rfl) rfl
theorem q415 : (Jvm.Cond.methodLink "java/lang/AbstractStringBuilder" (40 : Nat) ({ cls := "java/lang/String", name := "coder", desc := "()B" } : Jvm.MethodName)) ∈ lw_all := lw_g (lw_at lw_m2 51 rfl) rfl
theorem q416 : (Jvm.Cond.methodLink "java/lang/AbstractStringBuilder" (195 : Nat) ({ cls := "java/lang/AbstractStringBuilder", name := "inflate", desc := "()V" } : Jvm.MethodName)) ∈ lw_all := lw_g (lw_at lw_m2 52 rfl) rfl
theorem q417 : (Jvm.Cond.privateMethod ({ cls := "java/lang/AbstractStringBuilder", name := "inflate", desc := "()V" } : Jvm.MethodName)) ∈ lw_tbl := lw_at lw_m2 53 rfl
theorem q418 : (Jvm.Cond.instanceMethod ({ cls := "java/lang/AbstractStringBuilder", name := "inflate", desc := "()V" } : Jvm.MethodName)) ∈ lw_all := lw_g (lw_at lw_m2 54 rfl) rfl
theorem q419 : (Jvm.Cond.code ({ cls := "java/lang/AbstractStringBuilder", name := "inflate", desc := "()V" } : Jvm.MethodName) prog_38_method_11_code (2 : Nat) (Option.none : Option Jvm.ClassFile.FieldType)) ∈ lw_all := lw_g (lw_at lw_m2 55 rfl) rfl
theorem q420 : (Jvm.Cond.methodLink "java/lang/AbstractStringBuilder" (125 : Nat) ({ cls := "java/lang/StringLatin1", name := "inflate", desc := "([BI[BII)V" } : Jvm.MethodName)) ∈ lw_all := lw_g (lw_at lw_m2 56 rfl) rfl
theorem q435 : (Jvm.Cond.methodLink "java/lang/AbstractStringBuilder" (399 : Nat) ({ cls := "java/lang/String", name := "getBytes", desc := "([BIB)V" } : Jvm.MethodName)) ∈ lw_all := lw_g (lw_at lw_m2 71 rfl) rfl
theorem q446 : (Jvm.Cond.instanceMethod ({ cls := "java/lang/AbstractStringBuilder", name := "append", desc := "(I)Ljava/lang/AbstractStringBuilder;" } : Jvm.MethodName)) ∈ lw_all := lw_g (lw_at lw_m2 82 rfl) rfl
theorem q447 : (Jvm.Cond.code ({ cls := "java/lang/AbstractStringBuilder", name := "append", desc := "(I)Ljava/lang/AbstractStringBuilder;" } : Jvm.MethodName) prog_38_method_32_code (4 : Nat) (Option.some (Jvm.ClassFile.FieldType.object "java/lang/AbstractStringBuilder"))) ∈ lw_all := lw_g (lw_at lw_m2 83 rfl) rfl
theorem q448 : (Jvm.Cond.methodLink "java/lang/AbstractStringBuilder" (245 : Nat) ({ cls := "java/lang/Integer", name := "stringSize", desc := "(I)I" } : Jvm.MethodName)) ∈ lw_all := lw_g (lw_at lw_m2 84 rfl) rfl
theorem q451 : (Jvm.Cond.methodLink "java/lang/AbstractStringBuilder" (248 : Nat) ({ cls := "java/lang/Integer", name := "getChars", desc := "(II[B)I" } : Jvm.MethodName)) ∈ lw_all := lw_g (lw_at lw_m2 87 rfl) rfl
theorem q458 : (Jvm.Cond.methodLink "java/lang/AbstractStringBuilder" (251 : Nat) ({ cls := "java/lang/StringUTF16", name := "getChars", desc := "(III[B)I" } : Jvm.MethodName)) ∈ lw_all := lw_g (lw_at lw_m2 94 rfl) rfl
theorem q480 : (Jvm.Cond.instanceMethod ({ cls := "java/lang/AbstractStringBuilder", name := "getValue", desc := "()[B" } : Jvm.MethodName)) ∈ lw_all := lw_g (lw_at lw_m2 116 rfl) rfl
theorem q481 : (Jvm.Cond.sameMethod "java/lang/AbstractStringBuilder" "java/lang/AbstractStringBuilder" "getValue" "()[B") ∈ lw_all := lw_g (lw_at lw_m2 117 rfl) rfl
theorem q483 : (Jvm.Cond.code ({ cls := "java/lang/AbstractStringBuilder", name := "getValue", desc := "()[B" } : Jvm.MethodName) prog_38_method_64_code (1 : Nat) (Option.some (Jvm.ClassFile.FieldType.array Jvm.ClassFile.FieldType.byte))) ∈ lw_all := lw_g (lw_at lw_m2 119 rfl) rfl
theorem q485 : (Jvm.Cond.instanceMethod ({ cls := "java/lang/AbstractStringBuilder", name := "length", desc := "()I" } : Jvm.MethodName)) ∈ lw_all := lw_g (lw_at lw_m2 121 rfl) rfl
theorem q486 : (Jvm.Cond.sameMethod "java/lang/AbstractStringBuilder" "java/lang/AbstractStringBuilder" "length" "()I") ∈ lw_all := lw_g (lw_at lw_m2 122 rfl) rfl
theorem q491 : (Jvm.Cond.code ({ cls := "java/lang/AbstractStringBuilder", name := "length", desc := "()I" } : Jvm.MethodName) prog_38_method_6_code (1 : Nat) (Option.some Jvm.ClassFile.FieldType.int)) ∈ lw_all := lw_g (lw_at lw_m2 127 rfl) rfl
theorem q1912 : (Jvm.Cond.instanceMethod ({ cls := "java/lang/AbstractStringBuilder", name := "append", desc := "(C)Ljava/lang/AbstractStringBuilder;" } : Jvm.MethodName)) ∈ lw_all := lw_g (lw_at lw_m8 108 rfl) rfl
theorem q1913 : (Jvm.Cond.code ({ cls := "java/lang/AbstractStringBuilder", name := "append", desc := "(C)Ljava/lang/AbstractStringBuilder;" } : Jvm.MethodName) prog_38_method_31_code (2 : Nat) (Option.some (Jvm.ClassFile.FieldType.object "java/lang/AbstractStringBuilder"))) ∈ lw_all := lw_g (lw_at lw_m8 109 rfl) rfl
theorem q1914 : (Jvm.Cond.methodLink "java/lang/AbstractStringBuilder" (191 : Nat) ({ cls := "java/lang/StringLatin1", name := "canEncode", desc := "(C)Z" } : Jvm.MethodName)) ∈ lw_all := lw_g (lw_at lw_m8 110 rfl) rfl
theorem q1917 : (Jvm.Cond.methodLink "java/lang/AbstractStringBuilder" (197 : Nat) ({ cls := "java/lang/StringUTF16", name := "putCharSB", desc := "([BII)V" } : Jvm.MethodName)) ∈ lw_all := lw_g (lw_at lw_m8 113 rfl) rfl
theorem q3199 : (Jvm.Cond.sameMethod "java/lang/AbstractStringBuilder" "java/lang/AbstractStringBuilder" "append" "(Ljava/lang/String;)Ljava/lang/AbstractStringBuilder;") ∈ lw_all := lw_g (lw_at lw_m13 195 rfl) rfl
theorem q3200 : (Jvm.Cond.sameMethod "java/lang/AbstractStringBuilder" "java/lang/AbstractStringBuilder" "appendNull" "()Ljava/lang/AbstractStringBuilder;") ∈ lw_all := lw_g (lw_at lw_m13 196 rfl) rfl
theorem q3201 : (Jvm.Cond.sameMethod "java/lang/AbstractStringBuilder" "java/lang/AbstractStringBuilder" "ensureCapacityInternal" "(I)V") ∈ lw_all := lw_g (lw_at lw_m13 197 rfl) rfl
theorem q3202 : (Jvm.Cond.sameMethod "java/lang/AbstractStringBuilder" "java/lang/AbstractStringBuilder" "newCapacity" "(I)I") ∈ lw_all := lw_g (lw_at lw_m13 198 rfl) rfl
theorem q3203 : (Jvm.Cond.sameMethod "java/lang/AbstractStringBuilder" "java/lang/AbstractStringBuilder" "putStringAt" "(ILjava/lang/String;)V") ∈ lw_all := lw_g (lw_at lw_m13 199 rfl) rfl
theorem q3204 : (Jvm.Cond.sameMethod "java/lang/AbstractStringBuilder" "java/lang/AbstractStringBuilder" "inflateIfNeededFor" "(Ljava/lang/String;)V") ∈ lw_all := lw_g (lw_at lw_m13 200 rfl) rfl
theorem q3205 : (Jvm.Cond.sameMethod "java/lang/AbstractStringBuilder" "java/lang/AbstractStringBuilder" "inflate" "()V") ∈ lw_all := lw_g (lw_at lw_m13 201 rfl) rfl
theorem q3206 : (Jvm.Cond.sameMethod "java/lang/AbstractStringBuilder" "java/lang/AbstractStringBuilder" "append" "(I)Ljava/lang/AbstractStringBuilder;") ∈ lw_all := lw_g (lw_at lw_m13 202 rfl) rfl
theorem q3211 : (Jvm.Cond.sameMethod "java/lang/AbstractStringBuilder" "java/lang/AbstractStringBuilder" "append" "(C)Ljava/lang/AbstractStringBuilder;") ∈ lw_all := lw_g (lw_at lw_m13 207 rfl) rfl
/-! java/lang/StringBuilder -/
def RJ8 : String := "java/lang/StringBuilder"
def TJ8 : u_T := fun k => match k with
  | 0 => ("java/lang/AbstractStringBuilder", "value", "[B", false)
  | 1 => ("java/lang/AbstractStringBuilder", "coder", "B", false)
  | 2 => ("java/lang/AbstractStringBuilder", "maybeLatin1", "Z", false)
  | _ => ("java/lang/AbstractStringBuilder", "count", "I", false)
def tyJ8 : Nat → FieldType := fun k => match k with
  | 0 => .array .byte
  | 1 => .byte
  | 2 => .boolean
  | _ => .int
abbrev wsJ80 : List Cond := u_ws RJ8 TJ8 4
theorem nmJ8 : ∀ a, a < 4 → ∀ b, b < 4 → a ≠ b → (TJ8 a).2.1 ≠ (TJ8 b).2.1 := by decide +kernel
theorem tyJ8_ok : ∀ k, k < 4 → parseFieldDescriptor (TJ8 k).2.2.1 = some (tyJ8 k) := by decide +kernel
abbrev cJ8_init : ByteArray := prog_57_method_1_code
def yJ8_init : MethodName := ⟨RJ8, "<init>", "()V"⟩
abbrev cJ8_append : ByteArray := prog_57_method_7_code
def yJ8_append : MethodName := ⟨RJ8, "append", "(Ljava/lang/String;)Ljava/lang/StringBuilder;"⟩
abbrev cJ8_append_2 : ByteArray := prog_57_method_15_code
def yJ8_append_2 : MethodName := ⟨RJ8, "append", "(I)Ljava/lang/StringBuilder;"⟩
abbrev cJ8_toString : ByteArray := prog_57_method_42_code
def yJ8_toString : MethodName := ⟨RJ8, "toString", "()Ljava/lang/String;"⟩
abbrev cJ8_length : ByteArray := prog_57_method_93_code
def yJ8_length : MethodName := ⟨RJ8, "length", "()I"⟩
abbrev cJ8_append_3 : ByteArray := prog_57_method_14_code
def yJ8_append_3 : MethodName := ⟨RJ8, "append", "(C)Ljava/lang/StringBuilder;"⟩
theorem q135 : (Jvm.Cond.initialized "java/lang/StringBuilder") ∈ lw_all := lw_g (lw_at lw_m1 11 rfl) rfl
theorem q257 : (Jvm.Cond.instantiable "java/lang/StringBuilder" (4 : Nat)) ∈ lw_all := lw_g (lw_at lw_m1 133 rfl) rfl
theorem q259 : (Jvm.Cond.instanceMethod ({ cls := "java/lang/StringBuilder", name := "<init>", desc := "()V" } : Jvm.MethodName)) ∈ lw_all := lw_g (lw_at lw_m1 135 rfl) rfl
theorem q260 : (Jvm.Cond.code ({ cls := "java/lang/StringBuilder", name := "<init>", desc := "()V" } : Jvm.MethodName) prog_57_method_1_code (1 : Nat) (Option.none : Option Jvm.ClassFile.FieldType)) ∈ lw_all := lw_g (lw_at lw_m1 136 rfl) rfl
theorem q261 : (Jvm.Cond.methodLink "java/lang/StringBuilder" (1 : Nat) ({ cls := "java/lang/AbstractStringBuilder", name := "<init>", desc := "(I)V" } : Jvm.MethodName)) ∈ lw_all := lw_g (lw_at lw_m1 137 rfl) rfl
theorem q311 : (Jvm.Cond.lays "java/lang/StringBuilder" "java/lang/AbstractStringBuilder" "value" "[B") ∈ lw_all := lw_g (lw_at lw_m1 187 rfl) rfl
theorem q313 : (Jvm.Cond.lays "java/lang/StringBuilder" "java/lang/AbstractStringBuilder" "coder" "B") ∈ lw_all := lw_g (lw_at lw_m1 189 rfl) rfl
theorem q315 : (Jvm.Cond.lays "java/lang/StringBuilder" "java/lang/AbstractStringBuilder" "maybeLatin1" "Z") ∈ lw_all := lw_g (lw_at lw_m1 191 rfl) rfl
theorem q317 : (Jvm.Cond.lays "java/lang/StringBuilder" "java/lang/AbstractStringBuilder" "count" "I") ∈ lw_all := lw_g (lw_at lw_m1 193 rfl) rfl
theorem q319 : (Jvm.Cond.superclass "java/lang/StringBuilder" "java/lang/AbstractStringBuilder") ∈ lw_all := lw_g (lw_at lw_m1 195 rfl) rfl
theorem q322 : (Jvm.Cond.instanceMethod ({ cls := "java/lang/StringBuilder", name := "append", desc := "(Ljava/lang/String;)Ljava/lang/StringBuilder;" } : Jvm.MethodName)) ∈ lw_all := lw_g (lw_at lw_m1 198 rfl) rfl
theorem q323 : (Jvm.Cond.selects "java/lang/StringBuilder" ({ cls := "java/lang/StringBuilder", name := "append", desc := "(Ljava/lang/String;)Ljava/lang/StringBuilder;" } : Jvm.MethodName) ({ cls := "java/lang/StringBuilder", name := "append", desc := "(Ljava/lang/String;)Ljava/lang/StringBuilder;" } : Jvm.MethodName)) ∈ lw_all := lw_g (lw_at lw_m1 199 rfl) rfl
theorem q324 : (Jvm.Cond.code ({ cls := "java/lang/StringBuilder", name := "append", desc := "(Ljava/lang/String;)Ljava/lang/StringBuilder;" } : Jvm.MethodName) prog_57_method_7_code (2 : Nat) (Option.some (Jvm.ClassFile.FieldType.object "java/lang/StringBuilder"))) ∈ lw_all := lw_g (lw_at lw_m1 200 rfl) rfl
theorem q325 : (Jvm.Cond.methodLink "java/lang/StringBuilder" (29 : Nat) ({ cls := "java/lang/AbstractStringBuilder", name := "append", desc := "(Ljava/lang/String;)Ljava/lang/AbstractStringBuilder;" } : Jvm.MethodName)) ∈ lw_all := lw_g (lw_at lw_m1 201 rfl) rfl
theorem q370 : (Jvm.Cond.selects "java/lang/StringBuilder" ({ cls := "java/lang/AbstractStringBuilder", name := "isLatin1", desc := "()Z" } : Jvm.MethodName) ({ cls := "java/lang/AbstractStringBuilder", name := "isLatin1", desc := "()Z" } : Jvm.MethodName)) ∈ lw_all := lw_g (lw_at lw_m2 6 rfl) rfl
theorem q442 : (Jvm.Cond.instanceMethod ({ cls := "java/lang/StringBuilder", name := "append", desc := "(I)Ljava/lang/StringBuilder;" } : Jvm.MethodName)) ∈ lw_all := lw_g (lw_at lw_m2 78 rfl) rfl
theorem q443 : (Jvm.Cond.selects "java/lang/StringBuilder" ({ cls := "java/lang/StringBuilder", name := "append", desc := "(I)Ljava/lang/StringBuilder;" } : Jvm.MethodName) ({ cls := "java/lang/StringBuilder", name := "append", desc := "(I)Ljava/lang/StringBuilder;" } : Jvm.MethodName)) ∈ lw_all := lw_g (lw_at lw_m2 79 rfl) rfl
theorem q444 : (Jvm.Cond.code ({ cls := "java/lang/StringBuilder", name := "append", desc := "(I)Ljava/lang/StringBuilder;" } : Jvm.MethodName) prog_57_method_15_code (2 : Nat) (Option.some (Jvm.ClassFile.FieldType.object "java/lang/StringBuilder"))) ∈ lw_all := lw_g (lw_at lw_m2 80 rfl) rfl
theorem q445 : (Jvm.Cond.methodLink "java/lang/StringBuilder" (53 : Nat) ({ cls := "java/lang/AbstractStringBuilder", name := "append", desc := "(I)Ljava/lang/AbstractStringBuilder;" } : Jvm.MethodName)) ∈ lw_all := lw_g (lw_at lw_m2 81 rfl) rfl
theorem q467 : (Jvm.Cond.instanceMethod ({ cls := "java/lang/StringBuilder", name := "toString", desc := "()Ljava/lang/String;" } : Jvm.MethodName)) ∈ lw_all := lw_g (lw_at lw_m2 103 rfl) rfl
theorem q468 : (Jvm.Cond.selects "java/lang/StringBuilder" ({ cls := "java/lang/StringBuilder", name := "toString", desc := "()Ljava/lang/String;" } : Jvm.MethodName) ({ cls := "java/lang/StringBuilder", name := "toString", desc := "()Ljava/lang/String;" } : Jvm.MethodName)) ∈ lw_all := lw_g (lw_at lw_m2 104 rfl) rfl
theorem q469 : (Jvm.Cond.code ({ cls := "java/lang/StringBuilder", name := "toString", desc := "()Ljava/lang/String;" } : Jvm.MethodName) prog_57_method_42_code (1 : Nat) (Option.some (Jvm.ClassFile.FieldType.object "java/lang/String"))) ∈ lw_all := lw_g (lw_at lw_m2 105 rfl) rfl
theorem q470 : (Jvm.Cond.classLink "java/lang/StringBuilder" (18 : Nat) "java/lang/String") ∈ lw_all := lw_g (lw_at lw_m2 106 rfl) rfl
theorem q472 : (Jvm.Cond.methodLink "java/lang/StringBuilder" (137 : Nat) ({ cls := "java/lang/String", name := "<init>", desc := "(Ljava/lang/StringBuilder;)V" } : Jvm.MethodName)) ∈ lw_all := lw_g (lw_at lw_m2 108 rfl) rfl
theorem q482 : (Jvm.Cond.selects "java/lang/StringBuilder" ({ cls := "java/lang/AbstractStringBuilder", name := "getValue", desc := "()[B" } : Jvm.MethodName) ({ cls := "java/lang/AbstractStringBuilder", name := "getValue", desc := "()[B" } : Jvm.MethodName)) ∈ lw_all := lw_g (lw_at lw_m2 118 rfl) rfl
theorem q487 : (Jvm.Cond.selects "java/lang/StringBuilder" ({ cls := "java/lang/AbstractStringBuilder", name := "length", desc := "()I" } : Jvm.MethodName) ({ cls := "java/lang/StringBuilder", name := "length", desc := "()I" } : Jvm.MethodName)) ∈ lw_all := lw_g (lw_at lw_m2 123 rfl) rfl
theorem q488 : (Jvm.Cond.instanceMethod ({ cls := "java/lang/StringBuilder", name := "length", desc := "()I" } : Jvm.MethodName)) ∈ lw_all := lw_g (lw_at lw_m2 124 rfl) rfl
theorem q489 : (Jvm.Cond.code ({ cls := "java/lang/StringBuilder", name := "length", desc := "()I" } : Jvm.MethodName) prog_57_method_93_code (1 : Nat) (Option.some Jvm.ClassFile.FieldType.int)) ∈ lw_all := lw_g (lw_at lw_m2 125 rfl) rfl
theorem q490 : (Jvm.Cond.methodLink "java/lang/StringBuilder" (343 : Nat) ({ cls := "java/lang/AbstractStringBuilder", name := "length", desc := "()I" } : Jvm.MethodName)) ∈ lw_all := lw_g (lw_at lw_m2 126 rfl) rfl
theorem q693 : (Jvm.Cond.selects "java/lang/StringBuilder" ({ cls := "java/lang/Object", name := "getClass", desc := "()Ljava/lang/Class;" } : Jvm.MethodName) ({ cls := "java/lang/Object", name := "getClass", desc := "()Ljava/lang/Class;" } : Jvm.MethodName)) ∈ lw_all := lw_g (lw_at lw_m3 89 rfl) rfl
theorem q1661 : (Jvm.Cond.selects "java/lang/StringBuilder" ({ cls := "java/lang/Object", name := "equals", desc := "(Ljava/lang/Object;)Z" } : Jvm.MethodName) ({ cls := "java/lang/Object", name := "equals", desc := "(Ljava/lang/Object;)Z" } : Jvm.MethodName)) ∈ lw_all := lw_g (lw_at lw_m7 97 rfl) rfl
theorem q1908 : (Jvm.Cond.instanceMethod ({ cls := "java/lang/StringBuilder", name := "append", desc := "(C)Ljava/lang/StringBuilder;" } : Jvm.MethodName)) ∈ lw_all := lw_g (lw_at lw_m8 104 rfl) rfl
theorem q1909 : (Jvm.Cond.selects "java/lang/StringBuilder" ({ cls := "java/lang/StringBuilder", name := "append", desc := "(C)Ljava/lang/StringBuilder;" } : Jvm.MethodName) ({ cls := "java/lang/StringBuilder", name := "append", desc := "(C)Ljava/lang/StringBuilder;" } : Jvm.MethodName)) ∈ lw_all := lw_g (lw_at lw_m8 105 rfl) rfl
theorem q1910 : (Jvm.Cond.code ({ cls := "java/lang/StringBuilder", name := "append", desc := "(C)Ljava/lang/StringBuilder;" } : Jvm.MethodName) prog_57_method_14_code (2 : Nat) (Option.some (Jvm.ClassFile.FieldType.object "java/lang/StringBuilder"))) ∈ lw_all := lw_g (lw_at lw_m8 106 rfl) rfl
theorem q1911 : (Jvm.Cond.methodLink "java/lang/StringBuilder" (50 : Nat) ({ cls := "java/lang/AbstractStringBuilder", name := "append", desc := "(C)Ljava/lang/AbstractStringBuilder;" } : Jvm.MethodName)) ∈ lw_all := lw_g (lw_at lw_m8 107 rfl) rfl
theorem q3210 : (Jvm.Cond.selects "java/lang/StringBuilder" ({ cls := "java/lang/StringBuilder", name := "length", desc := "()I" } : Jvm.MethodName) ({ cls := "java/lang/StringBuilder", name := "length", desc := "()I" } : Jvm.MethodName)) ∈ lw_all := lw_g (lw_at lw_m13 206 rfl) rfl
theorem q3243 : (Jvm.Cond.castable "java/lang/StringBuilder" "java/lang/Object") ∈ lw_tbl := lw_at lw_m13 239 rfl
theorem in_J8 : ∀ w ∈ wsJ80, w ∈ lw_all := lw_in wsJ80 [311, 313, 315, 317] (by decide +kernel) (by decide +kernel)
/-! java/lang/String -/
def RJ9 : String := "java/lang/String"
def TJ9 : u_T := fun k => match k with
  | 0 => ("java/lang/String", "value", "[B", true)
  | 1 => ("java/lang/String", "coder", "B", true)
  | 2 => ("java/lang/String", "hash", "I", false)
  | _ => ("java/lang/String", "hashIsZero", "Z", false)
def tyJ9 : Nat → FieldType := fun k => match k with
  | 0 => .array .byte
  | 1 => .byte
  | 2 => .int
  | _ => .boolean
abbrev wsJ90 : List Cond := u_ws RJ9 TJ9 4
theorem nmJ9 : ∀ a, a < 4 → ∀ b, b < 4 → a ≠ b → (TJ9 a).2.1 ≠ (TJ9 b).2.1 := by decide +kernel
theorem tyJ9_ok : ∀ k, k < 4 → parseFieldDescriptor (TJ9 k).2.2.1 = some (tyJ9 k) := by decide +kernel
abbrev cJ9_checkBoundsBeginEnd : ByteArray := prog_56_method_158_code
def yJ9_checkBoundsBeginEnd : MethodName := ⟨RJ9, "checkBoundsBeginEnd", "(III)V"⟩
abbrev cJ9_length : ByteArray := prog_56_method_54_code
def yJ9_length : MethodName := ⟨RJ9, "length", "()I"⟩
abbrev cJ9_coder : ByteArray := prog_56_method_152_code
def yJ9_coder : MethodName := ⟨RJ9, "coder", "()B"⟩
abbrev cJ9_checkBoundsOffCount : ByteArray := prog_56_method_157_code
def yJ9_checkBoundsOffCount : MethodName := ⟨RJ9, "checkBoundsOffCount", "(III)I"⟩
abbrev cJ9_getBytes : ByteArray := prog_56_method_147_code
def yJ9_getBytes : MethodName := ⟨RJ9, "getBytes", "([BIB)V"⟩
abbrev cJ9_init : ByteArray := prog_56_method_53_code
def yJ9_init : MethodName := ⟨RJ9, "<init>", "(Ljava/lang/StringBuilder;)V"⟩
abbrev cJ9_init_2 : ByteArray := prog_56_method_150_code
def yJ9_init_2 : MethodName := ⟨RJ9, "<init>", "(Ljava/lang/AbstractStringBuilder;Ljava/lang/Void;)V"⟩
abbrev cJ9_equals : ByteArray := prog_56_method_66_code
def yJ9_equals : MethodName := ⟨RJ9, "equals", "(Ljava/lang/Object;)Z"⟩
abbrev cJ9_checkIndex : ByteArray := prog_56_method_155_code
def yJ9_checkIndex : MethodName := ⟨RJ9, "checkIndex", "(II)V"⟩
abbrev cJ9_hashCode : ByteArray := prog_56_method_78_code
def yJ9_hashCode : MethodName := ⟨RJ9, "hashCode", "()I"⟩
abbrev cJ9_isLatin1 : ByteArray := prog_56_method_154_code
def yJ9_isLatin1 : MethodName := ⟨RJ9, "isLatin1", "()Z"⟩
abbrev cJ9_charAt : ByteArray := prog_56_method_56_code
def yJ9_charAt : MethodName := ⟨RJ9, "charAt", "(I)C"⟩
theorem q136 : (Jvm.Cond.initialized "java/lang/String") ∈ lw_all := lw_g (lw_at lw_m1 12 rfl) rfl
theorem q266 : (Jvm.Cond.laysStatic "java/lang/String" "COMPACT_STRINGS" "Z") ∈ lw_tbl := lw_at lw_m1 142 rfl
theorem q309 : (Jvm.Cond.fieldLink "java/lang/String" (1048 : Nat) "java/lang/AbstractStringBuilder" "maybeLatin1" "Z") ∈ lw_all := lw_g (lw_at lw_m1 185 rfl) rfl
theorem q382 : (Jvm.Cond.static ({ cls := "java/lang/String", name := "checkBoundsBeginEnd", desc := "(III)V" } : Jvm.MethodName)) ∈ lw_all := lw_g (lw_at lw_m2 18 rfl) rfl
theorem q383 : (Jvm.Cond.code ({ cls := "java/lang/String", name := "checkBoundsBeginEnd", desc := "(III)V" } : Jvm.MethodName) prog_56_method_158_code (3 : Nat) (Option.none : Option Jvm.ClassFile.FieldType)) ∈ lw_all := lw_g (lw_at lw_m2 19 rfl) rfl
theorem q384 : (Jvm.Cond.fieldLink "java/lang/String" (1053 : Nat) "jdk/internal/util/Preconditions" "SIOOBE_FORMATTER" "Ljava/util/function/BiFunction;") ∈ lw_all := lw_g (lw_at lw_m2 20 rfl) rfl
theorem q386 : (Jvm.Cond.methodLink "java/lang/String" (1062 : Nat) ({ cls := "jdk/internal/util/Preconditions", name := "checkFromToIndex", desc := "(IIILjava/util/function/BiFunction;)I" } : Jvm.MethodName)) ∈ lw_all := lw_g (lw_at lw_m2 22 rfl) rfl
theorem q399 : (Jvm.Cond.instanceMethod ({ cls := "java/lang/String", name := "length", desc := "()I" } : Jvm.MethodName)) ∈ lw_all := lw_g (lw_at lw_m2 35 rfl) rfl
theorem q400 : (Jvm.Cond.selects "java/lang/String" ({ cls := "java/lang/String", name := "length", desc := "()I" } : Jvm.MethodName) ({ cls := "java/lang/String", name := "length", desc := "()I" } : Jvm.MethodName)) ∈ lw_all := lw_g (lw_at lw_m2 36 rfl) rfl
theorem q401 : (Jvm.Cond.code ({ cls := "java/lang/String", name := "length", desc := "()I" } : Jvm.MethodName) prog_56_method_54_code (1 : Nat) (Option.some Jvm.ClassFile.FieldType.int)) ∈ lw_all := lw_g (lw_at lw_m2 37 rfl) rfl
theorem q402 : (Jvm.Cond.methodLink "java/lang/String" (335 : Nat) ({ cls := "java/lang/String", name := "coder", desc := "()B" } : Jvm.MethodName)) ∈ lw_all := lw_g (lw_at lw_m2 38 rfl) rfl
theorem q403 : (Jvm.Cond.instanceMethod ({ cls := "java/lang/String", name := "coder", desc := "()B" } : Jvm.MethodName)) ∈ lw_all := lw_g (lw_at lw_m2 39 rfl) rfl
theorem q404 : (Jvm.Cond.selects "java/lang/String" ({ cls := "java/lang/String", name := "coder", desc := "()B" } : Jvm.MethodName) ({ cls := "java/lang/String", name := "coder", desc := "()B" } : Jvm.MethodName)) ∈ lw_all := lw_g (lw_at lw_m2 40 rfl) rfl
theorem q405 : (Jvm.Cond.code ({ cls := "java/lang/String", name := "coder", desc := "()B" } : Jvm.MethodName) prog_56_method_152_code (1 : Nat) (Option.some Jvm.ClassFile.FieldType.byte)) ∈ lw_all := lw_g (lw_at lw_m2 41 rfl) rfl
theorem q406 : (Jvm.Cond.fieldLink "java/lang/String" (38 : Nat) "java/lang/String" "COMPACT_STRINGS" "Z") ∈ lw_all := lw_g (lw_at lw_m2 42 rfl) rfl
theorem q430 : (Jvm.Cond.static ({ cls := "java/lang/String", name := "checkBoundsOffCount", desc := "(III)I" } : Jvm.MethodName)) ∈ lw_all := lw_g (lw_at lw_m2 66 rfl) rfl
theorem q431 : (Jvm.Cond.code ({ cls := "java/lang/String", name := "checkBoundsOffCount", desc := "(III)I" } : Jvm.MethodName) prog_56_method_157_code (3 : Nat) (Option.some Jvm.ClassFile.FieldType.int)) ∈ lw_all := lw_g (lw_at lw_m2 67 rfl) rfl
theorem q432 : (Jvm.Cond.methodLink "java/lang/String" (1065 : Nat) ({ cls := "jdk/internal/util/Preconditions", name := "checkFromIndexSize", desc := "(IIILjava/util/function/BiFunction;)I" } : Jvm.MethodName)) ∈ lw_all := lw_g (lw_at lw_m2 68 rfl) rfl
theorem q436 : (Jvm.Cond.instanceMethod ({ cls := "java/lang/String", name := "getBytes", desc := "([BIB)V" } : Jvm.MethodName)) ∈ lw_all := lw_g (lw_at lw_m2 72 rfl) rfl
theorem q437 : (Jvm.Cond.selects "java/lang/String" ({ cls := "java/lang/String", name := "getBytes", desc := "([BIB)V" } : Jvm.MethodName) ({ cls := "java/lang/String", name := "getBytes", desc := "([BIB)V" } : Jvm.MethodName)) ∈ lw_all := lw_g (lw_at lw_m2 73 rfl) rfl
theorem q438 : (Jvm.Cond.code ({ cls := "java/lang/String", name := "getBytes", desc := "([BIB)V" } : Jvm.MethodName) prog_56_method_147_code (4 : Nat) (Option.none : Option Jvm.ClassFile.FieldType)) ∈ lw_all := lw_g (lw_at lw_m2 74 rfl) rfl
theorem q439 : (Jvm.Cond.methodLink "java/lang/String" (212 : Nat) ({ cls := "java/lang/System", name := "arraycopy", desc := "(Ljava/lang/Object;ILjava/lang/Object;II)V" } : Jvm.MethodName)) ∈ lw_all := lw_g (lw_at lw_m2 75 rfl) rfl
theorem q440 : (Jvm.Cond.methodLink "java/lang/String" (106 : Nat) ({ cls := "java/lang/StringLatin1", name := "inflate", desc := "([BI[BII)V" } : Jvm.MethodName)) ∈ lw_all := lw_g (lw_at lw_m2 76 rfl) rfl
theorem q471 : (Jvm.Cond.instantiable "java/lang/String" (4 : Nat)) ∈ lw_all := lw_g (lw_at lw_m2 107 rfl) rfl
theorem q473 : (Jvm.Cond.instanceMethod ({ cls := "java/lang/String", name := "<init>", desc := "(Ljava/lang/StringBuilder;)V" } : Jvm.MethodName)) ∈ lw_all := lw_g (lw_at lw_m2 109 rfl) rfl
theorem q474 : (Jvm.Cond.code ({ cls := "java/lang/String", name := "<init>", desc := "(Ljava/lang/StringBuilder;)V" } : Jvm.MethodName) prog_56_method_53_code (2 : Nat) (Option.none : Option Jvm.ClassFile.FieldType)) ∈ lw_all := lw_g (lw_at lw_m2 110 rfl) rfl
theorem q475 : (Jvm.Cond.methodLink "java/lang/String" (489 : Nat) ({ cls := "java/lang/String", name := "<init>", desc := "(Ljava/lang/AbstractStringBuilder;Ljava/lang/Void;)V" } : Jvm.MethodName)) ∈ lw_all := lw_g (lw_at lw_m2 111 rfl) rfl
theorem q476 : (Jvm.Cond.instanceMethod ({ cls := "java/lang/String", name := "<init>", desc := "(Ljava/lang/AbstractStringBuilder;Ljava/lang/Void;)V" } : Jvm.MethodName)) ∈ lw_all := lw_g (lw_at lw_m2 112 rfl) rfl
theorem q477 : (Jvm.Cond.code ({ cls := "java/lang/String", name := "<init>", desc := "(Ljava/lang/AbstractStringBuilder;Ljava/lang/Void;)V" } : Jvm.MethodName) prog_56_method_150_code (5 : Nat) (Option.none : Option Jvm.ClassFile.FieldType)) ∈ lw_all := lw_g (lw_at lw_m2 113 rfl) rfl
theorem q478 : (Jvm.Cond.methodLink "java/lang/String" (1 : Nat) ({ cls := "java/lang/Object", name := "<init>", desc := "()V" } : Jvm.MethodName)) ∈ lw_all := lw_g (lw_at lw_m2 114 rfl) rfl
theorem q479 : (Jvm.Cond.methodLink "java/lang/String" (552 : Nat) ({ cls := "java/lang/AbstractStringBuilder", name := "getValue", desc := "()[B" } : Jvm.MethodName)) ∈ lw_all := lw_g (lw_at lw_m2 115 rfl) rfl
theorem q484 : (Jvm.Cond.methodLink "java/lang/String" (549 : Nat) ({ cls := "java/lang/AbstractStringBuilder", name := "length", desc := "()I" } : Jvm.MethodName)) ∈ lw_all := lw_g (lw_at lw_m2 120 rfl) rfl
theorem q492 : (Jvm.Cond.methodLink "java/lang/String" (1047 : Nat) ({ cls := "java/lang/AbstractStringBuilder", name := "isLatin1", desc := "()Z" } : Jvm.MethodName)) ∈ lw_all := lw_g (lw_at lw_m2 128 rfl) rfl
theorem q493 : (Jvm.Cond.methodLink "java/lang/String" (54 : Nat) ({ cls := "java/util/Arrays", name := "copyOfRange", desc := "([BII)[B" } : Jvm.MethodName)) ∈ lw_all := lw_g (lw_at lw_m2 129 rfl) rfl
theorem q523 : (Jvm.Cond.methodLink "java/lang/String" (1051 : Nat) ({ cls := "java/lang/StringUTF16", name := "compress", desc := "([BII)[B" } : Jvm.MethodName)) ∈ lw_all := lw_g (lw_at lw_m2 159 rfl) rfl
theorem q533 : (Jvm.Cond.methodLink "java/lang/String" (47 : Nat) ({ cls := "java/lang/StringUTF16", name := "coderFromArrayLen", desc := "([BI)B" } : Jvm.MethodName)) ∈ lw_all := lw_g (lw_at lw_m2 169 rfl) rfl
theorem q536 : (Jvm.Cond.fieldLink "java/lang/String" (9 : Nat) "java/lang/String" "value" "[B") ∈ lw_all := lw_g (lw_at lw_m2 172 rfl) rfl
theorem q537 : (Jvm.Cond.fieldLink "java/lang/String" (15 : Nat) "java/lang/String" "coder" "B") ∈ lw_all := lw_g (lw_at lw_m2 173 rfl) rfl
theorem q538 : (Jvm.Cond.fieldLink "java/lang/String" (19 : Nat) "java/lang/String" "hash" "I") ∈ lw_all := lw_g (lw_at lw_m2 174 rfl) rfl
theorem q539 : (Jvm.Cond.fieldLink "java/lang/String" (23 : Nat) "java/lang/String" "hashIsZero" "Z") ∈ lw_all := lw_g (lw_at lw_m2 175 rfl) rfl
theorem q540 : (Jvm.Cond.laysFinal "java/lang/String" "java/lang/String" "value" "[B") ∈ lw_all := lw_g (lw_at lw_m2 176 rfl) rfl
theorem q541 : (Jvm.Cond.soleField "java/lang/String" "value") ∈ lw_all := lw_g (lw_at lw_m2 177 rfl) rfl
theorem q542 : (Jvm.Cond.laysFinal "java/lang/String" "java/lang/String" "coder" "B") ∈ lw_all := lw_g (lw_at lw_m2 178 rfl) rfl
theorem q543 : (Jvm.Cond.soleField "java/lang/String" "coder") ∈ lw_all := lw_g (lw_at lw_m2 179 rfl) rfl
theorem q544 : (Jvm.Cond.lays "java/lang/String" "java/lang/String" "hash" "I") ∈ lw_all := lw_g (lw_at lw_m2 180 rfl) rfl
theorem q545 : (Jvm.Cond.soleField "java/lang/String" "hash") ∈ lw_all := lw_g (lw_at lw_m2 181 rfl) rfl
theorem q546 : (Jvm.Cond.lays "java/lang/String" "java/lang/String" "hashIsZero" "Z") ∈ lw_all := lw_g (lw_at lw_m2 182 rfl) rfl
theorem q547 : (Jvm.Cond.soleField "java/lang/String" "hashIsZero") ∈ lw_all := lw_g (lw_at lw_m2 183 rfl) rfl
theorem q548 : (Jvm.Cond.superclass "java/lang/String" "java/lang/Object") ∈ lw_all := lw_g (lw_at lw_m2 184 rfl) rfl
theorem q692 : (Jvm.Cond.selects "java/lang/String" ({ cls := "java/lang/Object", name := "getClass", desc := "()Ljava/lang/Class;" } : Jvm.MethodName) ({ cls := "java/lang/Object", name := "getClass", desc := "()Ljava/lang/Class;" } : Jvm.MethodName)) ∈ lw_all := lw_g (lw_at lw_m3 88 rfl) rfl
theorem q1654 : (Jvm.Cond.selects "java/lang/String" ({ cls := "java/lang/Object", name := "equals", desc := "(Ljava/lang/Object;)Z" } : Jvm.MethodName) ({ cls := "java/lang/String", name := "equals", desc := "(Ljava/lang/Object;)Z" } : Jvm.MethodName)) ∈ lw_all := lw_g (lw_at lw_m7 90 rfl) rfl
theorem q1655 : (Jvm.Cond.instanceMethod ({ cls := "java/lang/String", name := "equals", desc := "(Ljava/lang/Object;)Z" } : Jvm.MethodName)) ∈ lw_all := lw_g (lw_at lw_m7 91 rfl) rfl
theorem q1656 : (Jvm.Cond.code ({ cls := "java/lang/String", name := "equals", desc := "(Ljava/lang/Object;)Z" } : Jvm.MethodName) prog_56_method_66_code (3 : Nat) (Option.some Jvm.ClassFile.FieldType.boolean)) ∈ lw_all := lw_g (lw_at lw_m7 92 rfl) rfl
theorem q1657 : (Jvm.Cond.classLink "java/lang/String" (10 : Nat) "java/lang/String") ∈ lw_all := lw_g (lw_at lw_m7 93 rfl) rfl
theorem q1658 : (Jvm.Cond.methodLink "java/lang/String" (541 : Nat) ({ cls := "java/lang/StringLatin1", name := "equals", desc := "([B[B)Z" } : Jvm.MethodName)) ∈ lw_all := lw_g (lw_at lw_m7 94 rfl) rfl
theorem q1924 : (Jvm.Cond.static ({ cls := "java/lang/String", name := "checkIndex", desc := "(II)V" } : Jvm.MethodName)) ∈ lw_all := lw_g (lw_at lw_m8 120 rfl) rfl
theorem q1925 : (Jvm.Cond.code ({ cls := "java/lang/String", name := "checkIndex", desc := "(II)V" } : Jvm.MethodName) prog_56_method_155_code (2 : Nat) (Option.none : Option Jvm.ClassFile.FieldType)) ∈ lw_all := lw_g (lw_at lw_m8 121 rfl) rfl
theorem q1926 : (Jvm.Cond.methodLink "java/lang/String" (1059 : Nat) ({ cls := "jdk/internal/util/Preconditions", name := "checkIndex", desc := "(IILjava/util/function/BiFunction;)I" } : Jvm.MethodName)) ∈ lw_all := lw_g (lw_at lw_m8 122 rfl) rfl
theorem q1932 : (Jvm.Cond.instanceMethod ({ cls := "java/lang/String", name := "hashCode", desc := "()I" } : Jvm.MethodName)) ∈ lw_all := lw_g (lw_at lw_m8 128 rfl) rfl
theorem q1933 : (Jvm.Cond.selects "java/lang/String" ({ cls := "java/lang/String", name := "hashCode", desc := "()I" } : Jvm.MethodName) ({ cls := "java/lang/String", name := "hashCode", desc := "()I" } : Jvm.MethodName)) ∈ lw_all := lw_g (lw_at lw_m8 129 rfl) rfl
theorem q1934 : (Jvm.Cond.code ({ cls := "java/lang/String", name := "hashCode", desc := "()I" } : Jvm.MethodName) prog_56_method_78_code (2 : Nat) (Option.some Jvm.ClassFile.FieldType.int)) ∈ lw_all := lw_g (lw_at lw_m8 130 rfl) rfl
theorem q1935 : (Jvm.Cond.methodLink "java/lang/String" (492 : Nat) ({ cls := "java/lang/String", name := "isLatin1", desc := "()Z" } : Jvm.MethodName)) ∈ lw_all := lw_g (lw_at lw_m8 131 rfl) rfl
theorem q1936 : (Jvm.Cond.instanceMethod ({ cls := "java/lang/String", name := "isLatin1", desc := "()Z" } : Jvm.MethodName)) ∈ lw_all := lw_g (lw_at lw_m8 132 rfl) rfl
theorem q1937 : (Jvm.Cond.selects "java/lang/String" ({ cls := "java/lang/String", name := "isLatin1", desc := "()Z" } : Jvm.MethodName) ({ cls := "java/lang/String", name := "isLatin1", desc := "()Z" } : Jvm.MethodName)) ∈ lw_all := lw_g (lw_at lw_m8 133 rfl) rfl
theorem q1938 : (Jvm.Cond.code ({ cls := "java/lang/String", name := "isLatin1", desc := "()Z" } : Jvm.MethodName) prog_56_method_154_code (1 : Nat) (Option.some Jvm.ClassFile.FieldType.boolean)) ∈ lw_all := lw_g (lw_at lw_m8 134 rfl) rfl
theorem q1939 : (Jvm.Cond.methodLink "java/lang/String" (628 : Nat) ({ cls := "java/lang/StringLatin1", name := "hashCode", desc := "([B)I" } : Jvm.MethodName)) ∈ lw_all := lw_g (lw_at lw_m8 135 rfl) rfl
theorem q1988 : (Jvm.Cond.methodLink "java/lang/String" (632 : Nat) ({ cls := "java/lang/StringUTF16", name := "hashCode", desc := "([B)I" } : Jvm.MethodName)) ∈ lw_all := lw_g (lw_at lw_m8 184 rfl) rfl
theorem q2098 : (Jvm.Cond.instanceMethod ({ cls := "java/lang/String", name := "charAt", desc := "(I)C" } : Jvm.MethodName)) ∈ lw_all := lw_g (lw_at lw_m9 54 rfl) rfl
theorem q2099 : (Jvm.Cond.selects "java/lang/String" ({ cls := "java/lang/String", name := "charAt", desc := "(I)C" } : Jvm.MethodName) ({ cls := "java/lang/String", name := "charAt", desc := "(I)C" } : Jvm.MethodName)) ∈ lw_all := lw_g (lw_at lw_m9 55 rfl) rfl
theorem q2100 : (Jvm.Cond.code ({ cls := "java/lang/String", name := "charAt", desc := "(I)C" } : Jvm.MethodName) prog_56_method_56_code (2 : Nat) (Option.some Jvm.ClassFile.FieldType.char)) ∈ lw_all := lw_g (lw_at lw_m9 56 rfl) rfl
theorem q2101 : (Jvm.Cond.methodLink "java/lang/String" (495 : Nat) ({ cls := "java/lang/StringLatin1", name := "charAt", desc := "([BI)C" } : Jvm.MethodName)) ∈ lw_all := lw_g (lw_at lw_m9 57 rfl) rfl
theorem q2105 : (Jvm.Cond.methodLink "java/lang/String" (498 : Nat) ({ cls := "java/lang/StringUTF16", name := "charAt", desc := "([BI)C" } : Jvm.MethodName)) ∈ lw_all := lw_g (lw_at lw_m9 61 rfl) rfl
theorem q3212 : (Jvm.Cond.selects "java/lang/String" ({ cls := "java/lang/String", name := "equals", desc := "(Ljava/lang/Object;)Z" } : Jvm.MethodName) ({ cls := "java/lang/String", name := "equals", desc := "(Ljava/lang/Object;)Z" } : Jvm.MethodName)) ∈ lw_all := lw_g (lw_at lw_m13 208 rfl) rfl
theorem q3245 : (Jvm.Cond.castable "java/lang/String" "java/lang/Object") ∈ lw_tbl := lw_at lw_m14 1 rfl
theorem in_J9 : ∀ w ∈ wsJ90, w ∈ lw_all := lw_in wsJ90 [540, 542, 544, 546] (by decide +kernel) (by decide +kernel)
/-! the law's own entry -/
abbrev cL_law : ByteArray := code
/-! SettlerColonyLaw -/
def RX0 : String := "SettlerColonyLaw"
abbrev cX0_land : ByteArray := method_3_code
def yX0_land : MethodName := ⟨RX0, "land", "(LSettlerColony;IIZ[J)I"⟩
abbrev cX0_rain : ByteArray := method_4_code
def yX0_rain : MethodName := ⟨RX0, "rain", "(LSettlerColony;II[J)I"⟩
abbrev cX0_rains : ByteArray := method_5_code
def yX0_rains : MethodName := ⟨RX0, "rains", "(LSettlerColony;III[J)I"⟩
abbrev cX0_fell : ByteArray := method_6_code
def yX0_fell : MethodName := ⟨RX0, "fell", "(LSettlerColony;II[J)I"⟩
abbrev cX0_seen : ByteArray := method_7_code
def yX0_seen : MethodName := ⟨RX0, "seen", "(LSettlerColony;I[J)I"⟩
abbrev cX0_promise : ByteArray := method_8_code
def yX0_promise : MethodName := ⟨RX0, "promise", "(LSettlerColony;I[J)I"⟩
abbrev cX0_section : ByteArray := method_9_code
def yX0_section : MethodName := ⟨RX0, "section", "(LSettlerColony;II[J)I"⟩
abbrev cX0_is : ByteArray := method_10_code
def yX0_is : MethodName := ⟨RX0, "is", "(LSettlerColony;II[J)I"⟩
abbrev cX0_people : ByteArray := method_11_code
def yX0_people : MethodName := ⟨RX0, "people", "(LSettlerColony;III[J)I"⟩
abbrev cX0_person : ByteArray := method_12_code
def yX0_person : MethodName := ⟨RX0, "person", "(LSettlerColony;II[J)I"⟩
abbrev cX0_party : ByteArray := method_13_code
def yX0_party : MethodName := ⟨RX0, "party", "(LSettlerColony;I[J)I"⟩
abbrev cX0_queue : ByteArray := method_14_code
def yX0_queue : MethodName := ⟨RX0, "queue", "(LSettlerColony;II[J)I"⟩
abbrev cX0_where : ByteArray := method_15_code
def yX0_where : MethodName := ⟨RX0, "where", "(LSettlerColony;II[J)I"⟩
abbrev cX0_lot : ByteArray := method_16_code
def yX0_lot : MethodName := ⟨RX0, "lot", "(LSettlerColony;I[J)I"⟩
abbrev cX0_ask : ByteArray := method_17_code
def yX0_ask : MethodName := ⟨RX0, "ask", "(LSettlerColony;I[J)I"⟩
abbrev cX0_draw : ByteArray := method_18_code
def yX0_draw : MethodName := ⟨RX0, "draw", "(LSettlerColony;I[J)I"⟩
abbrev cX0_acre : ByteArray := method_19_code
def yX0_acre : MethodName := ⟨RX0, "acre", "(LSettlerColony;I[J)I"⟩
abbrev cX0_buy : ByteArray := method_20_code
def yX0_buy : MethodName := ⟨RX0, "buy", "(LSettlerColony;II[J)I"⟩
abbrev cX0_order : ByteArray := method_21_code
def yX0_order : MethodName := ⟨RX0, "order", "(LSettlerColony;I[J)I"⟩
abbrev cX0_choose : ByteArray := method_22_code
def yX0_choose : MethodName := ⟨RX0, "choose", "(LSettlerColony;II[J)I"⟩
abbrev cX0_run : ByteArray := method_23_code
def yX0_run : MethodName := ⟨RX0, "run", "(LSettlerColony;II[J)I"⟩
abbrev cX0_squat : ByteArray := method_24_code
def yX0_squat : MethodName := ⟨RX0, "squat", "(LSettlerColony;II[J)I"⟩
abbrev cX0_stock : ByteArray := method_25_code
def yX0_stock : MethodName := ⟨RX0, "stock", "(LSettlerColony;III[J)I"⟩
abbrev cX0_fence : ByteArray := method_26_code
def yX0_fence : MethodName := ⟨RX0, "fence", "(LSettlerColony;II[J)I"⟩
abbrev cX0_law : ByteArray := method_27_code
def yX0_law : MethodName := ⟨RX0, "law", "(LSettlerColony;I[J)I"⟩
abbrev cX0_vote : ByteArray := method_28_code
def yX0_vote : MethodName := ⟨RX0, "vote", "(LSettlerColony;IIZ[J)I"⟩
abbrev cX0_close : ByteArray := method_29_code
def yX0_close : MethodName := ⟨RX0, "close", "(LSettlerColony;I[J)I"⟩
abbrev cX0_assent : ByteArray := method_30_code
def yX0_assent : MethodName := ⟨RX0, "assent", "(LSettlerColony;IZ[J)I"⟩
abbrev cX0_force : ByteArray := method_31_code
def yX0_force : MethodName := ⟨RX0, "force", "(LSettlerColony;I[J)I"⟩
abbrev cX0_means : ByteArray := method_32_code
def yX0_means : MethodName := ⟨RX0, "means", "(LSettlerColony;II[J)I"⟩
abbrev cX0_why : ByteArray := method_33_code
def yX0_why : MethodName := ⟨RX0, "why", "(LSettlerColony;I[J)I"⟩
abbrev cX0_fund : ByteArray := method_34_code
def yX0_fund : MethodName := ⟨RX0, "fund", "(LSettlerColony;I[J)I"⟩
abbrev cX0_bill : ByteArray := method_35_code
def yX0_bill : MethodName := ⟨RX0, "bill", "(LSettlerColony;I[J)I"⟩
abbrev cX0_pass : ByteArray := method_36_code
def yX0_pass : MethodName := ⟨RX0, "pass", "(LSettlerColony;I[J)I"⟩
abbrev cX0_billed : ByteArray := method_37_code
def yX0_billed : MethodName := ⟨RX0, "billed", "(LSettlerColony;I[J)I"⟩
abbrev cX0_week : ByteArray := method_38_code
def yX0_week : MethodName := ⟨RX0, "week", "(LSettlerColony;I[J)I"⟩
abbrev cX0_as : ByteArray := method_39_code
def yX0_as : MethodName := ⟨RX0, "as", "(LSettlerColony;III[J)I"⟩
abbrev cX0_tried : ByteArray := method_40_code
def yX0_tried : MethodName := ⟨RX0, "tried", "(LSettlerColony;IIII[J)I"⟩
abbrev cX0_prices : ByteArray := method_41_code
def yX0_prices : MethodName := ⟨RX0, "prices", "(LSettlerColony;III)I"⟩
abbrev cX0_worst : ByteArray := method_42_code
def yX0_worst : MethodName := ⟨RX0, "worst", "(LSettlerColony;IIII)I"⟩
abbrev cX0_planned : ByteArray := method_43_code
def yX0_planned : MethodName := ⟨RX0, "planned", "(LSettlerColony;II[J)I"⟩
theorem q124 : (Jvm.Cond.initialized "SettlerColonyLaw") ∈ lw_all := lw_g (lw_at lw_m1 0 rfl) rfl
theorem q181 : (Jvm.Cond.classLink "SettlerColonyLaw" (8 : Nat) "SettlerColony") ∈ lw_all := lw_g (lw_at lw_m1 57 rfl) rfl
theorem q183 : (Jvm.Cond.methodLink "SettlerColonyLaw" (147 : Nat) ({ cls := "SettlerColony", name := "<init>", desc := "()V" } : Jvm.MethodName)) ∈ lw_all := lw_g (lw_at lw_m1 59 rfl) rfl
theorem q920 : (Jvm.Cond.methodLink "SettlerColonyLaw" (233 : Nat) ({ cls := "SettlerColony", name := "feed", desc := "(IIIII)I" } : Jvm.MethodName)) ∈ lw_all := lw_g (lw_at lw_m4 76 rfl) rfl
theorem q928 : (Jvm.Cond.methodLink "SettlerColonyLaw" (241 : Nat) ({ cls := "SettlerColony", name := "fault", desc := "()I" } : Jvm.MethodName)) ∈ lw_all := lw_g (lw_at lw_m4 84 rfl) rfl
theorem q932 : (Jvm.Cond.methodLink "SettlerColonyLaw" (264 : Nat) ({ cls := "SettlerColony", name := "quoted", desc := "()I" } : Jvm.MethodName)) ∈ lw_all := lw_g (lw_at lw_m4 88 rfl) rfl
theorem q1035 : (Jvm.Cond.methodLink "SettlerColonyLaw" (268 : Nat) ({ cls := "SettlerColony", name := "ship", desc := "(IIII)I" } : Jvm.MethodName)) ∈ lw_all := lw_g (lw_at lw_m4 191 rfl) rfl
theorem q1115 : (Jvm.Cond.methodLink "SettlerColonyLaw" (272 : Nat) ({ cls := "SettlerColony", name := "passages", desc := "()I" } : Jvm.MethodName)) ∈ lw_all := lw_g (lw_at lw_m5 31 rfl) rfl
theorem q1119 : (Jvm.Cond.methodLink "SettlerColonyLaw" (309 : Nat) ({ cls := "SettlerColony", name := "image", desc := "()I" } : Jvm.MethodName)) ∈ lw_all := lw_g (lw_at lw_m5 35 rfl) rfl
theorem q1170 : (Jvm.Cond.methodLink "SettlerColonyLaw" (313 : Nat) ({ cls := "SettlerColony", name := "number", desc := "(I)I" } : Jvm.MethodName)) ∈ lw_all := lw_g (lw_at lw_m5 86 rfl) rfl
theorem q1174 : (Jvm.Cond.methodLink "SettlerColonyLaw" (317 : Nat) ({ cls := "SettlerColony", name := "tear", desc := "(II)I" } : Jvm.MethodName)) ∈ lw_all := lw_g (lw_at lw_m5 90 rfl) rfl
theorem q1178 : (Jvm.Cond.methodLink "SettlerColonyLaw" (321 : Nat) ({ cls := "SettlerColony", name := "check", desc := "()I" } : Jvm.MethodName)) ∈ lw_all := lw_g (lw_at lw_m5 94 rfl) rfl
theorem q1182 : (Jvm.Cond.methodLink "SettlerColonyLaw" (325 : Nat) ({ cls := "SettlerColony", name := "count", desc := "(I)I" } : Jvm.MethodName)) ∈ lw_all := lw_g (lw_at lw_m5 98 rfl) rfl
theorem q1212 : (Jvm.Cond.methodLink "SettlerColonyLaw" (151 : Nat) ({ cls := "SettlerColonyLaw", name := "land", desc := "(LSettlerColony;IIZ[J)I" } : Jvm.MethodName)) ∈ lw_all := lw_g (lw_at lw_m5 128 rfl) rfl
theorem q1213 : (Jvm.Cond.static ({ cls := "SettlerColonyLaw", name := "land", desc := "(LSettlerColony;IIZ[J)I" } : Jvm.MethodName)) ∈ lw_all := lw_g (lw_at lw_m5 129 rfl) rfl
theorem q1214 : (Jvm.Cond.codeWith ({ cls := "SettlerColonyLaw", name := "land", desc := "(LSettlerColony;IIZ[J)I" } : Jvm.MethodName) method_3_code (6 : Nat) (Option.some Jvm.ClassFile.FieldType.int) [((0 : Nat), (12 : Nat), (15 : Nat), (13 : Nat)), ((0 : Nat), (12 : Nat), (19 : Nat), (15 : Nat))]) ∈ lw_all := lw_g (lw_at lw_m5 130 rfl) rfl
theorem q1215 : (Jvm.Cond.classLink "SettlerColonyLaw" (13 : Nat) "java/lang/IndexOutOfBoundsException") ∈ lw_all := lw_g (lw_at lw_m5 131 rfl) rfl
theorem q1234 : (Jvm.Cond.classLink "SettlerColonyLaw" (15 : Nat) "java/lang/IllegalArgumentException") ∈ lw_all := lw_g (lw_at lw_m5 150 rfl) rfl
theorem q1235 : (Jvm.Cond.methodLink "SettlerColonyLaw" (7 : Nat) ({ cls := "SettlerColony", name := "land", desc := "(IIZ)I" } : Jvm.MethodName)) ∈ lw_all := lw_g (lw_at lw_m5 151 rfl) rfl
theorem q1276 : (Jvm.Cond.methodLink "SettlerColonyLaw" (161 : Nat) ({ cls := "SettlerColonyLaw", name := "rain", desc := "(LSettlerColony;II[J)I" } : Jvm.MethodName)) ∈ lw_all := lw_g (lw_at lw_m5 192 rfl) rfl
theorem q1277 : (Jvm.Cond.static ({ cls := "SettlerColonyLaw", name := "rain", desc := "(LSettlerColony;II[J)I" } : Jvm.MethodName)) ∈ lw_all := lw_g (lw_at lw_m5 193 rfl) rfl
theorem q1278 : (Jvm.Cond.codeWith ({ cls := "SettlerColonyLaw", name := "rain", desc := "(LSettlerColony;II[J)I" } : Jvm.MethodName) method_4_code (5 : Nat) (Option.some Jvm.ClassFile.FieldType.int) [((0 : Nat), (10 : Nat), (13 : Nat), (13 : Nat)), ((0 : Nat), (10 : Nat), (17 : Nat), (15 : Nat))]) ∈ lw_all := lw_g (lw_at lw_m5 194 rfl) rfl
theorem q1279 : (Jvm.Cond.methodLink "SettlerColonyLaw" (17 : Nat) ({ cls := "SettlerColony", name := "rain", desc := "(II)I" } : Jvm.MethodName)) ∈ lw_all := lw_g (lw_at lw_m5 195 rfl) rfl
theorem q1289 : (Jvm.Cond.methodLink "SettlerColonyLaw" (165 : Nat) ({ cls := "SettlerColonyLaw", name := "rains", desc := "(LSettlerColony;III[J)I" } : Jvm.MethodName)) ∈ lw_all := lw_g (lw_at lw_m5 205 rfl) rfl
theorem q1290 : (Jvm.Cond.static ({ cls := "SettlerColonyLaw", name := "rains", desc := "(LSettlerColony;III[J)I" } : Jvm.MethodName)) ∈ lw_all := lw_g (lw_at lw_m5 206 rfl) rfl
theorem q1291 : (Jvm.Cond.codeWith ({ cls := "SettlerColonyLaw", name := "rains", desc := "(LSettlerColony;III[J)I" } : Jvm.MethodName) method_5_code (6 : Nat) (Option.some Jvm.ClassFile.FieldType.int) [((0 : Nat), (12 : Nat), (15 : Nat), (13 : Nat)), ((0 : Nat), (12 : Nat), (19 : Nat), (15 : Nat))]) ∈ lw_all := lw_g (lw_at lw_m5 207 rfl) rfl
theorem q1292 : (Jvm.Cond.methodLink "SettlerColonyLaw" (21 : Nat) ({ cls := "SettlerColony", name := "rains", desc := "(III)I" } : Jvm.MethodName)) ∈ lw_all := lw_g (lw_at lw_m5 208 rfl) rfl
theorem q1296 : (Jvm.Cond.methodLink "SettlerColonyLaw" (169 : Nat) ({ cls := "SettlerColonyLaw", name := "fell", desc := "(LSettlerColony;II[J)I" } : Jvm.MethodName)) ∈ lw_all := lw_g (lw_at lw_m5 212 rfl) rfl
theorem q1297 : (Jvm.Cond.static ({ cls := "SettlerColonyLaw", name := "fell", desc := "(LSettlerColony;II[J)I" } : Jvm.MethodName)) ∈ lw_all := lw_g (lw_at lw_m5 213 rfl) rfl
theorem q1298 : (Jvm.Cond.codeWith ({ cls := "SettlerColonyLaw", name := "fell", desc := "(LSettlerColony;II[J)I" } : Jvm.MethodName) method_6_code (5 : Nat) (Option.some Jvm.ClassFile.FieldType.int) [((0 : Nat), (10 : Nat), (13 : Nat), (13 : Nat)), ((0 : Nat), (10 : Nat), (17 : Nat), (15 : Nat))]) ∈ lw_all := lw_g (lw_at lw_m5 214 rfl) rfl
theorem q1299 : (Jvm.Cond.methodLink "SettlerColonyLaw" (25 : Nat) ({ cls := "SettlerColony", name := "fell", desc := "(II)I" } : Jvm.MethodName)) ∈ lw_all := lw_g (lw_at lw_m5 215 rfl) rfl
theorem q1312 : (Jvm.Cond.methodLink "SettlerColonyLaw" (172 : Nat) ({ cls := "SettlerColonyLaw", name := "seen", desc := "(LSettlerColony;I[J)I" } : Jvm.MethodName)) ∈ lw_all := lw_g (lw_at lw_m5 228 rfl) rfl
theorem q1313 : (Jvm.Cond.static ({ cls := "SettlerColonyLaw", name := "seen", desc := "(LSettlerColony;I[J)I" } : Jvm.MethodName)) ∈ lw_all := lw_g (lw_at lw_m5 229 rfl) rfl
theorem q1314 : (Jvm.Cond.codeWith ({ cls := "SettlerColonyLaw", name := "seen", desc := "(LSettlerColony;I[J)I" } : Jvm.MethodName) method_7_code (4 : Nat) (Option.some Jvm.ClassFile.FieldType.int) [((0 : Nat), (9 : Nat), (12 : Nat), (13 : Nat))]) ∈ lw_all := lw_g (lw_at lw_m5 230 rfl) rfl
theorem q1315 : (Jvm.Cond.methodLink "SettlerColonyLaw" (28 : Nat) ({ cls := "SettlerColony", name := "seen", desc := "(I)I" } : Jvm.MethodName)) ∈ lw_all := lw_g (lw_at lw_m5 231 rfl) rfl
theorem q1319 : (Jvm.Cond.methodLink "SettlerColonyLaw" (176 : Nat) ({ cls := "SettlerColonyLaw", name := "promise", desc := "(LSettlerColony;I[J)I" } : Jvm.MethodName)) ∈ lw_all := lw_g (lw_at lw_m5 235 rfl) rfl
theorem q1320 : (Jvm.Cond.static ({ cls := "SettlerColonyLaw", name := "promise", desc := "(LSettlerColony;I[J)I" } : Jvm.MethodName)) ∈ lw_all := lw_g (lw_at lw_m5 236 rfl) rfl
theorem q1321 : (Jvm.Cond.codeWith ({ cls := "SettlerColonyLaw", name := "promise", desc := "(LSettlerColony;I[J)I" } : Jvm.MethodName) method_8_code (4 : Nat) (Option.some Jvm.ClassFile.FieldType.int) [((0 : Nat), (9 : Nat), (12 : Nat), (13 : Nat))]) ∈ lw_all := lw_g (lw_at lw_m5 237 rfl) rfl
theorem q1322 : (Jvm.Cond.methodLink "SettlerColonyLaw" (32 : Nat) ({ cls := "SettlerColony", name := "promise", desc := "(I)I" } : Jvm.MethodName)) ∈ lw_all := lw_g (lw_at lw_m5 238 rfl) rfl
theorem q1333 : (Jvm.Cond.methodLink "SettlerColonyLaw" (179 : Nat) ({ cls := "SettlerColonyLaw", name := "section", desc := "(LSettlerColony;II[J)I" } : Jvm.MethodName)) ∈ lw_all := lw_g (lw_at lw_m6 9 rfl) rfl
theorem q1334 : (Jvm.Cond.static ({ cls := "SettlerColonyLaw", name := "section", desc := "(LSettlerColony;II[J)I" } : Jvm.MethodName)) ∈ lw_all := lw_g (lw_at lw_m6 10 rfl) rfl
theorem q1335 : (Jvm.Cond.codeWith ({ cls := "SettlerColonyLaw", name := "section", desc := "(LSettlerColony;II[J)I" } : Jvm.MethodName) method_9_code (5 : Nat) (Option.some Jvm.ClassFile.FieldType.int) [((0 : Nat), (10 : Nat), (13 : Nat), (13 : Nat)), ((0 : Nat), (10 : Nat), (17 : Nat), (15 : Nat))]) ∈ lw_all := lw_g (lw_at lw_m6 11 rfl) rfl
theorem q1336 : (Jvm.Cond.methodLink "SettlerColonyLaw" (35 : Nat) ({ cls := "SettlerColony", name := "section", desc := "(II)I" } : Jvm.MethodName)) ∈ lw_all := lw_g (lw_at lw_m6 12 rfl) rfl
theorem q1358 : (Jvm.Cond.methodLink "SettlerColonyLaw" (182 : Nat) ({ cls := "SettlerColonyLaw", name := "is", desc := "(LSettlerColony;II[J)I" } : Jvm.MethodName)) ∈ lw_all := lw_g (lw_at lw_m6 34 rfl) rfl
theorem q1359 : (Jvm.Cond.static ({ cls := "SettlerColonyLaw", name := "is", desc := "(LSettlerColony;II[J)I" } : Jvm.MethodName)) ∈ lw_all := lw_g (lw_at lw_m6 35 rfl) rfl
theorem q1360 : (Jvm.Cond.codeWith ({ cls := "SettlerColonyLaw", name := "is", desc := "(LSettlerColony;II[J)I" } : Jvm.MethodName) method_10_code (5 : Nat) (Option.some Jvm.ClassFile.FieldType.int) [((0 : Nat), (17 : Nat), (20 : Nat), (13 : Nat)), ((0 : Nat), (17 : Nat), (24 : Nat), (15 : Nat))]) ∈ lw_all := lw_g (lw_at lw_m6 36 rfl) rfl
theorem q1361 : (Jvm.Cond.methodLink "SettlerColonyLaw" (38 : Nat) ({ cls := "SettlerColony", name := "is", desc := "(II)Z" } : Jvm.MethodName)) ∈ lw_all := lw_g (lw_at lw_m6 37 rfl) rfl
theorem q1395 : (Jvm.Cond.methodLink "SettlerColonyLaw" (185 : Nat) ({ cls := "SettlerColonyLaw", name := "people", desc := "(LSettlerColony;III[J)I" } : Jvm.MethodName)) ∈ lw_all := lw_g (lw_at lw_m6 71 rfl) rfl
theorem q1396 : (Jvm.Cond.static ({ cls := "SettlerColonyLaw", name := "people", desc := "(LSettlerColony;III[J)I" } : Jvm.MethodName)) ∈ lw_all := lw_g (lw_at lw_m6 72 rfl) rfl
theorem q1397 : (Jvm.Cond.codeWith ({ cls := "SettlerColonyLaw", name := "people", desc := "(LSettlerColony;III[J)I" } : Jvm.MethodName) method_11_code (6 : Nat) (Option.some Jvm.ClassFile.FieldType.int) [((0 : Nat), (12 : Nat), (15 : Nat), (15 : Nat))]) ∈ lw_all := lw_g (lw_at lw_m6 73 rfl) rfl
theorem q1398 : (Jvm.Cond.methodLink "SettlerColonyLaw" (42 : Nat) ({ cls := "SettlerColony", name := "people", desc := "(III)I" } : Jvm.MethodName)) ∈ lw_all := lw_g (lw_at lw_m6 74 rfl) rfl
theorem q1404 : (Jvm.Cond.methodLink "SettlerColonyLaw" (188 : Nat) ({ cls := "SettlerColonyLaw", name := "person", desc := "(LSettlerColony;II[J)I" } : Jvm.MethodName)) ∈ lw_all := lw_g (lw_at lw_m6 80 rfl) rfl
theorem q1405 : (Jvm.Cond.static ({ cls := "SettlerColonyLaw", name := "person", desc := "(LSettlerColony;II[J)I" } : Jvm.MethodName)) ∈ lw_all := lw_g (lw_at lw_m6 81 rfl) rfl
theorem q1406 : (Jvm.Cond.codeWith ({ cls := "SettlerColonyLaw", name := "person", desc := "(LSettlerColony;II[J)I" } : Jvm.MethodName) method_12_code (5 : Nat) (Option.some Jvm.ClassFile.FieldType.int) [((0 : Nat), (10 : Nat), (13 : Nat), (13 : Nat)), ((0 : Nat), (10 : Nat), (17 : Nat), (15 : Nat))]) ∈ lw_all := lw_g (lw_at lw_m6 82 rfl) rfl
theorem q1407 : (Jvm.Cond.methodLink "SettlerColonyLaw" (45 : Nat) ({ cls := "SettlerColony", name := "person", desc := "(II)I" } : Jvm.MethodName)) ∈ lw_all := lw_g (lw_at lw_m6 83 rfl) rfl
theorem q1415 : (Jvm.Cond.methodLink "SettlerColonyLaw" (191 : Nat) ({ cls := "SettlerColonyLaw", name := "party", desc := "(LSettlerColony;I[J)I" } : Jvm.MethodName)) ∈ lw_all := lw_g (lw_at lw_m6 91 rfl) rfl
theorem q1416 : (Jvm.Cond.static ({ cls := "SettlerColonyLaw", name := "party", desc := "(LSettlerColony;I[J)I" } : Jvm.MethodName)) ∈ lw_all := lw_g (lw_at lw_m6 92 rfl) rfl
theorem q1417 : (Jvm.Cond.codeWith ({ cls := "SettlerColonyLaw", name := "party", desc := "(LSettlerColony;I[J)I" } : Jvm.MethodName) method_13_code (4 : Nat) (Option.some Jvm.ClassFile.FieldType.int) [((0 : Nat), (9 : Nat), (12 : Nat), (15 : Nat))]) ∈ lw_all := lw_g (lw_at lw_m6 93 rfl) rfl
theorem q1418 : (Jvm.Cond.methodLink "SettlerColonyLaw" (48 : Nat) ({ cls := "SettlerColony", name := "party", desc := "(I)I" } : Jvm.MethodName)) ∈ lw_all := lw_g (lw_at lw_m6 94 rfl) rfl
theorem q1448 : (Jvm.Cond.methodLink "SettlerColonyLaw" (194 : Nat) ({ cls := "SettlerColonyLaw", name := "queue", desc := "(LSettlerColony;II[J)I" } : Jvm.MethodName)) ∈ lw_all := lw_g (lw_at lw_m6 124 rfl) rfl
theorem q1449 : (Jvm.Cond.static ({ cls := "SettlerColonyLaw", name := "queue", desc := "(LSettlerColony;II[J)I" } : Jvm.MethodName)) ∈ lw_all := lw_g (lw_at lw_m6 125 rfl) rfl
theorem q1450 : (Jvm.Cond.codeWith ({ cls := "SettlerColonyLaw", name := "queue", desc := "(LSettlerColony;II[J)I" } : Jvm.MethodName) method_14_code (5 : Nat) (Option.some Jvm.ClassFile.FieldType.int) [((0 : Nat), (10 : Nat), (13 : Nat), (13 : Nat))]) ∈ lw_all := lw_g (lw_at lw_m6 126 rfl) rfl
theorem q1451 : (Jvm.Cond.methodLink "SettlerColonyLaw" (51 : Nat) ({ cls := "SettlerColony", name := "queue", desc := "(II)I" } : Jvm.MethodName)) ∈ lw_all := lw_g (lw_at lw_m6 127 rfl) rfl
theorem q1459 : (Jvm.Cond.methodLink "SettlerColonyLaw" (197 : Nat) ({ cls := "SettlerColonyLaw", name := "where", desc := "(LSettlerColony;II[J)I" } : Jvm.MethodName)) ∈ lw_all := lw_g (lw_at lw_m6 135 rfl) rfl
theorem q1460 : (Jvm.Cond.static ({ cls := "SettlerColonyLaw", name := "where", desc := "(LSettlerColony;II[J)I" } : Jvm.MethodName)) ∈ lw_all := lw_g (lw_at lw_m6 136 rfl) rfl
theorem q1461 : (Jvm.Cond.codeWith ({ cls := "SettlerColonyLaw", name := "where", desc := "(LSettlerColony;II[J)I" } : Jvm.MethodName) method_15_code (5 : Nat) (Option.some Jvm.ClassFile.FieldType.int) [((0 : Nat), (10 : Nat), (13 : Nat), (13 : Nat)), ((0 : Nat), (10 : Nat), (17 : Nat), (15 : Nat))]) ∈ lw_all := lw_g (lw_at lw_m6 137 rfl) rfl
theorem q1462 : (Jvm.Cond.methodLink "SettlerColonyLaw" (54 : Nat) ({ cls := "SettlerColony", name := "where", desc := "(II)I" } : Jvm.MethodName)) ∈ lw_all := lw_g (lw_at lw_m6 138 rfl) rfl
theorem q1466 : (Jvm.Cond.methodLink "SettlerColonyLaw" (200 : Nat) ({ cls := "SettlerColonyLaw", name := "lot", desc := "(LSettlerColony;I[J)I" } : Jvm.MethodName)) ∈ lw_all := lw_g (lw_at lw_m6 142 rfl) rfl
theorem q1467 : (Jvm.Cond.static ({ cls := "SettlerColonyLaw", name := "lot", desc := "(LSettlerColony;I[J)I" } : Jvm.MethodName)) ∈ lw_all := lw_g (lw_at lw_m6 143 rfl) rfl
theorem q1468 : (Jvm.Cond.codeWith ({ cls := "SettlerColonyLaw", name := "lot", desc := "(LSettlerColony;I[J)I" } : Jvm.MethodName) method_16_code (4 : Nat) (Option.some Jvm.ClassFile.FieldType.int) [((0 : Nat), (9 : Nat), (12 : Nat), (13 : Nat))]) ∈ lw_all := lw_g (lw_at lw_m6 144 rfl) rfl
theorem q1469 : (Jvm.Cond.methodLink "SettlerColonyLaw" (57 : Nat) ({ cls := "SettlerColony", name := "lot", desc := "(I)I" } : Jvm.MethodName)) ∈ lw_all := lw_g (lw_at lw_m6 145 rfl) rfl
theorem q1584 : (Jvm.Cond.methodLink "SettlerColonyLaw" (203 : Nat) ({ cls := "SettlerColonyLaw", name := "ask", desc := "(LSettlerColony;I[J)I" } : Jvm.MethodName)) ∈ lw_all := lw_g (lw_at lw_m7 20 rfl) rfl
theorem q1585 : (Jvm.Cond.static ({ cls := "SettlerColonyLaw", name := "ask", desc := "(LSettlerColony;I[J)I" } : Jvm.MethodName)) ∈ lw_all := lw_g (lw_at lw_m7 21 rfl) rfl
theorem q1586 : (Jvm.Cond.codeWith ({ cls := "SettlerColonyLaw", name := "ask", desc := "(LSettlerColony;I[J)I" } : Jvm.MethodName) method_17_code (4 : Nat) (Option.some Jvm.ClassFile.FieldType.int) [((0 : Nat), (9 : Nat), (12 : Nat), (13 : Nat))]) ∈ lw_all := lw_g (lw_at lw_m7 22 rfl) rfl
theorem q1587 : (Jvm.Cond.methodLink "SettlerColonyLaw" (60 : Nat) ({ cls := "SettlerColony", name := "ask", desc := "(I)I" } : Jvm.MethodName)) ∈ lw_all := lw_g (lw_at lw_m7 23 rfl) rfl
theorem q1664 : (Jvm.Cond.methodLink "SettlerColonyLaw" (206 : Nat) ({ cls := "SettlerColonyLaw", name := "draw", desc := "(LSettlerColony;I[J)I" } : Jvm.MethodName)) ∈ lw_all := lw_g (lw_at lw_m7 100 rfl) rfl
theorem q1665 : (Jvm.Cond.static ({ cls := "SettlerColonyLaw", name := "draw", desc := "(LSettlerColony;I[J)I" } : Jvm.MethodName)) ∈ lw_all := lw_g (lw_at lw_m7 101 rfl) rfl
theorem q1666 : (Jvm.Cond.codeWith ({ cls := "SettlerColonyLaw", name := "draw", desc := "(LSettlerColony;I[J)I" } : Jvm.MethodName) method_18_code (4 : Nat) (Option.some Jvm.ClassFile.FieldType.int) [((0 : Nat), (9 : Nat), (12 : Nat), (15 : Nat))]) ∈ lw_all := lw_g (lw_at lw_m7 102 rfl) rfl
theorem q1667 : (Jvm.Cond.methodLink "SettlerColonyLaw" (63 : Nat) ({ cls := "SettlerColony", name := "draw", desc := "(I)I" } : Jvm.MethodName)) ∈ lw_all := lw_g (lw_at lw_m7 103 rfl) rfl
theorem q1684 : (Jvm.Cond.methodLink "SettlerColonyLaw" (209 : Nat) ({ cls := "SettlerColonyLaw", name := "acre", desc := "(LSettlerColony;I[J)I" } : Jvm.MethodName)) ∈ lw_all := lw_g (lw_at lw_m7 120 rfl) rfl
theorem q1685 : (Jvm.Cond.static ({ cls := "SettlerColonyLaw", name := "acre", desc := "(LSettlerColony;I[J)I" } : Jvm.MethodName)) ∈ lw_all := lw_g (lw_at lw_m7 121 rfl) rfl
theorem q1686 : (Jvm.Cond.codeWith ({ cls := "SettlerColonyLaw", name := "acre", desc := "(LSettlerColony;I[J)I" } : Jvm.MethodName) method_19_code (4 : Nat) (Option.some Jvm.ClassFile.FieldType.int) [((0 : Nat), (9 : Nat), (12 : Nat), (13 : Nat))]) ∈ lw_all := lw_g (lw_at lw_m7 122 rfl) rfl
theorem q1687 : (Jvm.Cond.methodLink "SettlerColonyLaw" (66 : Nat) ({ cls := "SettlerColony", name := "acre", desc := "(I)I" } : Jvm.MethodName)) ∈ lw_all := lw_g (lw_at lw_m7 123 rfl) rfl
theorem q1691 : (Jvm.Cond.methodLink "SettlerColonyLaw" (212 : Nat) ({ cls := "SettlerColonyLaw", name := "buy", desc := "(LSettlerColony;II[J)I" } : Jvm.MethodName)) ∈ lw_all := lw_g (lw_at lw_m7 127 rfl) rfl
theorem q1692 : (Jvm.Cond.static ({ cls := "SettlerColonyLaw", name := "buy", desc := "(LSettlerColony;II[J)I" } : Jvm.MethodName)) ∈ lw_all := lw_g (lw_at lw_m7 128 rfl) rfl
theorem q1693 : (Jvm.Cond.codeWith ({ cls := "SettlerColonyLaw", name := "buy", desc := "(LSettlerColony;II[J)I" } : Jvm.MethodName) method_20_code (5 : Nat) (Option.some Jvm.ClassFile.FieldType.int) [((0 : Nat), (10 : Nat), (13 : Nat), (13 : Nat))]) ∈ lw_all := lw_g (lw_at lw_m7 129 rfl) rfl
theorem q1694 : (Jvm.Cond.methodLink "SettlerColonyLaw" (69 : Nat) ({ cls := "SettlerColony", name := "buy", desc := "(II)I" } : Jvm.MethodName)) ∈ lw_all := lw_g (lw_at lw_m7 130 rfl) rfl
theorem q1745 : (Jvm.Cond.methodLink "SettlerColonyLaw" (215 : Nat) ({ cls := "SettlerColonyLaw", name := "order", desc := "(LSettlerColony;I[J)I" } : Jvm.MethodName)) ∈ lw_all := lw_g (lw_at lw_m7 181 rfl) rfl
theorem q1746 : (Jvm.Cond.static ({ cls := "SettlerColonyLaw", name := "order", desc := "(LSettlerColony;I[J)I" } : Jvm.MethodName)) ∈ lw_all := lw_g (lw_at lw_m7 182 rfl) rfl
theorem q1747 : (Jvm.Cond.codeWith ({ cls := "SettlerColonyLaw", name := "order", desc := "(LSettlerColony;I[J)I" } : Jvm.MethodName) method_21_code (4 : Nat) (Option.some Jvm.ClassFile.FieldType.int) [((0 : Nat), (9 : Nat), (12 : Nat), (13 : Nat))]) ∈ lw_all := lw_g (lw_at lw_m7 183 rfl) rfl
theorem q1748 : (Jvm.Cond.methodLink "SettlerColonyLaw" (72 : Nat) ({ cls := "SettlerColony", name := "order", desc := "(I)I" } : Jvm.MethodName)) ∈ lw_all := lw_g (lw_at lw_m7 184 rfl) rfl
theorem q1771 : (Jvm.Cond.methodLink "SettlerColonyLaw" (218 : Nat) ({ cls := "SettlerColonyLaw", name := "choose", desc := "(LSettlerColony;II[J)I" } : Jvm.MethodName)) ∈ lw_all := lw_g (lw_at lw_m7 207 rfl) rfl
theorem q1772 : (Jvm.Cond.static ({ cls := "SettlerColonyLaw", name := "choose", desc := "(LSettlerColony;II[J)I" } : Jvm.MethodName)) ∈ lw_all := lw_g (lw_at lw_m7 208 rfl) rfl
theorem q1773 : (Jvm.Cond.codeWith ({ cls := "SettlerColonyLaw", name := "choose", desc := "(LSettlerColony;II[J)I" } : Jvm.MethodName) method_22_code (5 : Nat) (Option.some Jvm.ClassFile.FieldType.int) [((0 : Nat), (10 : Nat), (13 : Nat), (13 : Nat))]) ∈ lw_all := lw_g (lw_at lw_m7 209 rfl) rfl
theorem q1774 : (Jvm.Cond.methodLink "SettlerColonyLaw" (75 : Nat) ({ cls := "SettlerColony", name := "choose", desc := "(II)I" } : Jvm.MethodName)) ∈ lw_all := lw_g (lw_at lw_m7 210 rfl) rfl
theorem q1796 : (Jvm.Cond.methodLink "SettlerColonyLaw" (221 : Nat) ({ cls := "SettlerColonyLaw", name := "run", desc := "(LSettlerColony;II[J)I" } : Jvm.MethodName)) ∈ lw_all := lw_g (lw_at lw_m7 232 rfl) rfl
theorem q1797 : (Jvm.Cond.static ({ cls := "SettlerColonyLaw", name := "run", desc := "(LSettlerColony;II[J)I" } : Jvm.MethodName)) ∈ lw_all := lw_g (lw_at lw_m7 233 rfl) rfl
theorem q1798 : (Jvm.Cond.codeWith ({ cls := "SettlerColonyLaw", name := "run", desc := "(LSettlerColony;II[J)I" } : Jvm.MethodName) method_23_code (5 : Nat) (Option.some Jvm.ClassFile.FieldType.int) [((0 : Nat), (10 : Nat), (13 : Nat), (13 : Nat))]) ∈ lw_all := lw_g (lw_at lw_m7 234 rfl) rfl
theorem q1799 : (Jvm.Cond.methodLink "SettlerColonyLaw" (78 : Nat) ({ cls := "SettlerColony", name := "run", desc := "(II)I" } : Jvm.MethodName)) ∈ lw_all := lw_g (lw_at lw_m7 235 rfl) rfl
theorem q1814 : (Jvm.Cond.methodLink "SettlerColonyLaw" (224 : Nat) ({ cls := "SettlerColonyLaw", name := "squat", desc := "(LSettlerColony;II[J)I" } : Jvm.MethodName)) ∈ lw_all := lw_g (lw_at lw_m8 10 rfl) rfl
theorem q1815 : (Jvm.Cond.static ({ cls := "SettlerColonyLaw", name := "squat", desc := "(LSettlerColony;II[J)I" } : Jvm.MethodName)) ∈ lw_all := lw_g (lw_at lw_m8 11 rfl) rfl
theorem q1816 : (Jvm.Cond.codeWith ({ cls := "SettlerColonyLaw", name := "squat", desc := "(LSettlerColony;II[J)I" } : Jvm.MethodName) method_24_code (5 : Nat) (Option.some Jvm.ClassFile.FieldType.int) [((0 : Nat), (10 : Nat), (13 : Nat), (13 : Nat))]) ∈ lw_all := lw_g (lw_at lw_m8 12 rfl) rfl
theorem q1817 : (Jvm.Cond.methodLink "SettlerColonyLaw" (81 : Nat) ({ cls := "SettlerColony", name := "squat", desc := "(II)I" } : Jvm.MethodName)) ∈ lw_all := lw_g (lw_at lw_m8 13 rfl) rfl
theorem q1829 : (Jvm.Cond.methodLink "SettlerColonyLaw" (227 : Nat) ({ cls := "SettlerColonyLaw", name := "stock", desc := "(LSettlerColony;III[J)I" } : Jvm.MethodName)) ∈ lw_all := lw_g (lw_at lw_m8 25 rfl) rfl
theorem q1830 : (Jvm.Cond.static ({ cls := "SettlerColonyLaw", name := "stock", desc := "(LSettlerColony;III[J)I" } : Jvm.MethodName)) ∈ lw_all := lw_g (lw_at lw_m8 26 rfl) rfl
theorem q1831 : (Jvm.Cond.codeWith ({ cls := "SettlerColonyLaw", name := "stock", desc := "(LSettlerColony;III[J)I" } : Jvm.MethodName) method_25_code (6 : Nat) (Option.some Jvm.ClassFile.FieldType.int) [((0 : Nat), (12 : Nat), (15 : Nat), (13 : Nat)), ((0 : Nat), (12 : Nat), (19 : Nat), (15 : Nat))]) ∈ lw_all := lw_g (lw_at lw_m8 27 rfl) rfl
theorem q1832 : (Jvm.Cond.methodLink "SettlerColonyLaw" (84 : Nat) ({ cls := "SettlerColony", name := "stock", desc := "(III)I" } : Jvm.MethodName)) ∈ lw_all := lw_g (lw_at lw_m8 28 rfl) rfl
theorem q1839 : (Jvm.Cond.methodLink "SettlerColonyLaw" (230 : Nat) ({ cls := "SettlerColonyLaw", name := "fence", desc := "(LSettlerColony;II[J)I" } : Jvm.MethodName)) ∈ lw_all := lw_g (lw_at lw_m8 35 rfl) rfl
theorem q1840 : (Jvm.Cond.static ({ cls := "SettlerColonyLaw", name := "fence", desc := "(LSettlerColony;II[J)I" } : Jvm.MethodName)) ∈ lw_all := lw_g (lw_at lw_m8 36 rfl) rfl
theorem q1841 : (Jvm.Cond.codeWith ({ cls := "SettlerColonyLaw", name := "fence", desc := "(LSettlerColony;II[J)I" } : Jvm.MethodName) method_26_code (5 : Nat) (Option.some Jvm.ClassFile.FieldType.int) [((0 : Nat), (10 : Nat), (13 : Nat), (13 : Nat))]) ∈ lw_all := lw_g (lw_at lw_m8 37 rfl) rfl
theorem q1842 : (Jvm.Cond.methodLink "SettlerColonyLaw" (87 : Nat) ({ cls := "SettlerColony", name := "fence", desc := "(II)I" } : Jvm.MethodName)) ∈ lw_all := lw_g (lw_at lw_m8 38 rfl) rfl
theorem q1846 : (Jvm.Cond.methodLink "SettlerColonyLaw" (238 : Nat) ({ cls := "SettlerColonyLaw", name := "law", desc := "(LSettlerColony;I[J)I" } : Jvm.MethodName)) ∈ lw_all := lw_g (lw_at lw_m8 42 rfl) rfl
theorem q1847 : (Jvm.Cond.static ({ cls := "SettlerColonyLaw", name := "law", desc := "(LSettlerColony;I[J)I" } : Jvm.MethodName)) ∈ lw_all := lw_g (lw_at lw_m8 43 rfl) rfl
theorem q1848 : (Jvm.Cond.codeWith ({ cls := "SettlerColonyLaw", name := "law", desc := "(LSettlerColony;I[J)I" } : Jvm.MethodName) method_27_code (4 : Nat) (Option.some Jvm.ClassFile.FieldType.int) [((0 : Nat), (9 : Nat), (12 : Nat), (15 : Nat))]) ∈ lw_all := lw_g (lw_at lw_m8 44 rfl) rfl
theorem q1849 : (Jvm.Cond.methodLink "SettlerColonyLaw" (90 : Nat) ({ cls := "SettlerColony", name := "law", desc := "(I)I" } : Jvm.MethodName)) ∈ lw_all := lw_g (lw_at lw_m8 45 rfl) rfl
theorem q2241 : (Jvm.Cond.methodLink "SettlerColonyLaw" (245 : Nat) ({ cls := "SettlerColonyLaw", name := "vote", desc := "(LSettlerColony;IIZ[J)I" } : Jvm.MethodName)) ∈ lw_all := lw_g (lw_at lw_m9 197 rfl) rfl
theorem q2242 : (Jvm.Cond.static ({ cls := "SettlerColonyLaw", name := "vote", desc := "(LSettlerColony;IIZ[J)I" } : Jvm.MethodName)) ∈ lw_all := lw_g (lw_at lw_m9 198 rfl) rfl
theorem q2243 : (Jvm.Cond.codeWith ({ cls := "SettlerColonyLaw", name := "vote", desc := "(LSettlerColony;IIZ[J)I" } : Jvm.MethodName) method_28_code (6 : Nat) (Option.some Jvm.ClassFile.FieldType.int) [((0 : Nat), (12 : Nat), (15 : Nat), (13 : Nat))]) ∈ lw_all := lw_g (lw_at lw_m9 199 rfl) rfl
theorem q2244 : (Jvm.Cond.methodLink "SettlerColonyLaw" (93 : Nat) ({ cls := "SettlerColony", name := "vote", desc := "(IIZ)I" } : Jvm.MethodName)) ∈ lw_all := lw_g (lw_at lw_m9 200 rfl) rfl
theorem q2252 : (Jvm.Cond.methodLink "SettlerColonyLaw" (248 : Nat) ({ cls := "SettlerColonyLaw", name := "close", desc := "(LSettlerColony;I[J)I" } : Jvm.MethodName)) ∈ lw_all := lw_g (lw_at lw_m9 208 rfl) rfl
theorem q2253 : (Jvm.Cond.static ({ cls := "SettlerColonyLaw", name := "close", desc := "(LSettlerColony;I[J)I" } : Jvm.MethodName)) ∈ lw_all := lw_g (lw_at lw_m9 209 rfl) rfl
theorem q2254 : (Jvm.Cond.codeWith ({ cls := "SettlerColonyLaw", name := "close", desc := "(LSettlerColony;I[J)I" } : Jvm.MethodName) method_29_code (4 : Nat) (Option.some Jvm.ClassFile.FieldType.int) [((0 : Nat), (9 : Nat), (12 : Nat), (13 : Nat))]) ∈ lw_all := lw_g (lw_at lw_m9 210 rfl) rfl
theorem q2255 : (Jvm.Cond.methodLink "SettlerColonyLaw" (96 : Nat) ({ cls := "SettlerColony", name := "close", desc := "(I)I" } : Jvm.MethodName)) ∈ lw_all := lw_g (lw_at lw_m9 211 rfl) rfl
theorem q2259 : (Jvm.Cond.methodLink "SettlerColonyLaw" (251 : Nat) ({ cls := "SettlerColonyLaw", name := "assent", desc := "(LSettlerColony;IZ[J)I" } : Jvm.MethodName)) ∈ lw_all := lw_g (lw_at lw_m9 215 rfl) rfl
theorem q2260 : (Jvm.Cond.static ({ cls := "SettlerColonyLaw", name := "assent", desc := "(LSettlerColony;IZ[J)I" } : Jvm.MethodName)) ∈ lw_all := lw_g (lw_at lw_m9 216 rfl) rfl
theorem q2261 : (Jvm.Cond.codeWith ({ cls := "SettlerColonyLaw", name := "assent", desc := "(LSettlerColony;IZ[J)I" } : Jvm.MethodName) method_30_code (5 : Nat) (Option.some Jvm.ClassFile.FieldType.int) [((0 : Nat), (10 : Nat), (13 : Nat), (13 : Nat))]) ∈ lw_all := lw_g (lw_at lw_m9 217 rfl) rfl
theorem q2262 : (Jvm.Cond.methodLink "SettlerColonyLaw" (99 : Nat) ({ cls := "SettlerColony", name := "assent", desc := "(IZ)I" } : Jvm.MethodName)) ∈ lw_all := lw_g (lw_at lw_m9 218 rfl) rfl
theorem q2266 : (Jvm.Cond.methodLink "SettlerColonyLaw" (255 : Nat) ({ cls := "SettlerColonyLaw", name := "force", desc := "(LSettlerColony;I[J)I" } : Jvm.MethodName)) ∈ lw_all := lw_g (lw_at lw_m9 222 rfl) rfl
theorem q2267 : (Jvm.Cond.static ({ cls := "SettlerColonyLaw", name := "force", desc := "(LSettlerColony;I[J)I" } : Jvm.MethodName)) ∈ lw_all := lw_g (lw_at lw_m9 223 rfl) rfl
theorem q2268 : (Jvm.Cond.codeWith ({ cls := "SettlerColonyLaw", name := "force", desc := "(LSettlerColony;I[J)I" } : Jvm.MethodName) method_31_code (4 : Nat) (Option.some Jvm.ClassFile.FieldType.int) [((0 : Nat), (9 : Nat), (12 : Nat), (13 : Nat))]) ∈ lw_all := lw_g (lw_at lw_m9 224 rfl) rfl
theorem q2269 : (Jvm.Cond.methodLink "SettlerColonyLaw" (103 : Nat) ({ cls := "SettlerColony", name := "force", desc := "(I)I" } : Jvm.MethodName)) ∈ lw_all := lw_g (lw_at lw_m9 225 rfl) rfl
theorem q2273 : (Jvm.Cond.methodLink "SettlerColonyLaw" (258 : Nat) ({ cls := "SettlerColonyLaw", name := "means", desc := "(LSettlerColony;II[J)I" } : Jvm.MethodName)) ∈ lw_all := lw_g (lw_at lw_m9 229 rfl) rfl
theorem q2274 : (Jvm.Cond.static ({ cls := "SettlerColonyLaw", name := "means", desc := "(LSettlerColony;II[J)I" } : Jvm.MethodName)) ∈ lw_all := lw_g (lw_at lw_m9 230 rfl) rfl
theorem q2275 : (Jvm.Cond.codeWith ({ cls := "SettlerColonyLaw", name := "means", desc := "(LSettlerColony;II[J)I" } : Jvm.MethodName) method_32_code (5 : Nat) (Option.some Jvm.ClassFile.FieldType.int) [((0 : Nat), (10 : Nat), (13 : Nat), (13 : Nat)), ((0 : Nat), (10 : Nat), (17 : Nat), (15 : Nat))]) ∈ lw_all := lw_g (lw_at lw_m9 231 rfl) rfl
theorem q2276 : (Jvm.Cond.methodLink "SettlerColonyLaw" (106 : Nat) ({ cls := "SettlerColony", name := "means", desc := "(II)I" } : Jvm.MethodName)) ∈ lw_all := lw_g (lw_at lw_m9 232 rfl) rfl
theorem q2280 : (Jvm.Cond.methodLink "SettlerColonyLaw" (261 : Nat) ({ cls := "SettlerColonyLaw", name := "why", desc := "(LSettlerColony;I[J)I" } : Jvm.MethodName)) ∈ lw_all := lw_g (lw_at lw_m9 236 rfl) rfl
theorem q2281 : (Jvm.Cond.static ({ cls := "SettlerColonyLaw", name := "why", desc := "(LSettlerColony;I[J)I" } : Jvm.MethodName)) ∈ lw_all := lw_g (lw_at lw_m9 237 rfl) rfl
theorem q2282 : (Jvm.Cond.codeWith ({ cls := "SettlerColonyLaw", name := "why", desc := "(LSettlerColony;I[J)I" } : Jvm.MethodName) method_33_code (4 : Nat) (Option.some Jvm.ClassFile.FieldType.int) [((0 : Nat), (9 : Nat), (12 : Nat), (15 : Nat))]) ∈ lw_all := lw_g (lw_at lw_m9 238 rfl) rfl
theorem q2283 : (Jvm.Cond.methodLink "SettlerColonyLaw" (109 : Nat) ({ cls := "SettlerColony", name := "why", desc := "(I)I" } : Jvm.MethodName)) ∈ lw_all := lw_g (lw_at lw_m9 239 rfl) rfl
theorem q2288 : (Jvm.Cond.methodLink "SettlerColonyLaw" (276 : Nat) ({ cls := "SettlerColonyLaw", name := "fund", desc := "(LSettlerColony;I[J)I" } : Jvm.MethodName)) ∈ lw_all := lw_g (lw_at lw_m10 4 rfl) rfl
theorem q2289 : (Jvm.Cond.static ({ cls := "SettlerColonyLaw", name := "fund", desc := "(LSettlerColony;I[J)I" } : Jvm.MethodName)) ∈ lw_all := lw_g (lw_at lw_m10 5 rfl) rfl
theorem q2290 : (Jvm.Cond.codeWith ({ cls := "SettlerColonyLaw", name := "fund", desc := "(LSettlerColony;I[J)I" } : Jvm.MethodName) method_34_code (4 : Nat) (Option.some Jvm.ClassFile.FieldType.int) [((0 : Nat), (9 : Nat), (12 : Nat), (15 : Nat))]) ∈ lw_all := lw_g (lw_at lw_m10 6 rfl) rfl
theorem q2291 : (Jvm.Cond.methodLink "SettlerColonyLaw" (112 : Nat) ({ cls := "SettlerColony", name := "fund", desc := "(I)I" } : Jvm.MethodName)) ∈ lw_all := lw_g (lw_at lw_m10 7 rfl) rfl
theorem q2296 : (Jvm.Cond.methodLink "SettlerColonyLaw" (279 : Nat) ({ cls := "SettlerColonyLaw", name := "bill", desc := "(LSettlerColony;I[J)I" } : Jvm.MethodName)) ∈ lw_all := lw_g (lw_at lw_m10 12 rfl) rfl
theorem q2297 : (Jvm.Cond.static ({ cls := "SettlerColonyLaw", name := "bill", desc := "(LSettlerColony;I[J)I" } : Jvm.MethodName)) ∈ lw_all := lw_g (lw_at lw_m10 13 rfl) rfl
theorem q2298 : (Jvm.Cond.codeWith ({ cls := "SettlerColonyLaw", name := "bill", desc := "(LSettlerColony;I[J)I" } : Jvm.MethodName) method_35_code (4 : Nat) (Option.some Jvm.ClassFile.FieldType.int) [((0 : Nat), (9 : Nat), (12 : Nat), (15 : Nat))]) ∈ lw_all := lw_g (lw_at lw_m10 14 rfl) rfl
theorem q2299 : (Jvm.Cond.methodLink "SettlerColonyLaw" (115 : Nat) ({ cls := "SettlerColony", name := "bill", desc := "(I)I" } : Jvm.MethodName)) ∈ lw_all := lw_g (lw_at lw_m10 15 rfl) rfl
theorem q2305 : (Jvm.Cond.methodLink "SettlerColonyLaw" (282 : Nat) ({ cls := "SettlerColonyLaw", name := "pass", desc := "(LSettlerColony;I[J)I" } : Jvm.MethodName)) ∈ lw_all := lw_g (lw_at lw_m10 21 rfl) rfl
theorem q2306 : (Jvm.Cond.static ({ cls := "SettlerColonyLaw", name := "pass", desc := "(LSettlerColony;I[J)I" } : Jvm.MethodName)) ∈ lw_all := lw_g (lw_at lw_m10 22 rfl) rfl
theorem q2307 : (Jvm.Cond.codeWith ({ cls := "SettlerColonyLaw", name := "pass", desc := "(LSettlerColony;I[J)I" } : Jvm.MethodName) method_36_code (4 : Nat) (Option.some Jvm.ClassFile.FieldType.int) [((0 : Nat), (9 : Nat), (12 : Nat), (13 : Nat))]) ∈ lw_all := lw_g (lw_at lw_m10 23 rfl) rfl
theorem q2308 : (Jvm.Cond.methodLink "SettlerColonyLaw" (118 : Nat) ({ cls := "SettlerColony", name := "pass", desc := "(I)I" } : Jvm.MethodName)) ∈ lw_all := lw_g (lw_at lw_m10 24 rfl) rfl
theorem q2316 : (Jvm.Cond.methodLink "SettlerColonyLaw" (285 : Nat) ({ cls := "SettlerColonyLaw", name := "billed", desc := "(LSettlerColony;I[J)I" } : Jvm.MethodName)) ∈ lw_all := lw_g (lw_at lw_m10 32 rfl) rfl
theorem q2317 : (Jvm.Cond.static ({ cls := "SettlerColonyLaw", name := "billed", desc := "(LSettlerColony;I[J)I" } : Jvm.MethodName)) ∈ lw_all := lw_g (lw_at lw_m10 33 rfl) rfl
theorem q2318 : (Jvm.Cond.codeWith ({ cls := "SettlerColonyLaw", name := "billed", desc := "(LSettlerColony;I[J)I" } : Jvm.MethodName) method_37_code (4 : Nat) (Option.some Jvm.ClassFile.FieldType.int) [((0 : Nat), (9 : Nat), (12 : Nat), (13 : Nat))]) ∈ lw_all := lw_g (lw_at lw_m10 34 rfl) rfl
theorem q2319 : (Jvm.Cond.methodLink "SettlerColonyLaw" (121 : Nat) ({ cls := "SettlerColony", name := "billed", desc := "(I)I" } : Jvm.MethodName)) ∈ lw_all := lw_g (lw_at lw_m10 35 rfl) rfl
theorem q2323 : (Jvm.Cond.methodLink "SettlerColonyLaw" (288 : Nat) ({ cls := "SettlerColonyLaw", name := "week", desc := "(LSettlerColony;I[J)I" } : Jvm.MethodName)) ∈ lw_all := lw_g (lw_at lw_m10 39 rfl) rfl
theorem q2324 : (Jvm.Cond.static ({ cls := "SettlerColonyLaw", name := "week", desc := "(LSettlerColony;I[J)I" } : Jvm.MethodName)) ∈ lw_all := lw_g (lw_at lw_m10 40 rfl) rfl
theorem q2325 : (Jvm.Cond.codeWith ({ cls := "SettlerColonyLaw", name := "week", desc := "(LSettlerColony;I[J)I" } : Jvm.MethodName) method_38_code (4 : Nat) (Option.some Jvm.ClassFile.FieldType.int) [((0 : Nat), (9 : Nat), (12 : Nat), (15 : Nat)), ((0 : Nat), (9 : Nat), (15 : Nat), (127 : Nat))]) ∈ lw_all := lw_g (lw_at lw_m10 41 rfl) rfl
theorem q2326 : (Jvm.Cond.classLink "SettlerColonyLaw" (127 : Nat) "java/lang/IllegalStateException") ∈ lw_all := lw_g (lw_at lw_m10 42 rfl) rfl
theorem q2327 : (Jvm.Cond.methodLink "SettlerColonyLaw" (124 : Nat) ({ cls := "SettlerColony", name := "week", desc := "(I)I" } : Jvm.MethodName)) ∈ lw_all := lw_g (lw_at lw_m10 43 rfl) rfl
theorem q2457 : (Jvm.Cond.methodLink "SettlerColonyLaw" (291 : Nat) ({ cls := "SettlerColonyLaw", name := "as", desc := "(LSettlerColony;III[J)I" } : Jvm.MethodName)) ∈ lw_all := lw_g (lw_at lw_m10 173 rfl) rfl
theorem q2458 : (Jvm.Cond.static ({ cls := "SettlerColonyLaw", name := "as", desc := "(LSettlerColony;III[J)I" } : Jvm.MethodName)) ∈ lw_all := lw_g (lw_at lw_m10 174 rfl) rfl
theorem q2459 : (Jvm.Cond.codeWith ({ cls := "SettlerColonyLaw", name := "as", desc := "(LSettlerColony;III[J)I" } : Jvm.MethodName) method_39_code (6 : Nat) (Option.some Jvm.ClassFile.FieldType.int) [((0 : Nat), (12 : Nat), (15 : Nat), (15 : Nat))]) ∈ lw_all := lw_g (lw_at lw_m10 175 rfl) rfl
theorem q2460 : (Jvm.Cond.methodLink "SettlerColonyLaw" (129 : Nat) ({ cls := "SettlerColony", name := "as", desc := "(III)I" } : Jvm.MethodName)) ∈ lw_all := lw_g (lw_at lw_m10 176 rfl) rfl
theorem q2466 : (Jvm.Cond.methodLink "SettlerColonyLaw" (294 : Nat) ({ cls := "SettlerColonyLaw", name := "tried", desc := "(LSettlerColony;IIII[J)I" } : Jvm.MethodName)) ∈ lw_all := lw_g (lw_at lw_m10 182 rfl) rfl
theorem q2467 : (Jvm.Cond.static ({ cls := "SettlerColonyLaw", name := "tried", desc := "(LSettlerColony;IIII[J)I" } : Jvm.MethodName)) ∈ lw_all := lw_g (lw_at lw_m10 183 rfl) rfl
theorem q2468 : (Jvm.Cond.codeWith ({ cls := "SettlerColonyLaw", name := "tried", desc := "(LSettlerColony;IIII[J)I" } : Jvm.MethodName) method_40_code (7 : Nat) (Option.some Jvm.ClassFile.FieldType.int) [((0 : Nat), (14 : Nat), (17 : Nat), (15 : Nat)), ((0 : Nat), (14 : Nat), (21 : Nat), (127 : Nat))]) ∈ lw_all := lw_g (lw_at lw_m10 184 rfl) rfl
theorem q2469 : (Jvm.Cond.methodLink "SettlerColonyLaw" (132 : Nat) ({ cls := "SettlerColony", name := "tried", desc := "(IIII)I" } : Jvm.MethodName)) ∈ lw_all := lw_g (lw_at lw_m10 185 rfl) rfl
theorem q2480 : (Jvm.Cond.methodLink "SettlerColonyLaw" (298 : Nat) ({ cls := "SettlerColonyLaw", name := "prices", desc := "(LSettlerColony;III)I" } : Jvm.MethodName)) ∈ lw_all := lw_g (lw_at lw_m10 196 rfl) rfl
theorem q2481 : (Jvm.Cond.static ({ cls := "SettlerColonyLaw", name := "prices", desc := "(LSettlerColony;III)I" } : Jvm.MethodName)) ∈ lw_all := lw_g (lw_at lw_m10 197 rfl) rfl
theorem q2482 : (Jvm.Cond.codeWith ({ cls := "SettlerColonyLaw", name := "prices", desc := "(LSettlerColony;III)I" } : Jvm.MethodName) method_41_code (5 : Nat) (Option.some Jvm.ClassFile.FieldType.int) [((0 : Nat), (7 : Nat), (10 : Nat), (15 : Nat))]) ∈ lw_all := lw_g (lw_at lw_m10 198 rfl) rfl
theorem q2483 : (Jvm.Cond.methodLink "SettlerColonyLaw" (136 : Nat) ({ cls := "SettlerColony", name := "prices", desc := "(III)V" } : Jvm.MethodName)) ∈ lw_all := lw_g (lw_at lw_m10 199 rfl) rfl
theorem q2487 : (Jvm.Cond.methodLink "SettlerColonyLaw" (302 : Nat) ({ cls := "SettlerColonyLaw", name := "worst", desc := "(LSettlerColony;IIII)I" } : Jvm.MethodName)) ∈ lw_all := lw_g (lw_at lw_m10 203 rfl) rfl
theorem q2488 : (Jvm.Cond.static ({ cls := "SettlerColonyLaw", name := "worst", desc := "(LSettlerColony;IIII)I" } : Jvm.MethodName)) ∈ lw_all := lw_g (lw_at lw_m10 204 rfl) rfl
theorem q2489 : (Jvm.Cond.codeWith ({ cls := "SettlerColonyLaw", name := "worst", desc := "(LSettlerColony;IIII)I" } : Jvm.MethodName) method_42_code (6 : Nat) (Option.some Jvm.ClassFile.FieldType.int) [((0 : Nat), (9 : Nat), (12 : Nat), (15 : Nat))]) ∈ lw_all := lw_g (lw_at lw_m10 205 rfl) rfl
theorem q2490 : (Jvm.Cond.methodLink "SettlerColonyLaw" (140 : Nat) ({ cls := "SettlerColony", name := "worst", desc := "(IIII)V" } : Jvm.MethodName)) ∈ lw_all := lw_g (lw_at lw_m10 206 rfl) rfl
theorem q2497 : (Jvm.Cond.methodLink "SettlerColonyLaw" (306 : Nat) ({ cls := "SettlerColonyLaw", name := "planned", desc := "(LSettlerColony;II[J)I" } : Jvm.MethodName)) ∈ lw_all := lw_g (lw_at lw_m10 213 rfl) rfl
theorem q2498 : (Jvm.Cond.static ({ cls := "SettlerColonyLaw", name := "planned", desc := "(LSettlerColony;II[J)I" } : Jvm.MethodName)) ∈ lw_all := lw_g (lw_at lw_m10 214 rfl) rfl
theorem q2499 : (Jvm.Cond.codeWith ({ cls := "SettlerColonyLaw", name := "planned", desc := "(LSettlerColony;II[J)I" } : Jvm.MethodName) method_43_code (5 : Nat) (Option.some Jvm.ClassFile.FieldType.int) [((0 : Nat), (10 : Nat), (13 : Nat), (15 : Nat)), ((0 : Nat), (10 : Nat), (17 : Nat), (127 : Nat))]) ∈ lw_all := lw_g (lw_at lw_m10 215 rfl) rfl
theorem q2500 : (Jvm.Cond.methodLink "SettlerColonyLaw" (144 : Nat) ({ cls := "SettlerColony", name := "planned", desc := "(II)I" } : Jvm.MethodName)) ∈ lw_all := lw_g (lw_at lw_m10 216 rfl) rfl
theorem q2510 : (Jvm.Cond.classLink "SettlerColonyLaw" (148 : Nat) "SettlerColonyModel") ∈ lw_all := lw_g (lw_at lw_m10 226 rfl) rfl
theorem q2512 : (Jvm.Cond.methodLink "SettlerColonyLaw" (150 : Nat) ({ cls := "SettlerColonyModel", name := "<init>", desc := "()V" } : Jvm.MethodName)) ∈ lw_all := lw_g (lw_at lw_m10 228 rfl) rfl
theorem q2619 : (Jvm.Cond.methodLink "SettlerColonyLaw" (157 : Nat) ({ cls := "SettlerColonyModel", name := "thrown", desc := "()I" } : Jvm.MethodName)) ∈ lw_all := lw_g (lw_at lw_m11 95 rfl) rfl
theorem q2623 : (Jvm.Cond.methodLink "SettlerColonyLaw" (156 : Nat) ({ cls := "SettlerColonyModel", name := "land", desc := "(IIZ)I" } : Jvm.MethodName)) ∈ lw_all := lw_g (lw_at lw_m11 99 rfl) rfl
theorem q2639 : (Jvm.Cond.methodLink "SettlerColonyLaw" (164 : Nat) ({ cls := "SettlerColonyModel", name := "rain", desc := "(II)I" } : Jvm.MethodName)) ∈ lw_all := lw_g (lw_at lw_m11 115 rfl) rfl
theorem q2647 : (Jvm.Cond.methodLink "SettlerColonyLaw" (168 : Nat) ({ cls := "SettlerColonyModel", name := "rains", desc := "(III)I" } : Jvm.MethodName)) ∈ lw_all := lw_g (lw_at lw_m11 123 rfl) rfl
theorem q2651 : (Jvm.Cond.methodLink "SettlerColonyLaw" (171 : Nat) ({ cls := "SettlerColonyModel", name := "fell", desc := "(II)I" } : Jvm.MethodName)) ∈ lw_all := lw_g (lw_at lw_m11 127 rfl) rfl
theorem q2659 : (Jvm.Cond.methodLink "SettlerColonyLaw" (175 : Nat) ({ cls := "SettlerColonyModel", name := "seen", desc := "(I)I" } : Jvm.MethodName)) ∈ lw_all := lw_g (lw_at lw_m11 135 rfl) rfl
theorem q2663 : (Jvm.Cond.methodLink "SettlerColonyLaw" (178 : Nat) ({ cls := "SettlerColonyModel", name := "promise", desc := "(I)I" } : Jvm.MethodName)) ∈ lw_all := lw_g (lw_at lw_m11 139 rfl) rfl
theorem q2674 : (Jvm.Cond.methodLink "SettlerColonyLaw" (181 : Nat) ({ cls := "SettlerColonyModel", name := "section", desc := "(II)I" } : Jvm.MethodName)) ∈ lw_all := lw_g (lw_at lw_m11 150 rfl) rfl
theorem q2688 : (Jvm.Cond.methodLink "SettlerColonyLaw" (184 : Nat) ({ cls := "SettlerColonyModel", name := "is", desc := "(II)Z" } : Jvm.MethodName)) ∈ lw_all := lw_g (lw_at lw_m11 164 rfl) rfl
theorem q2692 : (Jvm.Cond.methodLink "SettlerColonyLaw" (187 : Nat) ({ cls := "SettlerColonyModel", name := "people", desc := "(III)I" } : Jvm.MethodName)) ∈ lw_all := lw_g (lw_at lw_m11 168 rfl) rfl
theorem q2705 : (Jvm.Cond.methodLink "SettlerColonyLaw" (190 : Nat) ({ cls := "SettlerColonyModel", name := "person", desc := "(II)I" } : Jvm.MethodName)) ∈ lw_all := lw_g (lw_at lw_m11 181 rfl) rfl
theorem q2725 : (Jvm.Cond.methodLink "SettlerColonyLaw" (193 : Nat) ({ cls := "SettlerColonyModel", name := "party", desc := "(I)I" } : Jvm.MethodName)) ∈ lw_all := lw_g (lw_at lw_m11 201 rfl) rfl
theorem q2729 : (Jvm.Cond.methodLink "SettlerColonyLaw" (196 : Nat) ({ cls := "SettlerColonyModel", name := "queue", desc := "(II)I" } : Jvm.MethodName)) ∈ lw_all := lw_g (lw_at lw_m11 205 rfl) rfl
theorem q2737 : (Jvm.Cond.methodLink "SettlerColonyLaw" (199 : Nat) ({ cls := "SettlerColonyModel", name := "where", desc := "(II)I" } : Jvm.MethodName)) ∈ lw_all := lw_g (lw_at lw_m11 213 rfl) rfl
theorem q2741 : (Jvm.Cond.methodLink "SettlerColonyLaw" (202 : Nat) ({ cls := "SettlerColonyModel", name := "lot", desc := "(I)I" } : Jvm.MethodName)) ∈ lw_all := lw_g (lw_at lw_m11 217 rfl) rfl
theorem q2780 : (Jvm.Cond.methodLink "SettlerColonyLaw" (205 : Nat) ({ cls := "SettlerColonyModel", name := "ask", desc := "(I)I" } : Jvm.MethodName)) ∈ lw_all := lw_g (lw_at lw_m12 16 rfl) rfl
theorem q2788 : (Jvm.Cond.methodLink "SettlerColonyLaw" (208 : Nat) ({ cls := "SettlerColonyModel", name := "draw", desc := "(I)I" } : Jvm.MethodName)) ∈ lw_all := lw_g (lw_at lw_m12 24 rfl) rfl
theorem q2792 : (Jvm.Cond.methodLink "SettlerColonyLaw" (211 : Nat) ({ cls := "SettlerColonyModel", name := "acre", desc := "(I)I" } : Jvm.MethodName)) ∈ lw_all := lw_g (lw_at lw_m12 28 rfl) rfl
theorem q2796 : (Jvm.Cond.methodLink "SettlerColonyLaw" (237 : Nat) ({ cls := "SettlerColonyModel", name := "feed", desc := "(IIIII)I" } : Jvm.MethodName)) ∈ lw_all := lw_g (lw_at lw_m12 32 rfl) rfl
theorem q2800 : (Jvm.Cond.methodLink "SettlerColonyLaw" (240 : Nat) ({ cls := "SettlerColonyModel", name := "law", desc := "(I)I" } : Jvm.MethodName)) ∈ lw_all := lw_g (lw_at lw_m12 36 rfl) rfl
theorem q2918 : (Jvm.Cond.methodLink "SettlerColonyLaw" (244 : Nat) ({ cls := "SettlerColonyModel", name := "fault", desc := "()I" } : Jvm.MethodName)) ∈ lw_all := lw_g (lw_at lw_m12 154 rfl) rfl
theorem q2922 : (Jvm.Cond.methodLink "SettlerColonyLaw" (260 : Nat) ({ cls := "SettlerColonyModel", name := "means", desc := "(II)I" } : Jvm.MethodName)) ∈ lw_all := lw_g (lw_at lw_m12 158 rfl) rfl
theorem q2966 : (Jvm.Cond.methodLink "SettlerColonyLaw" (263 : Nat) ({ cls := "SettlerColonyModel", name := "why", desc := "(I)I" } : Jvm.MethodName)) ∈ lw_all := lw_g (lw_at lw_m12 202 rfl) rfl
theorem q2970 : (Jvm.Cond.methodLink "SettlerColonyLaw" (247 : Nat) ({ cls := "SettlerColonyModel", name := "vote", desc := "(IIZ)I" } : Jvm.MethodName)) ∈ lw_all := lw_g (lw_at lw_m12 206 rfl) rfl
theorem q2982 : (Jvm.Cond.methodLink "SettlerColonyLaw" (250 : Nat) ({ cls := "SettlerColonyModel", name := "close", desc := "(I)I" } : Jvm.MethodName)) ∈ lw_all := lw_g (lw_at lw_m12 218 rfl) rfl
theorem q2986 : (Jvm.Cond.methodLink "SettlerColonyLaw" (254 : Nat) ({ cls := "SettlerColonyModel", name := "assent", desc := "(IZ)I" } : Jvm.MethodName)) ∈ lw_all := lw_g (lw_at lw_m12 222 rfl) rfl
theorem q2990 : (Jvm.Cond.methodLink "SettlerColonyLaw" (257 : Nat) ({ cls := "SettlerColonyModel", name := "force", desc := "(I)I" } : Jvm.MethodName)) ∈ lw_all := lw_g (lw_at lw_m12 226 rfl) rfl
theorem q2994 : (Jvm.Cond.methodLink "SettlerColonyLaw" (214 : Nat) ({ cls := "SettlerColonyModel", name := "buy", desc := "(II)I" } : Jvm.MethodName)) ∈ lw_all := lw_g (lw_at lw_m12 230 rfl) rfl
theorem q3014 : (Jvm.Cond.methodLink "SettlerColonyLaw" (267 : Nat) ({ cls := "SettlerColonyModel", name := "quoted", desc := "()I" } : Jvm.MethodName)) ∈ lw_all := lw_g (lw_at lw_m13 10 rfl) rfl
theorem q3026 : (Jvm.Cond.methodLink "SettlerColonyLaw" (217 : Nat) ({ cls := "SettlerColonyModel", name := "order", desc := "(I)I" } : Jvm.MethodName)) ∈ lw_all := lw_g (lw_at lw_m13 22 rfl) rfl
theorem q3030 : (Jvm.Cond.methodLink "SettlerColonyLaw" (220 : Nat) ({ cls := "SettlerColonyModel", name := "choose", desc := "(II)I" } : Jvm.MethodName)) ∈ lw_all := lw_g (lw_at lw_m13 26 rfl) rfl
theorem q3038 : (Jvm.Cond.methodLink "SettlerColonyLaw" (223 : Nat) ({ cls := "SettlerColonyModel", name := "run", desc := "(II)I" } : Jvm.MethodName)) ∈ lw_all := lw_g (lw_at lw_m13 34 rfl) rfl
theorem q3042 : (Jvm.Cond.methodLink "SettlerColonyLaw" (226 : Nat) ({ cls := "SettlerColonyModel", name := "squat", desc := "(II)I" } : Jvm.MethodName)) ∈ lw_all := lw_g (lw_at lw_m13 38 rfl) rfl
theorem q3046 : (Jvm.Cond.methodLink "SettlerColonyLaw" (229 : Nat) ({ cls := "SettlerColonyModel", name := "stock", desc := "(III)I" } : Jvm.MethodName)) ∈ lw_all := lw_g (lw_at lw_m13 42 rfl) rfl
theorem q3054 : (Jvm.Cond.methodLink "SettlerColonyLaw" (232 : Nat) ({ cls := "SettlerColonyModel", name := "fence", desc := "(II)I" } : Jvm.MethodName)) ∈ lw_all := lw_g (lw_at lw_m13 50 rfl) rfl
theorem q3058 : (Jvm.Cond.methodLink "SettlerColonyLaw" (275 : Nat) ({ cls := "SettlerColonyModel", name := "passages", desc := "()I" } : Jvm.MethodName)) ∈ lw_all := lw_g (lw_at lw_m13 54 rfl) rfl
theorem q3066 : (Jvm.Cond.methodLink "SettlerColonyLaw" (271 : Nat) ({ cls := "SettlerColonyModel", name := "ship", desc := "(IIII)I" } : Jvm.MethodName)) ∈ lw_all := lw_g (lw_at lw_m13 62 rfl) rfl
theorem q3071 : (Jvm.Cond.methodLink "SettlerColonyLaw" (278 : Nat) ({ cls := "SettlerColonyModel", name := "fund", desc := "(I)I" } : Jvm.MethodName)) ∈ lw_all := lw_g (lw_at lw_m13 67 rfl) rfl
theorem q3075 : (Jvm.Cond.methodLink "SettlerColonyLaw" (281 : Nat) ({ cls := "SettlerColonyModel", name := "bill", desc := "(I)I" } : Jvm.MethodName)) ∈ lw_all := lw_g (lw_at lw_m13 71 rfl) rfl
theorem q3079 : (Jvm.Cond.methodLink "SettlerColonyLaw" (284 : Nat) ({ cls := "SettlerColonyModel", name := "pass", desc := "(I)I" } : Jvm.MethodName)) ∈ lw_all := lw_g (lw_at lw_m13 75 rfl) rfl
theorem q3087 : (Jvm.Cond.methodLink "SettlerColonyLaw" (287 : Nat) ({ cls := "SettlerColonyModel", name := "billed", desc := "(I)I" } : Jvm.MethodName)) ∈ lw_all := lw_g (lw_at lw_m13 83 rfl) rfl
theorem q3091 : (Jvm.Cond.methodLink "SettlerColonyLaw" (290 : Nat) ({ cls := "SettlerColonyModel", name := "week", desc := "(I)I" } : Jvm.MethodName)) ∈ lw_all := lw_g (lw_at lw_m13 87 rfl) rfl
theorem q3145 : (Jvm.Cond.methodLink "SettlerColonyLaw" (293 : Nat) ({ cls := "SettlerColonyModel", name := "as", desc := "(III)I" } : Jvm.MethodName)) ∈ lw_all := lw_g (lw_at lw_m13 141 rfl) rfl
theorem q3154 : (Jvm.Cond.methodLink "SettlerColonyLaw" (297 : Nat) ({ cls := "SettlerColonyModel", name := "tried", desc := "(IIII)I" } : Jvm.MethodName)) ∈ lw_all := lw_g (lw_at lw_m13 150 rfl) rfl
theorem q3162 : (Jvm.Cond.methodLink "SettlerColonyLaw" (301 : Nat) ({ cls := "SettlerColonyModel", name := "prices", desc := "(III)V" } : Jvm.MethodName)) ∈ lw_all := lw_g (lw_at lw_m13 158 rfl) rfl
theorem q3166 : (Jvm.Cond.methodLink "SettlerColonyLaw" (305 : Nat) ({ cls := "SettlerColonyModel", name := "worst", desc := "(IIII)V" } : Jvm.MethodName)) ∈ lw_all := lw_g (lw_at lw_m13 162 rfl) rfl
theorem q3173 : (Jvm.Cond.methodLink "SettlerColonyLaw" (308 : Nat) ({ cls := "SettlerColonyModel", name := "planned", desc := "(II)I" } : Jvm.MethodName)) ∈ lw_all := lw_g (lw_at lw_m13 169 rfl) rfl
theorem q3177 : (Jvm.Cond.methodLink "SettlerColonyLaw" (312 : Nat) ({ cls := "SettlerColonyModel", name := "image", desc := "()I" } : Jvm.MethodName)) ∈ lw_all := lw_g (lw_at lw_m13 173 rfl) rfl
theorem q3181 : (Jvm.Cond.methodLink "SettlerColonyLaw" (316 : Nat) ({ cls := "SettlerColonyModel", name := "number", desc := "(I)I" } : Jvm.MethodName)) ∈ lw_all := lw_g (lw_at lw_m13 177 rfl) rfl
theorem q3185 : (Jvm.Cond.methodLink "SettlerColonyLaw" (320 : Nat) ({ cls := "SettlerColonyModel", name := "tear", desc := "(II)I" } : Jvm.MethodName)) ∈ lw_all := lw_g (lw_at lw_m13 181 rfl) rfl
theorem q3189 : (Jvm.Cond.methodLink "SettlerColonyLaw" (324 : Nat) ({ cls := "SettlerColonyModel", name := "check", desc := "()I" } : Jvm.MethodName)) ∈ lw_all := lw_g (lw_at lw_m13 185 rfl) rfl
theorem q3193 : (Jvm.Cond.methodLink "SettlerColonyLaw" (328 : Nat) ({ cls := "SettlerColonyModel", name := "count", desc := "(I)I" } : Jvm.MethodName)) ∈ lw_all := lw_g (lw_at lw_m13 189 rfl) rfl
/-! SettlerColony -/
def RX1 : String := "SettlerColony"
def TX1 : u_T := fun k => match k with
  | 0 => ("SettlerColony", "w", "LSettlerColony$World;", true)
  | 1 => ("SettlerColony", "tries", "LSettlerColony$World;", true)
  | 2 => ("SettlerColony", "taped", "I", false)
  | 3 => ("SettlerColony", "faultAt", "I", false)
  | 4 => ("SettlerColony", "ships", "I", false)
  | 5 => ("SettlerColony", "planRains", "I", false)
  | 6 => ("SettlerColony", "hasPrices", "Z", false)
  | 7 => ("SettlerColony", "tape", "[B", true)
  | 8 => ("SettlerColony", "orders", "Ljava/util/ArrayList;", true)
  | 9 => ("SettlerColony", "asks", "Ljava/util/ArrayList;", true)
  | 10 => ("SettlerColony", "orderPaid", "Ljava/util/ArrayList;", true)
  | 11 => ("SettlerColony", "isChosen", "[Z", true)
  | 12 => ("SettlerColony", "planPrice", "[I", true)
  | 13 => ("SettlerColony", "planRain", "[I", true)
  | 14 => ("SettlerColony", "planned", "[I", true)
  | 15 => ("SettlerColony", "stepPrice", "[I", true)
  | 16 => ("SettlerColony", "mostHungry", "I", false)
  | 17 => ("SettlerColony", "leastFarms", "I", false)
  | 18 => ("SettlerColony", "imageSize", "I", false)
  | 19 => ("SettlerColony", "imageSum", "J", false)
  | 20 => ("SettlerColony", "imagePlaces", "J", false)
  | _ => ("SettlerColony", "image", "[I", true)
def tyX1 : Nat → FieldType := fun k => match k with
  | 0 => .object "SettlerColony$World"
  | 1 => .object "SettlerColony$World"
  | 2 => .int
  | 3 => .int
  | 4 => .int
  | 5 => .int
  | 6 => .boolean
  | 7 => .array .byte
  | 8 => .object "java/util/ArrayList"
  | 9 => .object "java/util/ArrayList"
  | 10 => .object "java/util/ArrayList"
  | 11 => .array .boolean
  | 12 => .array .int
  | 13 => .array .int
  | 14 => .array .int
  | 15 => .array .int
  | 16 => .int
  | 17 => .int
  | 18 => .int
  | 19 => .long
  | 20 => .long
  | _ => .array .int
abbrev wsX10 : List Cond := u_ws RX1 TX1 22
theorem nmX1 : ∀ a, a < 22 → ∀ b, b < 22 → a ≠ b → (TX1 a).2.1 ≠ (TX1 b).2.1 := by decide +kernel
theorem tyX1_ok : ∀ k, k < 22 → parseFieldDescriptor (TX1 k).2.2.1 = some (tyX1 k) := by decide +kernel
abbrev cX1_init : ByteArray := prog_1_method_3_code
def yX1_init : MethodName := ⟨RX1, "<init>", "()V"⟩
abbrev cX1_feed : ByteArray := prog_1_method_37_code
def yX1_feed : MethodName := ⟨RX1, "feed", "(IIIII)I"⟩
abbrev cX1_put : ByteArray := prog_1_method_38_code
def yX1_put : MethodName := ⟨RX1, "put", "(I)V"⟩
abbrev cX1_fault : ByteArray := prog_1_method_40_code
def yX1_fault : MethodName := ⟨RX1, "fault", "()I"⟩
abbrev cX1_quoted : ByteArray := prog_1_method_48_code
def yX1_quoted : MethodName := ⟨RX1, "quoted", "()I"⟩
abbrev cX1_ship : ByteArray := prog_1_method_50_code
def yX1_ship : MethodName := ⟨RX1, "ship", "(IIII)I"⟩
abbrev cX1_rowOf : ByteArray := prog_1_method_49_code
def yX1_rowOf : MethodName := ⟨RX1, "rowOf", "(I)[LSettlerColony$Person;"⟩
abbrev cX1_sails : ByteArray := prog_1_method_51_code
def yX1_sails : MethodName := ⟨RX1, "sails", "(LSettlerColony$Person;)V"⟩
abbrev cX1_passages : ByteArray := prog_1_method_52_code
def yX1_passages : MethodName := ⟨RX1, "passages", "()I"⟩
abbrev cX1_image : ByteArray := prog_1_method_67_code
def yX1_image : MethodName := ⟨RX1, "image", "()I"⟩
abbrev cX1_sum : ByteArray := prog_1_method_68_code
def yX1_sum : MethodName := ⟨RX1, "sum", "(Z)J"⟩
abbrev cX1_number : ByteArray := prog_1_method_69_code
def yX1_number : MethodName := ⟨RX1, "number", "(I)I"⟩
abbrev cX1_tear : ByteArray := prog_1_method_70_code
def yX1_tear : MethodName := ⟨RX1, "tear", "(II)I"⟩
abbrev cX1_check : ByteArray := prog_1_method_71_code
def yX1_check : MethodName := ⟨RX1, "check", "()I"⟩
abbrev cX1_count : ByteArray := prog_1_method_72_code
def yX1_count : MethodName := ⟨RX1, "count", "(I)I"⟩
abbrev cX1_land : ByteArray := prog_1_method_9_code
def yX1_land : MethodName := ⟨RX1, "land", "(IIZ)I"⟩
abbrev cX1_slotOf : ByteArray := prog_1_method_7_code
def yX1_slotOf : MethodName := ⟨RX1, "slotOf", "(I)LSettlerColony$Slot;"⟩
abbrev cX1_there : ByteArray := prog_1_method_6_code
def yX1_there : MethodName := ⟨RX1, "there", "(II)V"⟩
abbrev cX1_need : ByteArray := prog_1_method_4_code
def yX1_need : MethodName := ⟨RX1, "need", "(Z)V"⟩
abbrev cX1_rain : ByteArray := prog_1_method_10_code
def yX1_rain : MethodName := ⟨RX1, "rain", "(II)I"⟩
abbrev cX1_rains : ByteArray := prog_1_method_11_code
def yX1_rains : MethodName := ⟨RX1, "rains", "(III)I"⟩
abbrev cX1_fell : ByteArray := prog_1_method_12_code
def yX1_fell : MethodName := ⟨RX1, "fell", "(II)I"⟩
abbrev cX1_seen : ByteArray := prog_1_method_13_code
def yX1_seen : MethodName := ⟨RX1, "seen", "(I)I"⟩
abbrev cX1_promise : ByteArray := prog_1_method_14_code
def yX1_promise : MethodName := ⟨RX1, "promise", "(I)I"⟩
abbrev cX1_zoneOf : ByteArray := prog_1_method_1_code
def yX1_zoneOf : MethodName := ⟨RX1, "zoneOf", "(I)I"⟩
abbrev cX1_section : ByteArray := prog_1_method_15_code
def yX1_section : MethodName := ⟨RX1, "section", "(II)I"⟩
abbrev cX1_is : ByteArray := prog_1_method_16_code
def yX1_is : MethodName := ⟨RX1, "is", "(II)Z"⟩
abbrev cX1_people : ByteArray := prog_1_method_17_code
def yX1_people : MethodName := ⟨RX1, "people", "(III)I"⟩
abbrev cX1_person : ByteArray := prog_1_method_18_code
def yX1_person : MethodName := ⟨RX1, "person", "(II)I"⟩
abbrev cX1_personOf : ByteArray := prog_1_method_8_code
def yX1_personOf : MethodName := ⟨RX1, "personOf", "(I)LSettlerColony$Person;"⟩
abbrev cX1_party : ByteArray := prog_1_method_19_code
def yX1_party : MethodName := ⟨RX1, "party", "(I)I"⟩
abbrev cX1_queue : ByteArray := prog_1_method_21_code
def yX1_queue : MethodName := ⟨RX1, "queue", "(II)I"⟩
abbrev cX1_partyOf : ByteArray := prog_1_method_20_code
def yX1_partyOf : MethodName := ⟨RX1, "partyOf", "(I)LSettlerColony$Party;"⟩
abbrev cX1_where : ByteArray := prog_1_method_22_code
def yX1_where : MethodName := ⟨RX1, "where", "(II)I"⟩
abbrev cX1_lot : ByteArray := prog_1_method_23_code
def yX1_lot : MethodName := ⟨RX1, "lot", "(I)I"⟩
abbrev cX1_ask : ByteArray := prog_1_method_25_code
def yX1_ask : MethodName := ⟨RX1, "ask", "(I)I"⟩
abbrev cX1_hasAcre : ByteArray := prog_1_method_24_code
def yX1_hasAcre : MethodName := ⟨RX1, "hasAcre", "(LSettlerColony$Person;)Z"⟩
abbrev cX1_draw : ByteArray := prog_1_method_26_code
def yX1_draw : MethodName := ⟨RX1, "draw", "(I)I"⟩
abbrev cX1_acre : ByteArray := prog_1_method_27_code
def yX1_acre : MethodName := ⟨RX1, "acre", "(I)I"⟩
abbrev cX1_buy : ByteArray := prog_1_method_28_code
def yX1_buy : MethodName := ⟨RX1, "buy", "(II)I"⟩
abbrev cX1_order : ByteArray := prog_1_method_29_code
def yX1_order : MethodName := ⟨RX1, "order", "(I)I"⟩
abbrev cX1_choose : ByteArray := prog_1_method_31_code
def yX1_choose : MethodName := ⟨RX1, "choose", "(II)I"⟩
abbrev cX1_isWaitedFor : ByteArray := prog_1_method_30_code
def yX1_isWaitedFor : MethodName := ⟨RX1, "isWaitedFor", "(I)Z"⟩
abbrev cX1_run : ByteArray := prog_1_method_32_code
def yX1_run : MethodName := ⟨RX1, "run", "(II)I"⟩
abbrev cX1_squat : ByteArray := prog_1_method_33_code
def yX1_squat : MethodName := ⟨RX1, "squat", "(II)I"⟩
abbrev cX1_stock : ByteArray := prog_1_method_35_code
def yX1_stock : MethodName := ⟨RX1, "stock", "(III)I"⟩
abbrev cX1_pastureOf : ByteArray := prog_1_method_34_code
def yX1_pastureOf : MethodName := ⟨RX1, "pastureOf", "(LSettlerColony$Person;LSettlerColony$Slot;)LSettlerColony$Run;"⟩
abbrev cX1_fence : ByteArray := prog_1_method_36_code
def yX1_fence : MethodName := ⟨RX1, "fence", "(II)I"⟩
abbrev cX1_law : ByteArray := prog_1_method_39_code
def yX1_law : MethodName := ⟨RX1, "law", "(I)I"⟩
abbrev cX1_vote : ByteArray := prog_1_method_42_code
def yX1_vote : MethodName := ⟨RX1, "vote", "(IIZ)I"⟩
abbrev cX1_lawOf : ByteArray := prog_1_method_41_code
def yX1_lawOf : MethodName := ⟨RX1, "lawOf", "(I)LSettlerColony$Law;"⟩
abbrev cX1_close : ByteArray := prog_1_method_43_code
def yX1_close : MethodName := ⟨RX1, "close", "(I)I"⟩
abbrev cX1_assent : ByteArray := prog_1_method_44_code
def yX1_assent : MethodName := ⟨RX1, "assent", "(IZ)I"⟩
abbrev cX1_force : ByteArray := prog_1_method_45_code
def yX1_force : MethodName := ⟨RX1, "force", "(I)I"⟩
abbrev cX1_means : ByteArray := prog_1_method_46_code
def yX1_means : MethodName := ⟨RX1, "means", "(II)I"⟩
abbrev cX1_why : ByteArray := prog_1_method_47_code
def yX1_why : MethodName := ⟨RX1, "why", "(I)I"⟩
abbrev cX1_fund : ByteArray := prog_1_method_53_code
def yX1_fund : MethodName := ⟨RX1, "fund", "(I)I"⟩
abbrev cX1_bill : ByteArray := prog_1_method_54_code
def yX1_bill : MethodName := ⟨RX1, "bill", "(I)I"⟩
abbrev cX1_pass : ByteArray := prog_1_method_56_code
def yX1_pass : MethodName := ⟨RX1, "pass", "(I)I"⟩
abbrev cX1_billOf : ByteArray := prog_1_method_55_code
def yX1_billOf : MethodName := ⟨RX1, "billOf", "(I)LSettlerColony$Bill;"⟩
abbrev cX1_billed : ByteArray := prog_1_method_57_code
def yX1_billed : MethodName := ⟨RX1, "billed", "(I)I"⟩
abbrev cX1_week : ByteArray := prog_1_method_58_code
def yX1_week : MethodName := ⟨RX1, "week", "(I)I"⟩
abbrev cX1_right : ByteArray := prog_1_method_5_code
def yX1_right : MethodName := ⟨RX1, "right", "(Z)V"⟩
abbrev cX1_beside : ByteArray := prog_1_method_2_code
def yX1_beside : MethodName := ⟨RX1, "beside", "(II)I"⟩
abbrev cX1_as : ByteArray := prog_1_method_59_code
def yX1_as : MethodName := ⟨RX1, "as", "(III)I"⟩
abbrev cX1_tried : ByteArray := prog_1_method_61_code
def yX1_tried : MethodName := ⟨RX1, "tried", "(IIII)I"⟩
abbrev cX1_told : ByteArray := prog_1_method_60_code
def yX1_told : MethodName := ⟨RX1, "told", "(LSettlerColony$World;I)I"⟩
abbrev cX1_prices : ByteArray := prog_1_method_62_code
def yX1_prices : MethodName := ⟨RX1, "prices", "(III)V"⟩
abbrev cX1_worst : ByteArray := prog_1_method_64_code
def yX1_worst : MethodName := ⟨RX1, "worst", "(IIII)V"⟩
abbrev cX1_isRain : ByteArray := prog_1_method_63_code
def yX1_isRain : MethodName := ⟨RX1, "isRain", "(I)Z"⟩
abbrev cX1_planned : ByteArray := prog_1_method_66_code
def yX1_planned : MethodName := ⟨RX1, "planned", "(II)I"⟩
abbrev cX1_goesOn : ByteArray := prog_1_method_65_code
def yX1_goesOn : MethodName := ⟨RX1, "goesOn", "(I)V"⟩
theorem q125 : (Jvm.Cond.initialized "SettlerColony") ∈ lw_all := lw_g (lw_at lw_m1 1 rfl) rfl
theorem q182 : (Jvm.Cond.instantiable "SettlerColony" (22 : Nat)) ∈ lw_all := lw_g (lw_at lw_m1 58 rfl) rfl
theorem q184 : (Jvm.Cond.instanceMethod ({ cls := "SettlerColony", name := "<init>", desc := "()V" } : Jvm.MethodName)) ∈ lw_all := lw_g (lw_at lw_m1 60 rfl) rfl
theorem q185 : (Jvm.Cond.code ({ cls := "SettlerColony", name := "<init>", desc := "()V" } : Jvm.MethodName) prog_1_method_3_code (1 : Nat) (Option.none : Option Jvm.ClassFile.FieldType)) ∈ lw_all := lw_g (lw_at lw_m1 61 rfl) rfl
theorem q186 : (Jvm.Cond.methodLink "SettlerColony" (3 : Nat) ({ cls := "java/lang/Object", name := "<init>", desc := "()V" } : Jvm.MethodName)) ∈ lw_all := lw_g (lw_at lw_m1 62 rfl) rfl
theorem q189 : (Jvm.Cond.classLink "SettlerColony" (9 : Nat) "SettlerColony$World") ∈ lw_all := lw_g (lw_at lw_m1 65 rfl) rfl
theorem q191 : (Jvm.Cond.methodLink "SettlerColony" (11 : Nat) ({ cls := "SettlerColony$World", name := "<init>", desc := "()V" } : Jvm.MethodName)) ∈ lw_all := lw_g (lw_at lw_m1 67 rfl) rfl
theorem q614 : (Jvm.Cond.fieldLinkNest "SettlerColony" (126 : Nat) "SettlerColony$Rains" "many" "[I" "SettlerColony") ∈ lw_tbl := lw_at lw_m3 10 rfl
theorem q628 : (Jvm.Cond.fieldLinkNest "SettlerColony" (331 : Nat) "SettlerColony$Slot" "held" "Ljava/lang/Object;" "SettlerColony") ∈ lw_tbl := lw_at lw_m3 24 rfl
theorem q657 : (Jvm.Cond.selects "SettlerColony" ({ cls := "java/lang/Object", name := "getClass", desc := "()Ljava/lang/Class;" } : Jvm.MethodName) ({ cls := "java/lang/Object", name := "getClass", desc := "()Ljava/lang/Class;" } : Jvm.MethodName)) ∈ lw_all := lw_g (lw_at lw_m3 53 rfl) rfl
theorem q726 : (Jvm.Cond.fieldLinkNest "SettlerColony" (303 : Nat) "SettlerColony$World" "week" "I" "SettlerColony") ∈ lw_tbl := lw_at lw_m3 122 rfl
theorem q728 : (Jvm.Cond.fieldLinkNest "SettlerColony" (455 : Nat) "SettlerColony$World" "store" "I" "SettlerColony") ∈ lw_tbl := lw_at lw_m3 124 rfl
theorem q730 : (Jvm.Cond.fieldLinkNest "SettlerColony" (327 : Nat) "SettlerColony$World" "treasury" "I" "SettlerColony") ∈ lw_tbl := lw_at lw_m3 126 rfl
theorem q732 : (Jvm.Cond.fieldLinkNest "SettlerColony" (294 : Nat) "SettlerColony$World" "byOrders" "I" "SettlerColony") ∈ lw_tbl := lw_at lw_m3 128 rfl
theorem q735 : (Jvm.Cond.fieldLinkNest "SettlerColony" (416 : Nat) "SettlerColony$World" "shipCost" "I" "SettlerColony") ∈ lw_tbl := lw_at lw_m3 131 rfl
theorem q737 : (Jvm.Cond.fieldLinkNest "SettlerColony" (454 : Nat) "SettlerColony$World" "hungry" "I" "SettlerColony") ∈ lw_tbl := lw_at lw_m3 133 rfl
theorem q739 : (Jvm.Cond.fieldLinkNest "SettlerColony" (424 : Nat) "SettlerColony$World" "fund" "I" "SettlerColony") ∈ lw_tbl := lw_at lw_m3 135 rfl
theorem q740 : (Jvm.Cond.fieldLinkNest "SettlerColony" (259 : Nat) "SettlerColony$World" "acresDrawn" "I" "SettlerColony") ∈ lw_tbl := lw_at lw_m3 136 rfl
theorem q742 : (Jvm.Cond.fieldLinkNest "SettlerColony" (464 : Nat) "SettlerColony$World" "triedPrice" "I" "SettlerColony") ∈ lw_tbl := lw_at lw_m3 138 rfl
theorem q744 : (Jvm.Cond.fieldLinkNest "SettlerColony" (467 : Nat) "SettlerColony$World" "triedShare" "I" "SettlerColony") ∈ lw_tbl := lw_at lw_m3 140 rfl
theorem q746 : (Jvm.Cond.fieldLinkNest "SettlerColony" (486 : Nat) "SettlerColony$World" "triedRain" "I" "SettlerColony") ∈ lw_tbl := lw_at lw_m3 142 rfl
theorem q748 : (Jvm.Cond.fieldLinkNest "SettlerColony" (78 : Nat) "SettlerColony$World" "land" "Ljava/util/ArrayList;" "SettlerColony") ∈ lw_tbl := lw_at lw_m3 144 rfl
theorem q750 : (Jvm.Cond.fieldLinkNest "SettlerColony" (108 : Nat) "SettlerColony$World" "soil" "[B" "SettlerColony") ∈ lw_tbl := lw_at lw_m3 146 rfl
theorem q752 : (Jvm.Cond.fieldLinkNest "SettlerColony" (111 : Nat) "SettlerColony$World" "water" "[Z" "SettlerColony") ∈ lw_tbl := lw_at lw_m3 148 rfl
theorem q754 : (Jvm.Cond.fieldLinkNest "SettlerColony" (177 : Nat) "SettlerColony$World" "miles" "[I" "SettlerColony") ∈ lw_tbl := lw_at lw_m3 150 rfl
theorem q756 : (Jvm.Cond.fieldLinkNest "SettlerColony" (168 : Nat) "SettlerColony$World" "stock" "[I" "SettlerColony") ∈ lw_tbl := lw_at lw_m3 152 rfl
theorem q758 : (Jvm.Cond.fieldLinkNest "SettlerColony" (165 : Nat) "SettlerColony$World" "ends" "[I" "SettlerColony") ∈ lw_tbl := lw_at lw_m3 154 rfl
theorem q760 : (Jvm.Cond.fieldLinkNest "SettlerColony" (171 : Nat) "SettlerColony$World" "isFenced" "[Z" "SettlerColony") ∈ lw_tbl := lw_at lw_m3 156 rfl
theorem q762 : (Jvm.Cond.fieldLinkNest "SettlerColony" (114 : Nat) "SettlerColony$World" "wild" "LSettlerColony$Wild;" "SettlerColony") ∈ lw_tbl := lw_at lw_m3 158 rfl
theorem q765 : (Jvm.Cond.fieldLinkNest "SettlerColony" (122 : Nat) "SettlerColony$World" "rains" "LSettlerColony$Rains;" "SettlerColony") ∈ lw_tbl := lw_at lw_m3 161 rfl
theorem q768 : (Jvm.Cond.fieldLinkNest "SettlerColony" (142 : Nat) "SettlerColony$World" "seenYears" "[I" "SettlerColony") ∈ lw_tbl := lw_at lw_m3 164 rfl
theorem q771 : (Jvm.Cond.fieldLinkNest "SettlerColony" (262 : Nat) "SettlerColony$World" "acres" "[I" "SettlerColony") ∈ lw_tbl := lw_at lw_m3 167 rfl
theorem q773 : (Jvm.Cond.fieldLinkNest "SettlerColony" (87 : Nat) "SettlerColony$World" "people" "Ljava/util/ArrayList;" "SettlerColony") ∈ lw_tbl := lw_at lw_m3 169 rfl
theorem q775 : (Jvm.Cond.fieldLinkNest "SettlerColony" (233 : Nat) "SettlerColony$World" "parties" "Ljava/util/ArrayList;" "SettlerColony") ∈ lw_tbl := lw_at lw_m3 171 rfl
theorem q777 : (Jvm.Cond.fieldLinkNest "SettlerColony" (348 : Nat) "SettlerColony$World" "laws" "Ljava/util/ArrayList;" "SettlerColony") ∈ lw_tbl := lw_at lw_m3 173 rfl
theorem q779 : (Jvm.Cond.fieldLinkNest "SettlerColony" (427 : Nat) "SettlerColony$World" "bills" "Ljava/util/ArrayList;" "SettlerColony") ∈ lw_tbl := lw_at lw_m3 175 rfl
theorem q782 : (Jvm.Cond.fieldLinkNest "SettlerColony" (449 : Nat) "SettlerColony$World" "rows" "[I" "SettlerColony") ∈ lw_tbl := lw_at lw_m3 178 rfl
theorem q848 : (Jvm.Cond.methodLink "SettlerColony" (16 : Nat) ({ cls := "SettlerColony$World", name := "<init>", desc := "(LSettlerColony$World;)V" } : Jvm.MethodName)) ∈ lw_all := lw_g (lw_at lw_m4 4 rfl) rfl
theorem q851 : (Jvm.Cond.classLink "SettlerColony" (30 : Nat) "java/util/ArrayList") ∈ lw_all := lw_g (lw_at lw_m4 7 rfl) rfl
theorem q852 : (Jvm.Cond.methodLink "SettlerColony" (32 : Nat) ({ cls := "java/util/ArrayList", name := "<init>", desc := "(I)V" } : Jvm.MethodName)) ∈ lw_all := lw_g (lw_at lw_m4 8 rfl) rfl
theorem q853 : (Jvm.Cond.fieldLink "SettlerColony" (12 : Nat) "SettlerColony" "w" "LSettlerColony$World;") ∈ lw_all := lw_g (lw_at lw_m4 9 rfl) rfl
theorem q854 : (Jvm.Cond.fieldLink "SettlerColony" (19 : Nat) "SettlerColony" "tries" "LSettlerColony$World;") ∈ lw_all := lw_g (lw_at lw_m4 10 rfl) rfl
theorem q855 : (Jvm.Cond.fieldLink "SettlerColony" (342 : Nat) "SettlerColony" "taped" "I") ∈ lw_all := lw_g (lw_at lw_m4 11 rfl) rfl
theorem q856 : (Jvm.Cond.fieldLink "SettlerColony" (22 : Nat) "SettlerColony" "faultAt" "I") ∈ lw_all := lw_g (lw_at lw_m4 12 rfl) rfl
theorem q857 : (Jvm.Cond.fieldLink "SettlerColony" (410 : Nat) "SettlerColony" "ships" "I") ∈ lw_all := lw_g (lw_at lw_m4 13 rfl) rfl
theorem q858 : (Jvm.Cond.fieldLink "SettlerColony" (480 : Nat) "SettlerColony" "planRains" "I") ∈ lw_all := lw_g (lw_at lw_m4 14 rfl) rfl
theorem q859 : (Jvm.Cond.fieldLink "SettlerColony" (474 : Nat) "SettlerColony" "hasPrices" "Z") ∈ lw_all := lw_g (lw_at lw_m4 15 rfl) rfl
theorem q860 : (Jvm.Cond.fieldLink "SettlerColony" (26 : Nat) "SettlerColony" "tape" "[B") ∈ lw_all := lw_g (lw_at lw_m4 16 rfl) rfl
theorem q861 : (Jvm.Cond.fieldLink "SettlerColony" (35 : Nat) "SettlerColony" "orders" "Ljava/util/ArrayList;") ∈ lw_all := lw_g (lw_at lw_m4 17 rfl) rfl
theorem q862 : (Jvm.Cond.fieldLink "SettlerColony" (39 : Nat) "SettlerColony" "asks" "Ljava/util/ArrayList;") ∈ lw_all := lw_g (lw_at lw_m4 18 rfl) rfl
theorem q863 : (Jvm.Cond.fieldLink "SettlerColony" (42 : Nat) "SettlerColony" "orderPaid" "Ljava/util/ArrayList;") ∈ lw_all := lw_g (lw_at lw_m4 19 rfl) rfl
theorem q864 : (Jvm.Cond.fieldLink "SettlerColony" (45 : Nat) "SettlerColony" "isChosen" "[Z") ∈ lw_all := lw_g (lw_at lw_m4 20 rfl) rfl
theorem q865 : (Jvm.Cond.fieldLink "SettlerColony" (49 : Nat) "SettlerColony" "planPrice" "[I") ∈ lw_all := lw_g (lw_at lw_m4 21 rfl) rfl
theorem q866 : (Jvm.Cond.fieldLink "SettlerColony" (53 : Nat) "SettlerColony" "planRain" "[I") ∈ lw_all := lw_g (lw_at lw_m4 22 rfl) rfl
theorem q867 : (Jvm.Cond.fieldLink "SettlerColony" (56 : Nat) "SettlerColony" "planned" "[I") ∈ lw_all := lw_g (lw_at lw_m4 23 rfl) rfl
theorem q868 : (Jvm.Cond.fieldLink "SettlerColony" (59 : Nat) "SettlerColony" "stepPrice" "[I") ∈ lw_all := lw_g (lw_at lw_m4 24 rfl) rfl
theorem q869 : (Jvm.Cond.fieldLink "SettlerColony" (483 : Nat) "SettlerColony" "mostHungry" "I") ∈ lw_all := lw_g (lw_at lw_m4 25 rfl) rfl
theorem q870 : (Jvm.Cond.fieldLink "SettlerColony" (489 : Nat) "SettlerColony" "leastFarms" "I") ∈ lw_all := lw_g (lw_at lw_m4 26 rfl) rfl
theorem q871 : (Jvm.Cond.fieldLink "SettlerColony" (507 : Nat) "SettlerColony" "imageSize" "I") ∈ lw_all := lw_g (lw_at lw_m4 27 rfl) rfl
theorem q872 : (Jvm.Cond.fieldLink "SettlerColony" (514 : Nat) "SettlerColony" "imageSum" "J") ∈ lw_all := lw_g (lw_at lw_m4 28 rfl) rfl
theorem q873 : (Jvm.Cond.fieldLink "SettlerColony" (518 : Nat) "SettlerColony" "imagePlaces" "J") ∈ lw_all := lw_g (lw_at lw_m4 29 rfl) rfl
theorem q874 : (Jvm.Cond.fieldLink "SettlerColony" (62 : Nat) "SettlerColony" "image" "[I") ∈ lw_all := lw_g (lw_at lw_m4 30 rfl) rfl
theorem q875 : (Jvm.Cond.laysFinal "SettlerColony" "SettlerColony" "w" "LSettlerColony$World;") ∈ lw_all := lw_g (lw_at lw_m4 31 rfl) rfl
theorem q876 : (Jvm.Cond.soleField "SettlerColony" "w") ∈ lw_all := lw_g (lw_at lw_m4 32 rfl) rfl
theorem q877 : (Jvm.Cond.laysFinal "SettlerColony" "SettlerColony" "tries" "LSettlerColony$World;") ∈ lw_all := lw_g (lw_at lw_m4 33 rfl) rfl
theorem q878 : (Jvm.Cond.soleField "SettlerColony" "tries") ∈ lw_all := lw_g (lw_at lw_m4 34 rfl) rfl
theorem q879 : (Jvm.Cond.lays "SettlerColony" "SettlerColony" "taped" "I") ∈ lw_all := lw_g (lw_at lw_m4 35 rfl) rfl
theorem q880 : (Jvm.Cond.soleField "SettlerColony" "taped") ∈ lw_all := lw_g (lw_at lw_m4 36 rfl) rfl
theorem q881 : (Jvm.Cond.lays "SettlerColony" "SettlerColony" "faultAt" "I") ∈ lw_all := lw_g (lw_at lw_m4 37 rfl) rfl
theorem q882 : (Jvm.Cond.soleField "SettlerColony" "faultAt") ∈ lw_all := lw_g (lw_at lw_m4 38 rfl) rfl
theorem q883 : (Jvm.Cond.lays "SettlerColony" "SettlerColony" "ships" "I") ∈ lw_all := lw_g (lw_at lw_m4 39 rfl) rfl
theorem q884 : (Jvm.Cond.soleField "SettlerColony" "ships") ∈ lw_all := lw_g (lw_at lw_m4 40 rfl) rfl
theorem q885 : (Jvm.Cond.lays "SettlerColony" "SettlerColony" "planRains" "I") ∈ lw_all := lw_g (lw_at lw_m4 41 rfl) rfl
theorem q886 : (Jvm.Cond.soleField "SettlerColony" "planRains") ∈ lw_all := lw_g (lw_at lw_m4 42 rfl) rfl
theorem q887 : (Jvm.Cond.lays "SettlerColony" "SettlerColony" "hasPrices" "Z") ∈ lw_all := lw_g (lw_at lw_m4 43 rfl) rfl
theorem q888 : (Jvm.Cond.soleField "SettlerColony" "hasPrices") ∈ lw_all := lw_g (lw_at lw_m4 44 rfl) rfl
theorem q889 : (Jvm.Cond.laysFinal "SettlerColony" "SettlerColony" "tape" "[B") ∈ lw_all := lw_g (lw_at lw_m4 45 rfl) rfl
theorem q890 : (Jvm.Cond.soleField "SettlerColony" "tape") ∈ lw_all := lw_g (lw_at lw_m4 46 rfl) rfl
theorem q891 : (Jvm.Cond.laysFinal "SettlerColony" "SettlerColony" "orders" "Ljava/util/ArrayList;") ∈ lw_all := lw_g (lw_at lw_m4 47 rfl) rfl
theorem q892 : (Jvm.Cond.soleField "SettlerColony" "orders") ∈ lw_all := lw_g (lw_at lw_m4 48 rfl) rfl
theorem q893 : (Jvm.Cond.laysFinal "SettlerColony" "SettlerColony" "asks" "Ljava/util/ArrayList;") ∈ lw_all := lw_g (lw_at lw_m4 49 rfl) rfl
theorem q894 : (Jvm.Cond.soleField "SettlerColony" "asks") ∈ lw_all := lw_g (lw_at lw_m4 50 rfl) rfl
theorem q895 : (Jvm.Cond.laysFinal "SettlerColony" "SettlerColony" "orderPaid" "Ljava/util/ArrayList;") ∈ lw_all := lw_g (lw_at lw_m4 51 rfl) rfl
theorem q896 : (Jvm.Cond.soleField "SettlerColony" "orderPaid") ∈ lw_all := lw_g (lw_at lw_m4 52 rfl) rfl
theorem q897 : (Jvm.Cond.laysFinal "SettlerColony" "SettlerColony" "isChosen" "[Z") ∈ lw_all := lw_g (lw_at lw_m4 53 rfl) rfl
theorem q898 : (Jvm.Cond.soleField "SettlerColony" "isChosen") ∈ lw_all := lw_g (lw_at lw_m4 54 rfl) rfl
theorem q899 : (Jvm.Cond.laysFinal "SettlerColony" "SettlerColony" "planPrice" "[I") ∈ lw_all := lw_g (lw_at lw_m4 55 rfl) rfl
theorem q900 : (Jvm.Cond.soleField "SettlerColony" "planPrice") ∈ lw_all := lw_g (lw_at lw_m4 56 rfl) rfl
theorem q901 : (Jvm.Cond.laysFinal "SettlerColony" "SettlerColony" "planRain" "[I") ∈ lw_all := lw_g (lw_at lw_m4 57 rfl) rfl
theorem q902 : (Jvm.Cond.soleField "SettlerColony" "planRain") ∈ lw_all := lw_g (lw_at lw_m4 58 rfl) rfl
theorem q903 : (Jvm.Cond.laysFinal "SettlerColony" "SettlerColony" "planned" "[I") ∈ lw_all := lw_g (lw_at lw_m4 59 rfl) rfl
theorem q904 : (Jvm.Cond.soleField "SettlerColony" "planned") ∈ lw_all := lw_g (lw_at lw_m4 60 rfl) rfl
theorem q905 : (Jvm.Cond.laysFinal "SettlerColony" "SettlerColony" "stepPrice" "[I") ∈ lw_all := lw_g (lw_at lw_m4 61 rfl) rfl
theorem q906 : (Jvm.Cond.soleField "SettlerColony" "stepPrice") ∈ lw_all := lw_g (lw_at lw_m4 62 rfl) rfl
theorem q907 : (Jvm.Cond.lays "SettlerColony" "SettlerColony" "mostHungry" "I") ∈ lw_all := lw_g (lw_at lw_m4 63 rfl) rfl
theorem q908 : (Jvm.Cond.soleField "SettlerColony" "mostHungry") ∈ lw_all := lw_g (lw_at lw_m4 64 rfl) rfl
theorem q909 : (Jvm.Cond.lays "SettlerColony" "SettlerColony" "leastFarms" "I") ∈ lw_all := lw_g (lw_at lw_m4 65 rfl) rfl
theorem q910 : (Jvm.Cond.soleField "SettlerColony" "leastFarms") ∈ lw_all := lw_g (lw_at lw_m4 66 rfl) rfl
theorem q911 : (Jvm.Cond.lays "SettlerColony" "SettlerColony" "imageSize" "I") ∈ lw_all := lw_g (lw_at lw_m4 67 rfl) rfl
theorem q912 : (Jvm.Cond.soleField "SettlerColony" "imageSize") ∈ lw_all := lw_g (lw_at lw_m4 68 rfl) rfl
theorem q913 : (Jvm.Cond.lays "SettlerColony" "SettlerColony" "imageSum" "J") ∈ lw_all := lw_g (lw_at lw_m4 69 rfl) rfl
theorem q914 : (Jvm.Cond.soleField "SettlerColony" "imageSum") ∈ lw_all := lw_g (lw_at lw_m4 70 rfl) rfl
theorem q915 : (Jvm.Cond.lays "SettlerColony" "SettlerColony" "imagePlaces" "J") ∈ lw_all := lw_g (lw_at lw_m4 71 rfl) rfl
theorem q916 : (Jvm.Cond.soleField "SettlerColony" "imagePlaces") ∈ lw_all := lw_g (lw_at lw_m4 72 rfl) rfl
theorem q917 : (Jvm.Cond.laysFinal "SettlerColony" "SettlerColony" "image" "[I") ∈ lw_all := lw_g (lw_at lw_m4 73 rfl) rfl
theorem q918 : (Jvm.Cond.soleField "SettlerColony" "image") ∈ lw_all := lw_g (lw_at lw_m4 74 rfl) rfl
theorem q919 : (Jvm.Cond.superclass "SettlerColony" "java/lang/Object") ∈ lw_all := lw_g (lw_at lw_m4 75 rfl) rfl
theorem q921 : (Jvm.Cond.instanceMethod ({ cls := "SettlerColony", name := "feed", desc := "(IIIII)I" } : Jvm.MethodName)) ∈ lw_all := lw_g (lw_at lw_m4 77 rfl) rfl
theorem q922 : (Jvm.Cond.selects "SettlerColony" ({ cls := "SettlerColony", name := "feed", desc := "(IIIII)I" } : Jvm.MethodName) ({ cls := "SettlerColony", name := "feed", desc := "(IIIII)I" } : Jvm.MethodName)) ∈ lw_all := lw_g (lw_at lw_m4 78 rfl) rfl
theorem q923 : (Jvm.Cond.code ({ cls := "SettlerColony", name := "feed", desc := "(IIIII)I" } : Jvm.MethodName) prog_1_method_37_code (6 : Nat) (Option.some Jvm.ClassFile.FieldType.int)) ∈ lw_all := lw_g (lw_at lw_m4 79 rfl) rfl
theorem q924 : (Jvm.Cond.methodLink "SettlerColony" (345 : Nat) ({ cls := "SettlerColony", name := "put", desc := "(I)V" } : Jvm.MethodName)) ∈ lw_all := lw_g (lw_at lw_m4 80 rfl) rfl
theorem q925 : (Jvm.Cond.privateMethod ({ cls := "SettlerColony", name := "put", desc := "(I)V" } : Jvm.MethodName)) ∈ lw_tbl := lw_at lw_m4 81 rfl
theorem q926 : (Jvm.Cond.instanceMethod ({ cls := "SettlerColony", name := "put", desc := "(I)V" } : Jvm.MethodName)) ∈ lw_all := lw_g (lw_at lw_m4 82 rfl) rfl
theorem q927 : (Jvm.Cond.code ({ cls := "SettlerColony", name := "put", desc := "(I)V" } : Jvm.MethodName) prog_1_method_38_code (3 : Nat) (Option.none : Option Jvm.ClassFile.FieldType)) ∈ lw_all := lw_g (lw_at lw_m4 83 rfl) rfl
theorem q929 : (Jvm.Cond.instanceMethod ({ cls := "SettlerColony", name := "fault", desc := "()I" } : Jvm.MethodName)) ∈ lw_all := lw_g (lw_at lw_m4 85 rfl) rfl
theorem q930 : (Jvm.Cond.selects "SettlerColony" ({ cls := "SettlerColony", name := "fault", desc := "()I" } : Jvm.MethodName) ({ cls := "SettlerColony", name := "fault", desc := "()I" } : Jvm.MethodName)) ∈ lw_all := lw_g (lw_at lw_m4 86 rfl) rfl
theorem q931 : (Jvm.Cond.code ({ cls := "SettlerColony", name := "fault", desc := "()I" } : Jvm.MethodName) prog_1_method_40_code (1 : Nat) (Option.some Jvm.ClassFile.FieldType.int)) ∈ lw_all := lw_g (lw_at lw_m4 87 rfl) rfl
theorem q933 : (Jvm.Cond.instanceMethod ({ cls := "SettlerColony", name := "quoted", desc := "()I" } : Jvm.MethodName)) ∈ lw_all := lw_g (lw_at lw_m4 89 rfl) rfl
theorem q934 : (Jvm.Cond.selects "SettlerColony" ({ cls := "SettlerColony", name := "quoted", desc := "()I" } : Jvm.MethodName) ({ cls := "SettlerColony", name := "quoted", desc := "()I" } : Jvm.MethodName)) ∈ lw_all := lw_g (lw_at lw_m4 90 rfl) rfl
theorem q935 : (Jvm.Cond.code ({ cls := "SettlerColony", name := "quoted", desc := "()I" } : Jvm.MethodName) prog_1_method_48_code (1 : Nat) (Option.some Jvm.ClassFile.FieldType.int)) ∈ lw_all := lw_g (lw_at lw_m4 91 rfl) rfl
theorem q936 : (Jvm.Cond.methodLink "SettlerColony" (291 : Nat) ({ cls := "SettlerColony$World", name := "quoted", desc := "()I" } : Jvm.MethodName)) ∈ lw_all := lw_g (lw_at lw_m4 92 rfl) rfl
theorem q1036 : (Jvm.Cond.instanceMethod ({ cls := "SettlerColony", name := "ship", desc := "(IIII)I" } : Jvm.MethodName)) ∈ lw_all := lw_g (lw_at lw_m4 192 rfl) rfl
theorem q1037 : (Jvm.Cond.selects "SettlerColony" ({ cls := "SettlerColony", name := "ship", desc := "(IIII)I" } : Jvm.MethodName) ({ cls := "SettlerColony", name := "ship", desc := "(IIII)I" } : Jvm.MethodName)) ∈ lw_all := lw_g (lw_at lw_m4 193 rfl) rfl
theorem q1038 : (Jvm.Cond.codeWith ({ cls := "SettlerColony", name := "ship", desc := "(IIII)I" } : Jvm.MethodName) prog_1_method_50_code (10 : Nat) (Option.some Jvm.ClassFile.FieldType.int) [((22 : Nat), (48 : Nat), (51 : Nat), (408 : Nat))]) ∈ lw_all := lw_g (lw_at lw_m4 194 rfl) rfl
theorem q1039 : (Jvm.Cond.classLink "SettlerColony" (408 : Nat) "java/lang/NegativeArraySizeException") ∈ lw_all := lw_g (lw_at lw_m4 195 rfl) rfl
theorem q1043 : (Jvm.Cond.methodLink "SettlerColony" (404 : Nat) ({ cls := "SettlerColony", name := "rowOf", desc := "(I)[LSettlerColony$Person;" } : Jvm.MethodName)) ∈ lw_all := lw_g (lw_at lw_m4 199 rfl) rfl
theorem q1044 : (Jvm.Cond.static ({ cls := "SettlerColony", name := "rowOf", desc := "(I)[LSettlerColony$Person;" } : Jvm.MethodName)) ∈ lw_all := lw_g (lw_at lw_m4 200 rfl) rfl
theorem q1045 : (Jvm.Cond.code ({ cls := "SettlerColony", name := "rowOf", desc := "(I)[LSettlerColony$Person;" } : Jvm.MethodName) prog_1_method_49_code (1 : Nat) (Option.some (Jvm.ClassFile.FieldType.array (Jvm.ClassFile.FieldType.object "SettlerColony$Person")))) ∈ lw_all := lw_g (lw_at lw_m4 201 rfl) rfl
theorem q1046 : (Jvm.Cond.methodLink "SettlerColony" (399 : Nat) ({ cls := "java/lang/Math", name := "min", desc := "(II)I" } : Jvm.MethodName)) ∈ lw_all := lw_g (lw_at lw_m4 202 rfl) rfl
theorem q1047 : (Jvm.Cond.classLink "SettlerColony" (94 : Nat) "SettlerColony$Person") ∈ lw_all := lw_g (lw_at lw_m4 203 rfl) rfl
theorem q1049 : (Jvm.Cond.methodLink "SettlerColony" (90 : Nat) ({ cls := "java/util/ArrayList", name := "size", desc := "()I" } : Jvm.MethodName)) ∈ lw_all := lw_g (lw_at lw_m4 205 rfl) rfl
theorem q1050 : (Jvm.Cond.methodLink "SettlerColony" (413 : Nat) ({ cls := "SettlerColony$World", name := "passages", desc := "()I" } : Jvm.MethodName)) ∈ lw_all := lw_g (lw_at lw_m4 206 rfl) rfl
theorem q1054 : (Jvm.Cond.methodLink "SettlerColony" (81 : Nat) ({ cls := "java/util/ArrayList", name := "get", desc := "(I)Ljava/lang/Object;" } : Jvm.MethodName)) ∈ lw_all := lw_g (lw_at lw_m4 210 rfl) rfl
theorem q1055 : (Jvm.Cond.methodLink "SettlerColony" (419 : Nat) ({ cls := "SettlerColony", name := "sails", desc := "(LSettlerColony$Person;)V" } : Jvm.MethodName)) ∈ lw_all := lw_g (lw_at lw_m4 211 rfl) rfl
theorem q1056 : (Jvm.Cond.privateMethod ({ cls := "SettlerColony", name := "sails", desc := "(LSettlerColony$Person;)V" } : Jvm.MethodName)) ∈ lw_tbl := lw_at lw_m4 212 rfl
theorem q1057 : (Jvm.Cond.instanceMethod ({ cls := "SettlerColony", name := "sails", desc := "(LSettlerColony$Person;)V" } : Jvm.MethodName)) ∈ lw_all := lw_g (lw_at lw_m4 213 rfl) rfl
theorem q1058 : (Jvm.Cond.code ({ cls := "SettlerColony", name := "sails", desc := "(LSettlerColony$Person;)V" } : Jvm.MethodName) prog_1_method_51_code (2 : Nat) (Option.none : Option Jvm.ClassFile.FieldType)) ∈ lw_all := lw_g (lw_at lw_m4 214 rfl) rfl
theorem q1060 : (Jvm.Cond.methodLink "SettlerColony" (196 : Nat) ({ cls := "SettlerColony$Person", name := "<init>", desc := "(III)V" } : Jvm.MethodName)) ∈ lw_all := lw_g (lw_at lw_m4 216 rfl) rfl
theorem q1066 : (Jvm.Cond.fieldLinkNest "SettlerColony" (265 : Nat) "SettlerColony$Person" "number" "I" "SettlerColony") ∈ lw_tbl := lw_at lw_m4 222 rfl
theorem q1069 : (Jvm.Cond.fieldLinkNest "SettlerColony" (206 : Nat) "SettlerColony$Person" "trade" "I" "SettlerColony") ∈ lw_tbl := lw_at lw_m4 225 rfl
theorem q1072 : (Jvm.Cond.fieldLinkNest "SettlerColony" (209 : Nat) "SettlerColony$Person" "coins" "I" "SettlerColony") ∈ lw_tbl := lw_at lw_m4 228 rfl
theorem q1075 : (Jvm.Cond.fieldLinkNest "SettlerColony" (212 : Nat) "SettlerColony$Person" "is" "I" "SettlerColony") ∈ lw_tbl := lw_at lw_m4 231 rfl
theorem q1078 : (Jvm.Cond.fieldLinkNest "SettlerColony" (215 : Nat) "SettlerColony$Person" "boss" "I" "SettlerColony") ∈ lw_tbl := lw_at lw_m4 234 rfl
theorem q1081 : (Jvm.Cond.fieldLinkNest "SettlerColony" (218 : Nat) "SettlerColony$Person" "hands" "I" "SettlerColony") ∈ lw_tbl := lw_at lw_m4 237 rfl
theorem q1084 : (Jvm.Cond.fieldLinkNest "SettlerColony" (221 : Nat) "SettlerColony$Person" "farms" "I" "SettlerColony") ∈ lw_tbl := lw_at lw_m5 0 rfl
theorem q1086 : (Jvm.Cond.fieldLinkNest "SettlerColony" (224 : Nat) "SettlerColony$Person" "order" "I" "SettlerColony") ∈ lw_tbl := lw_at lw_m5 2 rfl
theorem q1088 : (Jvm.Cond.fieldLinkNest "SettlerColony" (227 : Nat) "SettlerColony$Person" "hungry" "I" "SettlerColony") ∈ lw_tbl := lw_at lw_m5 4 rfl
theorem q1091 : (Jvm.Cond.fieldLinkNest "SettlerColony" (230 : Nat) "SettlerColony$Person" "lands" "I" "SettlerColony") ∈ lw_tbl := lw_at lw_m5 7 rfl
theorem q1114 : (Jvm.Cond.methodLink "SettlerColony" (199 : Nat) ({ cls := "java/util/ArrayList", name := "add", desc := "(Ljava/lang/Object;)Z" } : Jvm.MethodName)) ∈ lw_all := lw_g (lw_at lw_m5 30 rfl) rfl
theorem q1116 : (Jvm.Cond.instanceMethod ({ cls := "SettlerColony", name := "passages", desc := "()I" } : Jvm.MethodName)) ∈ lw_all := lw_g (lw_at lw_m5 32 rfl) rfl
theorem q1117 : (Jvm.Cond.selects "SettlerColony" ({ cls := "SettlerColony", name := "passages", desc := "()I" } : Jvm.MethodName) ({ cls := "SettlerColony", name := "passages", desc := "()I" } : Jvm.MethodName)) ∈ lw_all := lw_g (lw_at lw_m5 33 rfl) rfl
theorem q1118 : (Jvm.Cond.code ({ cls := "SettlerColony", name := "passages", desc := "()I" } : Jvm.MethodName) prog_1_method_52_code (1 : Nat) (Option.some Jvm.ClassFile.FieldType.int)) ∈ lw_all := lw_g (lw_at lw_m5 34 rfl) rfl
theorem q1120 : (Jvm.Cond.instanceMethod ({ cls := "SettlerColony", name := "image", desc := "()I" } : Jvm.MethodName)) ∈ lw_all := lw_g (lw_at lw_m5 36 rfl) rfl
theorem q1121 : (Jvm.Cond.selects "SettlerColony" ({ cls := "SettlerColony", name := "image", desc := "()I" } : Jvm.MethodName) ({ cls := "SettlerColony", name := "image", desc := "()I" } : Jvm.MethodName)) ∈ lw_all := lw_g (lw_at lw_m5 37 rfl) rfl
theorem q1122 : (Jvm.Cond.code ({ cls := "SettlerColony", name := "image", desc := "()I" } : Jvm.MethodName) prog_1_method_67_code (2 : Nat) (Option.some Jvm.ClassFile.FieldType.int)) ∈ lw_all := lw_g (lw_at lw_m5 38 rfl) rfl
theorem q1123 : (Jvm.Cond.methodLink "SettlerColony" (504 : Nat) ({ cls := "SettlerColony$World", name := "at", desc := "(I)LSettlerColony$Holding;" } : Jvm.MethodName)) ∈ lw_all := lw_g (lw_at lw_m5 39 rfl) rfl
theorem q1166 : (Jvm.Cond.methodLink "SettlerColony" (510 : Nat) ({ cls := "SettlerColony", name := "sum", desc := "(Z)J" } : Jvm.MethodName)) ∈ lw_all := lw_g (lw_at lw_m5 82 rfl) rfl
theorem q1167 : (Jvm.Cond.privateMethod ({ cls := "SettlerColony", name := "sum", desc := "(Z)J" } : Jvm.MethodName)) ∈ lw_tbl := lw_at lw_m5 83 rfl
theorem q1168 : (Jvm.Cond.instanceMethod ({ cls := "SettlerColony", name := "sum", desc := "(Z)J" } : Jvm.MethodName)) ∈ lw_all := lw_g (lw_at lw_m5 84 rfl) rfl
theorem q1169 : (Jvm.Cond.code ({ cls := "SettlerColony", name := "sum", desc := "(Z)J" } : Jvm.MethodName) prog_1_method_68_code (5 : Nat) (Option.some Jvm.ClassFile.FieldType.long)) ∈ lw_all := lw_g (lw_at lw_m5 85 rfl) rfl
theorem q1171 : (Jvm.Cond.instanceMethod ({ cls := "SettlerColony", name := "number", desc := "(I)I" } : Jvm.MethodName)) ∈ lw_all := lw_g (lw_at lw_m5 87 rfl) rfl
theorem q1172 : (Jvm.Cond.selects "SettlerColony" ({ cls := "SettlerColony", name := "number", desc := "(I)I" } : Jvm.MethodName) ({ cls := "SettlerColony", name := "number", desc := "(I)I" } : Jvm.MethodName)) ∈ lw_all := lw_g (lw_at lw_m5 88 rfl) rfl
theorem q1173 : (Jvm.Cond.code ({ cls := "SettlerColony", name := "number", desc := "(I)I" } : Jvm.MethodName) prog_1_method_69_code (2 : Nat) (Option.some Jvm.ClassFile.FieldType.int)) ∈ lw_all := lw_g (lw_at lw_m5 89 rfl) rfl
theorem q1175 : (Jvm.Cond.instanceMethod ({ cls := "SettlerColony", name := "tear", desc := "(II)I" } : Jvm.MethodName)) ∈ lw_all := lw_g (lw_at lw_m5 91 rfl) rfl
theorem q1176 : (Jvm.Cond.selects "SettlerColony" ({ cls := "SettlerColony", name := "tear", desc := "(II)I" } : Jvm.MethodName) ({ cls := "SettlerColony", name := "tear", desc := "(II)I" } : Jvm.MethodName)) ∈ lw_all := lw_g (lw_at lw_m5 92 rfl) rfl
theorem q1177 : (Jvm.Cond.code ({ cls := "SettlerColony", name := "tear", desc := "(II)I" } : Jvm.MethodName) prog_1_method_70_code (3 : Nat) (Option.some Jvm.ClassFile.FieldType.int)) ∈ lw_all := lw_g (lw_at lw_m5 93 rfl) rfl
theorem q1179 : (Jvm.Cond.instanceMethod ({ cls := "SettlerColony", name := "check", desc := "()I" } : Jvm.MethodName)) ∈ lw_all := lw_g (lw_at lw_m5 95 rfl) rfl
theorem q1180 : (Jvm.Cond.selects "SettlerColony" ({ cls := "SettlerColony", name := "check", desc := "()I" } : Jvm.MethodName) ({ cls := "SettlerColony", name := "check", desc := "()I" } : Jvm.MethodName)) ∈ lw_all := lw_g (lw_at lw_m5 96 rfl) rfl
theorem q1181 : (Jvm.Cond.code ({ cls := "SettlerColony", name := "check", desc := "()I" } : Jvm.MethodName) prog_1_method_71_code (5 : Nat) (Option.some Jvm.ClassFile.FieldType.int)) ∈ lw_all := lw_g (lw_at lw_m5 97 rfl) rfl
theorem q1183 : (Jvm.Cond.instanceMethod ({ cls := "SettlerColony", name := "count", desc := "(I)I" } : Jvm.MethodName)) ∈ lw_all := lw_g (lw_at lw_m5 99 rfl) rfl
theorem q1184 : (Jvm.Cond.selects "SettlerColony" ({ cls := "SettlerColony", name := "count", desc := "(I)I" } : Jvm.MethodName) ({ cls := "SettlerColony", name := "count", desc := "(I)I" } : Jvm.MethodName)) ∈ lw_all := lw_g (lw_at lw_m5 100 rfl) rfl
theorem q1185 : (Jvm.Cond.code ({ cls := "SettlerColony", name := "count", desc := "(I)I" } : Jvm.MethodName) prog_1_method_72_code (2 : Nat) (Option.some Jvm.ClassFile.FieldType.int)) ∈ lw_all := lw_g (lw_at lw_m5 101 rfl) rfl
theorem q1186 : (Jvm.Cond.methodLink "SettlerColony" (461 : Nat) ({ cls := "SettlerColony$World", name := "here", desc := "()I" } : Jvm.MethodName)) ∈ lw_all := lw_g (lw_at lw_m5 102 rfl) rfl
theorem q1195 : (Jvm.Cond.methodLink "SettlerColony" (452 : Nat) ({ cls := "SettlerColony$World", name := "farms", desc := "()I" } : Jvm.MethodName)) ∈ lw_all := lw_g (lw_at lw_m5 111 rfl) rfl
theorem q1236 : (Jvm.Cond.instanceMethod ({ cls := "SettlerColony", name := "land", desc := "(IIZ)I" } : Jvm.MethodName)) ∈ lw_all := lw_g (lw_at lw_m5 152 rfl) rfl
theorem q1237 : (Jvm.Cond.selects "SettlerColony" ({ cls := "SettlerColony", name := "land", desc := "(IIZ)I" } : Jvm.MethodName) ({ cls := "SettlerColony", name := "land", desc := "(IIZ)I" } : Jvm.MethodName)) ∈ lw_all := lw_g (lw_at lw_m5 153 rfl) rfl
theorem q1238 : (Jvm.Cond.code ({ cls := "SettlerColony", name := "land", desc := "(IIZ)I" } : Jvm.MethodName) prog_1_method_9_code (5 : Nat) (Option.some Jvm.ClassFile.FieldType.int)) ∈ lw_all := lw_g (lw_at lw_m5 154 rfl) rfl
theorem q1239 : (Jvm.Cond.methodLink "SettlerColony" (96 : Nat) ({ cls := "SettlerColony", name := "slotOf", desc := "(I)LSettlerColony$Slot;" } : Jvm.MethodName)) ∈ lw_all := lw_g (lw_at lw_m5 155 rfl) rfl
theorem q1240 : (Jvm.Cond.privateMethod ({ cls := "SettlerColony", name := "slotOf", desc := "(I)LSettlerColony$Slot;" } : Jvm.MethodName)) ∈ lw_tbl := lw_at lw_m5 156 rfl
theorem q1241 : (Jvm.Cond.instanceMethod ({ cls := "SettlerColony", name := "slotOf", desc := "(I)LSettlerColony$Slot;" } : Jvm.MethodName)) ∈ lw_all := lw_g (lw_at lw_m5 157 rfl) rfl
theorem q1242 : (Jvm.Cond.code ({ cls := "SettlerColony", name := "slotOf", desc := "(I)LSettlerColony$Slot;" } : Jvm.MethodName) prog_1_method_7_code (2 : Nat) (Option.some (Jvm.ClassFile.FieldType.object "SettlerColony$Slot"))) ∈ lw_all := lw_g (lw_at lw_m5 158 rfl) rfl
theorem q1243 : (Jvm.Cond.methodLink "SettlerColony" (74 : Nat) ({ cls := "SettlerColony", name := "there", desc := "(II)V" } : Jvm.MethodName)) ∈ lw_all := lw_g (lw_at lw_m5 159 rfl) rfl
theorem q1244 : (Jvm.Cond.static ({ cls := "SettlerColony", name := "there", desc := "(II)V" } : Jvm.MethodName)) ∈ lw_all := lw_g (lw_at lw_m5 160 rfl) rfl
theorem q1245 : (Jvm.Cond.code ({ cls := "SettlerColony", name := "there", desc := "(II)V" } : Jvm.MethodName) prog_1_method_6_code (2 : Nat) (Option.none : Option Jvm.ClassFile.FieldType)) ∈ lw_all := lw_g (lw_at lw_m5 161 rfl) rfl
theorem q1246 : (Jvm.Cond.classLink "SettlerColony" (71 : Nat) "java/lang/IndexOutOfBoundsException") ∈ lw_all := lw_g (lw_at lw_m5 162 rfl) rfl
theorem q1255 : (Jvm.Cond.methodLink "SettlerColony" (73 : Nat) ({ cls := "java/lang/IndexOutOfBoundsException", name := "<init>", desc := "()V" } : Jvm.MethodName)) ∈ lw_all := lw_g (lw_at lw_m5 171 rfl) rfl
theorem q1261 : (Jvm.Cond.classLink "SettlerColony" (85 : Nat) "SettlerColony$Slot") ∈ lw_all := lw_g (lw_at lw_m5 177 rfl) rfl
theorem q1262 : (Jvm.Cond.methodLink "SettlerColony" (100 : Nat) ({ cls := "SettlerColony", name := "need", desc := "(Z)V" } : Jvm.MethodName)) ∈ lw_all := lw_g (lw_at lw_m5 178 rfl) rfl
theorem q1263 : (Jvm.Cond.static ({ cls := "SettlerColony", name := "need", desc := "(Z)V" } : Jvm.MethodName)) ∈ lw_all := lw_g (lw_at lw_m5 179 rfl) rfl
theorem q1264 : (Jvm.Cond.code ({ cls := "SettlerColony", name := "need", desc := "(Z)V" } : Jvm.MethodName) prog_1_method_4_code (1 : Nat) (Option.none : Option Jvm.ClassFile.FieldType)) ∈ lw_all := lw_g (lw_at lw_m5 180 rfl) rfl
theorem q1265 : (Jvm.Cond.classLink "SettlerColony" (65 : Nat) "java/lang/IllegalArgumentException") ∈ lw_all := lw_g (lw_at lw_m5 181 rfl) rfl
theorem q1266 : (Jvm.Cond.methodLink "SettlerColony" (67 : Nat) ({ cls := "java/lang/IllegalArgumentException", name := "<init>", desc := "()V" } : Jvm.MethodName)) ∈ lw_all := lw_g (lw_at lw_m5 182 rfl) rfl
theorem q1270 : (Jvm.Cond.methodLink "SettlerColony" (104 : Nat) ({ cls := "SettlerColony$Slot", name := "isWild", desc := "()Z" } : Jvm.MethodName)) ∈ lw_all := lw_g (lw_at lw_m5 186 rfl) rfl
theorem q1275 : (Jvm.Cond.methodLink "SettlerColony" (118 : Nat) ({ cls := "SettlerColony$World", name := "puts", desc := "(ILSettlerColony$Holding;)V" } : Jvm.MethodName)) ∈ lw_all := lw_g (lw_at lw_m5 191 rfl) rfl
theorem q1280 : (Jvm.Cond.instanceMethod ({ cls := "SettlerColony", name := "rain", desc := "(II)I" } : Jvm.MethodName)) ∈ lw_all := lw_g (lw_at lw_m5 196 rfl) rfl
theorem q1281 : (Jvm.Cond.selects "SettlerColony" ({ cls := "SettlerColony", name := "rain", desc := "(II)I" } : Jvm.MethodName) ({ cls := "SettlerColony", name := "rain", desc := "(II)I" } : Jvm.MethodName)) ∈ lw_all := lw_g (lw_at lw_m5 197 rfl) rfl
theorem q1282 : (Jvm.Cond.code ({ cls := "SettlerColony", name := "rain", desc := "(II)I" } : Jvm.MethodName) prog_1_method_10_code (3 : Nat) (Option.some Jvm.ClassFile.FieldType.int)) ∈ lw_all := lw_g (lw_at lw_m5 198 rfl) rfl
theorem q1283 : (Jvm.Cond.constantFloat "SettlerColony" (133 : Nat) (2143289344 : UInt32)) ∈ lw_all := lw_g (lw_at lw_m5 199 rfl) rfl
theorem q1284 : (Jvm.Cond.methodLink "SettlerColony" (134 : Nat) ({ cls := "SettlerColony$Rains", name := "add", desc := "(IF)V" } : Jvm.MethodName)) ∈ lw_all := lw_g (lw_at lw_m5 200 rfl) rfl
theorem q1293 : (Jvm.Cond.instanceMethod ({ cls := "SettlerColony", name := "rains", desc := "(III)I" } : Jvm.MethodName)) ∈ lw_all := lw_g (lw_at lw_m5 209 rfl) rfl
theorem q1294 : (Jvm.Cond.selects "SettlerColony" ({ cls := "SettlerColony", name := "rains", desc := "(III)I" } : Jvm.MethodName) ({ cls := "SettlerColony", name := "rains", desc := "(III)I" } : Jvm.MethodName)) ∈ lw_all := lw_g (lw_at lw_m5 210 rfl) rfl
theorem q1295 : (Jvm.Cond.code ({ cls := "SettlerColony", name := "rains", desc := "(III)I" } : Jvm.MethodName) prog_1_method_11_code (5 : Nat) (Option.some Jvm.ClassFile.FieldType.int)) ∈ lw_all := lw_g (lw_at lw_m5 211 rfl) rfl
theorem q1300 : (Jvm.Cond.instanceMethod ({ cls := "SettlerColony", name := "fell", desc := "(II)I" } : Jvm.MethodName)) ∈ lw_all := lw_g (lw_at lw_m5 216 rfl) rfl
theorem q1301 : (Jvm.Cond.selects "SettlerColony" ({ cls := "SettlerColony", name := "fell", desc := "(II)I" } : Jvm.MethodName) ({ cls := "SettlerColony", name := "fell", desc := "(II)I" } : Jvm.MethodName)) ∈ lw_all := lw_g (lw_at lw_m5 217 rfl) rfl
theorem q1302 : (Jvm.Cond.code ({ cls := "SettlerColony", name := "fell", desc := "(II)I" } : Jvm.MethodName) prog_1_method_12_code (3 : Nat) (Option.some Jvm.ClassFile.FieldType.int)) ∈ lw_all := lw_g (lw_at lw_m5 218 rfl) rfl
theorem q1303 : (Jvm.Cond.methodLink "SettlerColony" (138 : Nat) ({ cls := "SettlerColony$Rains", name := "fell", desc := "(II)I" } : Jvm.MethodName)) ∈ lw_all := lw_g (lw_at lw_m5 219 rfl) rfl
theorem q1316 : (Jvm.Cond.instanceMethod ({ cls := "SettlerColony", name := "seen", desc := "(I)I" } : Jvm.MethodName)) ∈ lw_all := lw_g (lw_at lw_m5 232 rfl) rfl
theorem q1317 : (Jvm.Cond.selects "SettlerColony" ({ cls := "SettlerColony", name := "seen", desc := "(I)I" } : Jvm.MethodName) ({ cls := "SettlerColony", name := "seen", desc := "(I)I" } : Jvm.MethodName)) ∈ lw_all := lw_g (lw_at lw_m5 233 rfl) rfl
theorem q1318 : (Jvm.Cond.code ({ cls := "SettlerColony", name := "seen", desc := "(I)I" } : Jvm.MethodName) prog_1_method_13_code (2 : Nat) (Option.some Jvm.ClassFile.FieldType.int)) ∈ lw_all := lw_g (lw_at lw_m5 234 rfl) rfl
theorem q1323 : (Jvm.Cond.instanceMethod ({ cls := "SettlerColony", name := "promise", desc := "(I)I" } : Jvm.MethodName)) ∈ lw_all := lw_g (lw_at lw_m5 239 rfl) rfl
theorem q1324 : (Jvm.Cond.selects "SettlerColony" ({ cls := "SettlerColony", name := "promise", desc := "(I)I" } : Jvm.MethodName) ({ cls := "SettlerColony", name := "promise", desc := "(I)I" } : Jvm.MethodName)) ∈ lw_all := lw_g (lw_at lw_m6 0 rfl) rfl
theorem q1325 : (Jvm.Cond.code ({ cls := "SettlerColony", name := "promise", desc := "(I)I" } : Jvm.MethodName) prog_1_method_14_code (2 : Nat) (Option.some Jvm.ClassFile.FieldType.int)) ∈ lw_all := lw_g (lw_at lw_m6 1 rfl) rfl
theorem q1326 : (Jvm.Cond.methodLink "SettlerColony" (145 : Nat) ({ cls := "SettlerColony$World", name := "promise", desc := "(I)I" } : Jvm.MethodName)) ∈ lw_all := lw_g (lw_at lw_m6 2 rfl) rfl
theorem q1331 : (Jvm.Cond.static ({ cls := "SettlerColony", name := "zoneOf", desc := "(I)I" } : Jvm.MethodName)) ∈ lw_all := lw_g (lw_at lw_m6 7 rfl) rfl
theorem q1332 : (Jvm.Cond.code ({ cls := "SettlerColony", name := "zoneOf", desc := "(I)I" } : Jvm.MethodName) prog_1_method_1_code (1 : Nat) (Option.some Jvm.ClassFile.FieldType.int)) ∈ lw_all := lw_g (lw_at lw_m6 8 rfl) rfl
theorem q1337 : (Jvm.Cond.instanceMethod ({ cls := "SettlerColony", name := "section", desc := "(II)I" } : Jvm.MethodName)) ∈ lw_all := lw_g (lw_at lw_m6 13 rfl) rfl
theorem q1338 : (Jvm.Cond.selects "SettlerColony" ({ cls := "SettlerColony", name := "section", desc := "(II)I" } : Jvm.MethodName) ({ cls := "SettlerColony", name := "section", desc := "(II)I" } : Jvm.MethodName)) ∈ lw_all := lw_g (lw_at lw_m6 14 rfl) rfl
theorem q1339 : (Jvm.Cond.code ({ cls := "SettlerColony", name := "section", desc := "(II)I" } : Jvm.MethodName) prog_1_method_15_code (6 : Nat) (Option.some Jvm.ClassFile.FieldType.int)) ∈ lw_all := lw_g (lw_at lw_m6 15 rfl) rfl
theorem q1340 : (Jvm.Cond.methodLink "SettlerColony" (149 : Nat) ({ cls := "SettlerColony$Slot", name := "holding", desc := "()LSettlerColony$Holding;" } : Jvm.MethodName)) ∈ lw_all := lw_g (lw_at lw_m6 16 rfl) rfl
theorem q1341 : (Jvm.Cond.methodLink "SettlerColony" (153 : Nat) ({ cls := "SettlerColony$Slot", name := "pasture", desc := "()LSettlerColony$Run;" } : Jvm.MethodName)) ∈ lw_all := lw_g (lw_at lw_m6 17 rfl) rfl
theorem q1362 : (Jvm.Cond.instanceMethod ({ cls := "SettlerColony", name := "is", desc := "(II)Z" } : Jvm.MethodName)) ∈ lw_all := lw_g (lw_at lw_m6 38 rfl) rfl
theorem q1363 : (Jvm.Cond.selects "SettlerColony" ({ cls := "SettlerColony", name := "is", desc := "(II)Z" } : Jvm.MethodName) ({ cls := "SettlerColony", name := "is", desc := "(II)Z" } : Jvm.MethodName)) ∈ lw_all := lw_g (lw_at lw_m6 39 rfl) rfl
theorem q1364 : (Jvm.Cond.code ({ cls := "SettlerColony", name := "is", desc := "(II)Z" } : Jvm.MethodName) prog_1_method_16_code (5 : Nat) (Option.some Jvm.ClassFile.FieldType.boolean)) ∈ lw_all := lw_g (lw_at lw_m6 40 rfl) rfl
theorem q1365 : (Jvm.Cond.methodLink "SettlerColony" (180 : Nat) ({ cls := "SettlerColony$Slot", name := "lot", desc := "()LSettlerColony$Lot;" } : Jvm.MethodName)) ∈ lw_all := lw_g (lw_at lw_m6 41 rfl) rfl
theorem q1399 : (Jvm.Cond.instanceMethod ({ cls := "SettlerColony", name := "people", desc := "(III)I" } : Jvm.MethodName)) ∈ lw_all := lw_g (lw_at lw_m6 75 rfl) rfl
theorem q1400 : (Jvm.Cond.selects "SettlerColony" ({ cls := "SettlerColony", name := "people", desc := "(III)I" } : Jvm.MethodName) ({ cls := "SettlerColony", name := "people", desc := "(III)I" } : Jvm.MethodName)) ∈ lw_all := lw_g (lw_at lw_m6 76 rfl) rfl
theorem q1401 : (Jvm.Cond.code ({ cls := "SettlerColony", name := "people", desc := "(III)I" } : Jvm.MethodName) prog_1_method_17_code (6 : Nat) (Option.some Jvm.ClassFile.FieldType.int)) ∈ lw_all := lw_g (lw_at lw_m6 77 rfl) rfl
theorem q1402 : (Jvm.Cond.constant "SettlerColony" (193 : Nat) (1000000 : Int32)) ∈ lw_all := lw_g (lw_at lw_m6 78 rfl) rfl
theorem q1403 : (Jvm.Cond.constantLong "SettlerColony" (194 : Nat) (100 : Int64)) ∈ lw_all := lw_g (lw_at lw_m6 79 rfl) rfl
theorem q1408 : (Jvm.Cond.instanceMethod ({ cls := "SettlerColony", name := "person", desc := "(II)I" } : Jvm.MethodName)) ∈ lw_all := lw_g (lw_at lw_m6 84 rfl) rfl
theorem q1409 : (Jvm.Cond.selects "SettlerColony" ({ cls := "SettlerColony", name := "person", desc := "(II)I" } : Jvm.MethodName) ({ cls := "SettlerColony", name := "person", desc := "(II)I" } : Jvm.MethodName)) ∈ lw_all := lw_g (lw_at lw_m6 85 rfl) rfl
theorem q1410 : (Jvm.Cond.code ({ cls := "SettlerColony", name := "person", desc := "(II)I" } : Jvm.MethodName) prog_1_method_18_code (4 : Nat) (Option.some Jvm.ClassFile.FieldType.int)) ∈ lw_all := lw_g (lw_at lw_m6 86 rfl) rfl
theorem q1411 : (Jvm.Cond.methodLink "SettlerColony" (202 : Nat) ({ cls := "SettlerColony", name := "personOf", desc := "(I)LSettlerColony$Person;" } : Jvm.MethodName)) ∈ lw_all := lw_g (lw_at lw_m6 87 rfl) rfl
theorem q1412 : (Jvm.Cond.privateMethod ({ cls := "SettlerColony", name := "personOf", desc := "(I)LSettlerColony$Person;" } : Jvm.MethodName)) ∈ lw_tbl := lw_at lw_m6 88 rfl
theorem q1413 : (Jvm.Cond.instanceMethod ({ cls := "SettlerColony", name := "personOf", desc := "(I)LSettlerColony$Person;" } : Jvm.MethodName)) ∈ lw_all := lw_g (lw_at lw_m6 89 rfl) rfl
theorem q1414 : (Jvm.Cond.code ({ cls := "SettlerColony", name := "personOf", desc := "(I)LSettlerColony$Person;" } : Jvm.MethodName) prog_1_method_8_code (2 : Nat) (Option.some (Jvm.ClassFile.FieldType.object "SettlerColony$Person"))) ∈ lw_all := lw_g (lw_at lw_m6 90 rfl) rfl
theorem q1419 : (Jvm.Cond.instanceMethod ({ cls := "SettlerColony", name := "party", desc := "(I)I" } : Jvm.MethodName)) ∈ lw_all := lw_g (lw_at lw_m6 95 rfl) rfl
theorem q1420 : (Jvm.Cond.selects "SettlerColony" ({ cls := "SettlerColony", name := "party", desc := "(I)I" } : Jvm.MethodName) ({ cls := "SettlerColony", name := "party", desc := "(I)I" } : Jvm.MethodName)) ∈ lw_all := lw_g (lw_at lw_m6 96 rfl) rfl
theorem q1421 : (Jvm.Cond.code ({ cls := "SettlerColony", name := "party", desc := "(I)I" } : Jvm.MethodName) prog_1_method_19_code (2 : Nat) (Option.some Jvm.ClassFile.FieldType.int)) ∈ lw_all := lw_g (lw_at lw_m6 97 rfl) rfl
theorem q1422 : (Jvm.Cond.classLink "SettlerColony" (236 : Nat) "SettlerColony$Party") ∈ lw_all := lw_g (lw_at lw_m6 98 rfl) rfl
theorem q1424 : (Jvm.Cond.methodLink "SettlerColony" (238 : Nat) ({ cls := "SettlerColony$Party", name := "<init>", desc := "(I)V" } : Jvm.MethodName)) ∈ lw_all := lw_g (lw_at lw_m6 100 rfl) rfl
theorem q1431 : (Jvm.Cond.fieldLinkNest "SettlerColony" (248 : Nat) "SettlerColony$Party" "at" "I" "SettlerColony") ∈ lw_tbl := lw_at lw_m6 107 rfl
theorem q1434 : (Jvm.Cond.fieldLinkNest "SettlerColony" (243 : Nat) "SettlerColony$Party" "many" "I" "SettlerColony") ∈ lw_tbl := lw_at lw_m6 110 rfl
theorem q1437 : (Jvm.Cond.fieldLinkNest "SettlerColony" (245 : Nat) "SettlerColony$Party" "queue" "[I" "SettlerColony") ∈ lw_tbl := lw_at lw_m6 113 rfl
theorem q1452 : (Jvm.Cond.instanceMethod ({ cls := "SettlerColony", name := "queue", desc := "(II)I" } : Jvm.MethodName)) ∈ lw_all := lw_g (lw_at lw_m6 128 rfl) rfl
theorem q1453 : (Jvm.Cond.selects "SettlerColony" ({ cls := "SettlerColony", name := "queue", desc := "(II)I" } : Jvm.MethodName) ({ cls := "SettlerColony", name := "queue", desc := "(II)I" } : Jvm.MethodName)) ∈ lw_all := lw_g (lw_at lw_m6 129 rfl) rfl
theorem q1454 : (Jvm.Cond.code ({ cls := "SettlerColony", name := "queue", desc := "(II)I" } : Jvm.MethodName) prog_1_method_21_code (5 : Nat) (Option.some Jvm.ClassFile.FieldType.int)) ∈ lw_all := lw_g (lw_at lw_m6 130 rfl) rfl
theorem q1455 : (Jvm.Cond.methodLink "SettlerColony" (239 : Nat) ({ cls := "SettlerColony", name := "partyOf", desc := "(I)LSettlerColony$Party;" } : Jvm.MethodName)) ∈ lw_all := lw_g (lw_at lw_m6 131 rfl) rfl
theorem q1456 : (Jvm.Cond.privateMethod ({ cls := "SettlerColony", name := "partyOf", desc := "(I)LSettlerColony$Party;" } : Jvm.MethodName)) ∈ lw_tbl := lw_at lw_m6 132 rfl
theorem q1457 : (Jvm.Cond.instanceMethod ({ cls := "SettlerColony", name := "partyOf", desc := "(I)LSettlerColony$Party;" } : Jvm.MethodName)) ∈ lw_all := lw_g (lw_at lw_m6 133 rfl) rfl
theorem q1458 : (Jvm.Cond.code ({ cls := "SettlerColony", name := "partyOf", desc := "(I)LSettlerColony$Party;" } : Jvm.MethodName) prog_1_method_20_code (2 : Nat) (Option.some (Jvm.ClassFile.FieldType.object "SettlerColony$Party"))) ∈ lw_all := lw_g (lw_at lw_m6 134 rfl) rfl
theorem q1463 : (Jvm.Cond.instanceMethod ({ cls := "SettlerColony", name := "where", desc := "(II)I" } : Jvm.MethodName)) ∈ lw_all := lw_g (lw_at lw_m6 139 rfl) rfl
theorem q1464 : (Jvm.Cond.selects "SettlerColony" ({ cls := "SettlerColony", name := "where", desc := "(II)I" } : Jvm.MethodName) ({ cls := "SettlerColony", name := "where", desc := "(II)I" } : Jvm.MethodName)) ∈ lw_all := lw_g (lw_at lw_m6 140 rfl) rfl
theorem q1465 : (Jvm.Cond.code ({ cls := "SettlerColony", name := "where", desc := "(II)I" } : Jvm.MethodName) prog_1_method_22_code (4 : Nat) (Option.some Jvm.ClassFile.FieldType.int)) ∈ lw_all := lw_g (lw_at lw_m6 141 rfl) rfl
theorem q1470 : (Jvm.Cond.instanceMethod ({ cls := "SettlerColony", name := "lot", desc := "(I)I" } : Jvm.MethodName)) ∈ lw_all := lw_g (lw_at lw_m6 146 rfl) rfl
theorem q1471 : (Jvm.Cond.selects "SettlerColony" ({ cls := "SettlerColony", name := "lot", desc := "(I)I" } : Jvm.MethodName) ({ cls := "SettlerColony", name := "lot", desc := "(I)I" } : Jvm.MethodName)) ∈ lw_all := lw_g (lw_at lw_m6 147 rfl) rfl
theorem q1472 : (Jvm.Cond.code ({ cls := "SettlerColony", name := "lot", desc := "(I)I" } : Jvm.MethodName) prog_1_method_23_code (6 : Nat) (Option.some Jvm.ClassFile.FieldType.int)) ∈ lw_all := lw_g (lw_at lw_m6 148 rfl) rfl
theorem q1473 : (Jvm.Cond.methodLink "SettlerColony" (251 : Nat) ({ cls := "SettlerColony$World", name := "set", desc := "(LSettlerColony$World;)LSettlerColony$World;" } : Jvm.MethodName)) ∈ lw_all := lw_g (lw_at lw_m6 149 rfl) rfl
theorem q1499 : (Jvm.Cond.fieldLinkNest "SettlerColony" (376 : Nat) "SettlerColony$Law" "is" "I" "SettlerColony") ∈ lw_tbl := lw_at lw_m6 175 rfl
theorem q1501 : (Jvm.Cond.fieldLinkNest "SettlerColony" (386 : Nat) "SettlerColony$Law" "from" "I" "SettlerColony") ∈ lw_tbl := lw_at lw_m6 177 rfl
theorem q1506 : (Jvm.Cond.fieldLinkNest "SettlerColony" (389 : Nat) "SettlerColony$Law" "read" "I" "SettlerColony") ∈ lw_tbl := lw_at lw_m6 182 rfl
theorem q1507 : (Jvm.Cond.fieldLinkNest "SettlerColony" (380 : Nat) "SettlerColony$Law" "yes" "I" "SettlerColony") ∈ lw_tbl := lw_at lw_m6 183 rfl
theorem q1508 : (Jvm.Cond.fieldLinkNest "SettlerColony" (383 : Nat) "SettlerColony$Law" "no" "I" "SettlerColony") ∈ lw_tbl := lw_at lw_m6 184 rfl
theorem q1511 : (Jvm.Cond.fieldLinkNest "SettlerColony" (392 : Nat) "SettlerColony$Law" "saysYes" "Z" "SettlerColony") ∈ lw_tbl := lw_at lw_m6 187 rfl
theorem q1513 : (Jvm.Cond.fieldLinkNest "SettlerColony" (377 : Nat) "SettlerColony$Law" "voted" "[Z" "SettlerColony") ∈ lw_tbl := lw_at lw_m6 189 rfl
theorem q1549 : (Jvm.Cond.fieldLinkNest "SettlerColony" (437 : Nat) "SettlerColony$Bill" "hands" "I" "SettlerColony") ∈ lw_tbl := lw_at lw_m6 225 rfl
theorem q1552 : (Jvm.Cond.fieldLinkNest "SettlerColony" (438 : Nat) "SettlerColony$Bill" "is" "I" "SettlerColony") ∈ lw_tbl := lw_at lw_m6 228 rfl
theorem q1566 : (Jvm.Cond.methodLinkNest "SettlerColony" (255 : Nat) ({ cls := "SettlerColony$World", name := "surveys", desc := "(LSettlerColony$Party;)V" } : Jvm.MethodName) "SettlerColony") ∈ lw_tbl := lw_at lw_m7 2 rfl
theorem q1588 : (Jvm.Cond.instanceMethod ({ cls := "SettlerColony", name := "ask", desc := "(I)I" } : Jvm.MethodName)) ∈ lw_all := lw_g (lw_at lw_m7 24 rfl) rfl
theorem q1589 : (Jvm.Cond.selects "SettlerColony" ({ cls := "SettlerColony", name := "ask", desc := "(I)I" } : Jvm.MethodName) ({ cls := "SettlerColony", name := "ask", desc := "(I)I" } : Jvm.MethodName)) ∈ lw_all := lw_g (lw_at lw_m7 25 rfl) rfl
theorem q1590 : (Jvm.Cond.code ({ cls := "SettlerColony", name := "ask", desc := "(I)I" } : Jvm.MethodName) prog_1_method_25_code (3 : Nat) (Option.some Jvm.ClassFile.FieldType.int)) ∈ lw_all := lw_g (lw_at lw_m7 26 rfl) rfl
theorem q1591 : (Jvm.Cond.methodLink "SettlerColony" (268 : Nat) ({ cls := "SettlerColony$Person", name := "isHere", desc := "()Z" } : Jvm.MethodName)) ∈ lw_all := lw_g (lw_at lw_m7 27 rfl) rfl
theorem q1592 : (Jvm.Cond.methodLink "SettlerColony" (271 : Nat) ({ cls := "SettlerColony", name := "hasAcre", desc := "(LSettlerColony$Person;)Z" } : Jvm.MethodName)) ∈ lw_all := lw_g (lw_at lw_m7 28 rfl) rfl
theorem q1593 : (Jvm.Cond.privateMethod ({ cls := "SettlerColony", name := "hasAcre", desc := "(LSettlerColony$Person;)Z" } : Jvm.MethodName)) ∈ lw_tbl := lw_at lw_m7 29 rfl
theorem q1594 : (Jvm.Cond.instanceMethod ({ cls := "SettlerColony", name := "hasAcre", desc := "(LSettlerColony$Person;)Z" } : Jvm.MethodName)) ∈ lw_all := lw_g (lw_at lw_m7 30 rfl) rfl
theorem q1595 : (Jvm.Cond.code ({ cls := "SettlerColony", name := "hasAcre", desc := "(LSettlerColony$Person;)Z" } : Jvm.MethodName) prog_1_method_24_code (3 : Nat) (Option.some Jvm.ClassFile.FieldType.boolean)) ∈ lw_all := lw_g (lw_at lw_m7 31 rfl) rfl
theorem q1596 : (Jvm.Cond.methodLink "SettlerColony" (275 : Nat) ({ cls := "java/util/ArrayList", name := "contains", desc := "(Ljava/lang/Object;)Z" } : Jvm.MethodName)) ∈ lw_all := lw_g (lw_at lw_m7 32 rfl) rfl
theorem q1612 : (Jvm.Cond.selects "SettlerColony" ({ cls := "java/lang/Object", name := "equals", desc := "(Ljava/lang/Object;)Z" } : Jvm.MethodName) ({ cls := "java/lang/Object", name := "equals", desc := "(Ljava/lang/Object;)Z" } : Jvm.MethodName)) ∈ lw_all := lw_g (lw_at lw_m7 48 rfl) rfl
theorem q1668 : (Jvm.Cond.instanceMethod ({ cls := "SettlerColony", name := "draw", desc := "(I)I" } : Jvm.MethodName)) ∈ lw_all := lw_g (lw_at lw_m7 104 rfl) rfl
theorem q1669 : (Jvm.Cond.selects "SettlerColony" ({ cls := "SettlerColony", name := "draw", desc := "(I)I" } : Jvm.MethodName) ({ cls := "SettlerColony", name := "draw", desc := "(I)I" } : Jvm.MethodName)) ∈ lw_all := lw_g (lw_at lw_m7 105 rfl) rfl
theorem q1670 : (Jvm.Cond.code ({ cls := "SettlerColony", name := "draw", desc := "(I)I" } : Jvm.MethodName) prog_1_method_26_code (6 : Nat) (Option.some Jvm.ClassFile.FieldType.int)) ∈ lw_all := lw_g (lw_at lw_m7 106 rfl) rfl
theorem q1671 : (Jvm.Cond.methodLink "SettlerColony" (278 : Nat) ({ cls := "java/util/ArrayList", name := "isEmpty", desc := "()Z" } : Jvm.MethodName)) ∈ lw_all := lw_g (lw_at lw_m7 107 rfl) rfl
theorem q1675 : (Jvm.Cond.methodLink "SettlerColony" (281 : Nat) ({ cls := "java/util/ArrayList", name := "remove", desc := "(I)Ljava/lang/Object;" } : Jvm.MethodName)) ∈ lw_all := lw_g (lw_at lw_m7 111 rfl) rfl
theorem q1688 : (Jvm.Cond.instanceMethod ({ cls := "SettlerColony", name := "acre", desc := "(I)I" } : Jvm.MethodName)) ∈ lw_all := lw_g (lw_at lw_m7 124 rfl) rfl
theorem q1689 : (Jvm.Cond.selects "SettlerColony" ({ cls := "SettlerColony", name := "acre", desc := "(I)I" } : Jvm.MethodName) ({ cls := "SettlerColony", name := "acre", desc := "(I)I" } : Jvm.MethodName)) ∈ lw_all := lw_g (lw_at lw_m7 125 rfl) rfl
theorem q1690 : (Jvm.Cond.code ({ cls := "SettlerColony", name := "acre", desc := "(I)I" } : Jvm.MethodName) prog_1_method_27_code (2 : Nat) (Option.some Jvm.ClassFile.FieldType.int)) ∈ lw_all := lw_g (lw_at lw_m7 126 rfl) rfl
theorem q1695 : (Jvm.Cond.instanceMethod ({ cls := "SettlerColony", name := "buy", desc := "(II)I" } : Jvm.MethodName)) ∈ lw_all := lw_g (lw_at lw_m7 131 rfl) rfl
theorem q1696 : (Jvm.Cond.selects "SettlerColony" ({ cls := "SettlerColony", name := "buy", desc := "(II)I" } : Jvm.MethodName) ({ cls := "SettlerColony", name := "buy", desc := "(II)I" } : Jvm.MethodName)) ∈ lw_all := lw_g (lw_at lw_m7 132 rfl) rfl
theorem q1697 : (Jvm.Cond.code ({ cls := "SettlerColony", name := "buy", desc := "(II)I" } : Jvm.MethodName) prog_1_method_28_code (5 : Nat) (Option.some Jvm.ClassFile.FieldType.int)) ∈ lw_all := lw_g (lw_at lw_m7 133 rfl) rfl
theorem q1698 : (Jvm.Cond.methodLink "SettlerColony" (284 : Nat) ({ cls := "SettlerColony$Slot", name := "isLot", desc := "()Z" } : Jvm.MethodName)) ∈ lw_all := lw_g (lw_at lw_m7 134 rfl) rfl
theorem q1703 : (Jvm.Cond.methodLink "SettlerColony" (287 : Nat) ({ cls := "SettlerColony$World", name := "sells", desc := "(LSettlerColony$Person;I)I" } : Jvm.MethodName)) ∈ lw_all := lw_g (lw_at lw_m7 139 rfl) rfl
theorem q1749 : (Jvm.Cond.instanceMethod ({ cls := "SettlerColony", name := "order", desc := "(I)I" } : Jvm.MethodName)) ∈ lw_all := lw_g (lw_at lw_m7 185 rfl) rfl
theorem q1750 : (Jvm.Cond.selects "SettlerColony" ({ cls := "SettlerColony", name := "order", desc := "(I)I" } : Jvm.MethodName) ({ cls := "SettlerColony", name := "order", desc := "(I)I" } : Jvm.MethodName)) ∈ lw_all := lw_g (lw_at lw_m7 186 rfl) rfl
theorem q1751 : (Jvm.Cond.code ({ cls := "SettlerColony", name := "order", desc := "(I)I" } : Jvm.MethodName) prog_1_method_29_code (4 : Nat) (Option.some Jvm.ClassFile.FieldType.int)) ∈ lw_all := lw_g (lw_at lw_m7 187 rfl) rfl
theorem q1752 : (Jvm.Cond.methodLink "SettlerColony" (297 : Nat) ({ cls := "java/lang/Integer", name := "valueOf", desc := "(I)Ljava/lang/Integer;" } : Jvm.MethodName)) ∈ lw_all := lw_g (lw_at lw_m7 188 rfl) rfl
theorem q1775 : (Jvm.Cond.instanceMethod ({ cls := "SettlerColony", name := "choose", desc := "(II)I" } : Jvm.MethodName)) ∈ lw_all := lw_g (lw_at lw_m7 211 rfl) rfl
theorem q1776 : (Jvm.Cond.selects "SettlerColony" ({ cls := "SettlerColony", name := "choose", desc := "(II)I" } : Jvm.MethodName) ({ cls := "SettlerColony", name := "choose", desc := "(II)I" } : Jvm.MethodName)) ∈ lw_all := lw_g (lw_at lw_m7 212 rfl) rfl
theorem q1777 : (Jvm.Cond.code ({ cls := "SettlerColony", name := "choose", desc := "(II)I" } : Jvm.MethodName) prog_1_method_31_code (6 : Nat) (Option.some Jvm.ClassFile.FieldType.int)) ∈ lw_all := lw_g (lw_at lw_m7 213 rfl) rfl
theorem q1778 : (Jvm.Cond.methodLink "SettlerColony" (309 : Nat) ({ cls := "SettlerColony", name := "isWaitedFor", desc := "(I)Z" } : Jvm.MethodName)) ∈ lw_all := lw_g (lw_at lw_m7 214 rfl) rfl
theorem q1779 : (Jvm.Cond.privateMethod ({ cls := "SettlerColony", name := "isWaitedFor", desc := "(I)Z" } : Jvm.MethodName)) ∈ lw_tbl := lw_at lw_m7 215 rfl
theorem q1780 : (Jvm.Cond.instanceMethod ({ cls := "SettlerColony", name := "isWaitedFor", desc := "(I)Z" } : Jvm.MethodName)) ∈ lw_all := lw_g (lw_at lw_m7 216 rfl) rfl
theorem q1781 : (Jvm.Cond.code ({ cls := "SettlerColony", name := "isWaitedFor", desc := "(I)Z" } : Jvm.MethodName) prog_1_method_30_code (3 : Nat) (Option.some Jvm.ClassFile.FieldType.boolean)) ∈ lw_all := lw_g (lw_at lw_m7 217 rfl) rfl
theorem q1782 : (Jvm.Cond.methodLink "SettlerColony" (306 : Nat) ({ cls := "SettlerColony$World", name := "means", desc := "(II)I" } : Jvm.MethodName)) ∈ lw_all := lw_g (lw_at lw_m7 218 rfl) rfl
theorem q1783 : (Jvm.Cond.classLink "SettlerColony" (313 : Nat) "SettlerColony$Order") ∈ lw_all := lw_g (lw_at lw_m7 219 rfl) rfl
theorem q1785 : (Jvm.Cond.classLink "SettlerColony" (298 : Nat) "java/lang/Integer") ∈ lw_all := lw_g (lw_at lw_m7 221 rfl) rfl
theorem q1786 : (Jvm.Cond.methodLink "SettlerColony" (315 : Nat) ({ cls := "java/lang/Integer", name := "intValue", desc := "()I" } : Jvm.MethodName)) ∈ lw_all := lw_g (lw_at lw_m7 222 rfl) rfl
theorem q1787 : (Jvm.Cond.methodLink "SettlerColony" (318 : Nat) ({ cls := "SettlerColony$Order", name := "<init>", desc := "(II)V" } : Jvm.MethodName)) ∈ lw_all := lw_g (lw_at lw_m7 223 rfl) rfl
theorem q1795 : (Jvm.Cond.methodLink "SettlerColony" (320 : Nat) ({ cls := "SettlerColony$World", name := "settles", desc := "(LSettlerColony$Person;ILSettlerColony$Holding;)V" } : Jvm.MethodName)) ∈ lw_all := lw_g (lw_at lw_m7 231 rfl) rfl
theorem q1800 : (Jvm.Cond.instanceMethod ({ cls := "SettlerColony", name := "run", desc := "(II)I" } : Jvm.MethodName)) ∈ lw_all := lw_g (lw_at lw_m7 236 rfl) rfl
theorem q1801 : (Jvm.Cond.selects "SettlerColony" ({ cls := "SettlerColony", name := "run", desc := "(II)I" } : Jvm.MethodName) ({ cls := "SettlerColony", name := "run", desc := "(II)I" } : Jvm.MethodName)) ∈ lw_all := lw_g (lw_at lw_m7 237 rfl) rfl
theorem q1802 : (Jvm.Cond.code ({ cls := "SettlerColony", name := "run", desc := "(II)I" } : Jvm.MethodName) prog_1_method_32_code (7 : Nat) (Option.some Jvm.ClassFile.FieldType.int)) ∈ lw_all := lw_g (lw_at lw_m7 238 rfl) rfl
theorem q1803 : (Jvm.Cond.methodLink "SettlerColony" (324 : Nat) ({ cls := "SettlerColony$Run", name := "holder", desc := "()I" } : Jvm.MethodName)) ∈ lw_all := lw_g (lw_at lw_m7 239 rfl) rfl
theorem q1804 : (Jvm.Cond.classLink "SettlerColony" (325 : Nat) "SettlerColony$Run") ∈ lw_all := lw_g (lw_at lw_m8 0 rfl) rfl
theorem q1806 : (Jvm.Cond.methodLink "SettlerColony" (330 : Nat) ({ cls := "SettlerColony$Run", name := "<init>", desc := "(I)V" } : Jvm.MethodName)) ∈ lw_all := lw_g (lw_at lw_m8 2 rfl) rfl
theorem q1818 : (Jvm.Cond.instanceMethod ({ cls := "SettlerColony", name := "squat", desc := "(II)I" } : Jvm.MethodName)) ∈ lw_all := lw_g (lw_at lw_m8 14 rfl) rfl
theorem q1819 : (Jvm.Cond.selects "SettlerColony" ({ cls := "SettlerColony", name := "squat", desc := "(II)I" } : Jvm.MethodName) ({ cls := "SettlerColony", name := "squat", desc := "(II)I" } : Jvm.MethodName)) ∈ lw_all := lw_g (lw_at lw_m8 15 rfl) rfl
theorem q1820 : (Jvm.Cond.code ({ cls := "SettlerColony", name := "squat", desc := "(II)I" } : Jvm.MethodName) prog_1_method_33_code (5 : Nat) (Option.some Jvm.ClassFile.FieldType.int)) ∈ lw_all := lw_g (lw_at lw_m8 16 rfl) rfl
theorem q1821 : (Jvm.Cond.classLink "SettlerColony" (335 : Nat) "SettlerColony$Squat") ∈ lw_all := lw_g (lw_at lw_m8 17 rfl) rfl
theorem q1823 : (Jvm.Cond.methodLink "SettlerColony" (337 : Nat) ({ cls := "SettlerColony$Squat", name := "<init>", desc := "(I)V" } : Jvm.MethodName)) ∈ lw_all := lw_g (lw_at lw_m8 19 rfl) rfl
theorem q1833 : (Jvm.Cond.instanceMethod ({ cls := "SettlerColony", name := "stock", desc := "(III)I" } : Jvm.MethodName)) ∈ lw_all := lw_g (lw_at lw_m8 29 rfl) rfl
theorem q1834 : (Jvm.Cond.selects "SettlerColony" ({ cls := "SettlerColony", name := "stock", desc := "(III)I" } : Jvm.MethodName) ({ cls := "SettlerColony", name := "stock", desc := "(III)I" } : Jvm.MethodName)) ∈ lw_all := lw_g (lw_at lw_m8 30 rfl) rfl
theorem q1835 : (Jvm.Cond.code ({ cls := "SettlerColony", name := "stock", desc := "(III)I" } : Jvm.MethodName) prog_1_method_35_code (7 : Nat) (Option.some Jvm.ClassFile.FieldType.int)) ∈ lw_all := lw_g (lw_at lw_m8 31 rfl) rfl
theorem q1836 : (Jvm.Cond.methodLink "SettlerColony" (338 : Nat) ({ cls := "SettlerColony", name := "pastureOf", desc := "(LSettlerColony$Person;LSettlerColony$Slot;)LSettlerColony$Run;" } : Jvm.MethodName)) ∈ lw_all := lw_g (lw_at lw_m8 32 rfl) rfl
theorem q1837 : (Jvm.Cond.static ({ cls := "SettlerColony", name := "pastureOf", desc := "(LSettlerColony$Person;LSettlerColony$Slot;)LSettlerColony$Run;" } : Jvm.MethodName)) ∈ lw_all := lw_g (lw_at lw_m8 33 rfl) rfl
theorem q1838 : (Jvm.Cond.code ({ cls := "SettlerColony", name := "pastureOf", desc := "(LSettlerColony$Person;LSettlerColony$Slot;)LSettlerColony$Run;" } : Jvm.MethodName) prog_1_method_34_code (3 : Nat) (Option.some (Jvm.ClassFile.FieldType.object "SettlerColony$Run"))) ∈ lw_all := lw_g (lw_at lw_m8 34 rfl) rfl
theorem q1843 : (Jvm.Cond.instanceMethod ({ cls := "SettlerColony", name := "fence", desc := "(II)I" } : Jvm.MethodName)) ∈ lw_all := lw_g (lw_at lw_m8 39 rfl) rfl
theorem q1844 : (Jvm.Cond.selects "SettlerColony" ({ cls := "SettlerColony", name := "fence", desc := "(II)I" } : Jvm.MethodName) ({ cls := "SettlerColony", name := "fence", desc := "(II)I" } : Jvm.MethodName)) ∈ lw_all := lw_g (lw_at lw_m8 40 rfl) rfl
theorem q1845 : (Jvm.Cond.code ({ cls := "SettlerColony", name := "fence", desc := "(II)I" } : Jvm.MethodName) prog_1_method_36_code (6 : Nat) (Option.some Jvm.ClassFile.FieldType.int)) ∈ lw_all := lw_g (lw_at lw_m8 41 rfl) rfl
theorem q1850 : (Jvm.Cond.instanceMethod ({ cls := "SettlerColony", name := "law", desc := "(I)I" } : Jvm.MethodName)) ∈ lw_all := lw_g (lw_at lw_m8 46 rfl) rfl
theorem q1851 : (Jvm.Cond.selects "SettlerColony" ({ cls := "SettlerColony", name := "law", desc := "(I)I" } : Jvm.MethodName) ({ cls := "SettlerColony", name := "law", desc := "(I)I" } : Jvm.MethodName)) ∈ lw_all := lw_g (lw_at lw_m8 47 rfl) rfl
theorem q1852 : (Jvm.Cond.codeWith ({ cls := "SettlerColony", name := "law", desc := "(I)I" } : Jvm.MethodName) prog_1_method_39_code (5 : Nat) (Option.some Jvm.ClassFile.FieldType.int) [((20 : Nat), (42 : Nat), (102 : Nat), (365 : Nat)), ((49 : Nat), (95 : Nat), (102 : Nat), (365 : Nat)), ((20 : Nat), (42 : Nat), (126 : Nat), (0 : Nat)), ((49 : Nat), (95 : Nat), (126 : Nat), (0 : Nat)), ((102 : Nat), (119 : Nat), (126 : Nat), (0 : Nat)), ((126 : Nat), (128 : Nat), (126 : Nat), (0 : Nat))]) ∈ lw_all := lw_g (lw_at lw_m8 48 rfl) rfl
theorem q1853 : (Jvm.Cond.classLink "SettlerColony" (365 : Nat) "SettlerColony$Wrong") ∈ lw_all := lw_g (lw_at lw_m8 49 rfl) rfl
theorem q1854 : (Jvm.Cond.classLink "SettlerColony" (351 : Nat) "SettlerColony$Law") ∈ lw_all := lw_g (lw_at lw_m8 50 rfl) rfl
theorem q1855 : (Jvm.Cond.classLink "SettlerColony" (353 : Nat) "SettlerColony$Reader") ∈ lw_all := lw_g (lw_at lw_m8 51 rfl) rfl
theorem q1857 : (Jvm.Cond.methodLink "SettlerColony" (355 : Nat) ({ cls := "SettlerColony$Reader", name := "<init>", desc := "([BI)V" } : Jvm.MethodName)) ∈ lw_all := lw_g (lw_at lw_m8 53 rfl) rfl
theorem q1874 : (Jvm.Cond.methodLink "SettlerColony" (358 : Nat) ({ cls := "SettlerColony$Reader", name := "law", desc := "()LSettlerColony$Text;" } : Jvm.MethodName)) ∈ lw_all := lw_g (lw_at lw_m8 70 rfl) rfl
theorem q2025 : (Jvm.Cond.fieldLinkNest "SettlerColony" (370 : Nat) "SettlerColony$Wrong" "kind" "I" "SettlerColony") ∈ lw_tbl := lw_at lw_m8 221 rfl
theorem q2027 : (Jvm.Cond.fieldLinkNest "SettlerColony" (367 : Nat) "SettlerColony$Wrong" "place" "I" "SettlerColony") ∈ lw_tbl := lw_at lw_m8 223 rfl
theorem q2240 : (Jvm.Cond.methodLink "SettlerColony" (362 : Nat) ({ cls := "SettlerColony$Law", name := "<init>", desc := "(LSettlerColony$Text;)V" } : Jvm.MethodName)) ∈ lw_all := lw_g (lw_at lw_m9 196 rfl) rfl
theorem q2245 : (Jvm.Cond.instanceMethod ({ cls := "SettlerColony", name := "vote", desc := "(IIZ)I" } : Jvm.MethodName)) ∈ lw_all := lw_g (lw_at lw_m9 201 rfl) rfl
theorem q2246 : (Jvm.Cond.selects "SettlerColony" ({ cls := "SettlerColony", name := "vote", desc := "(IIZ)I" } : Jvm.MethodName) ({ cls := "SettlerColony", name := "vote", desc := "(IIZ)I" } : Jvm.MethodName)) ∈ lw_all := lw_g (lw_at lw_m9 202 rfl) rfl
theorem q2247 : (Jvm.Cond.code ({ cls := "SettlerColony", name := "vote", desc := "(IIZ)I" } : Jvm.MethodName) prog_1_method_42_code (6 : Nat) (Option.some Jvm.ClassFile.FieldType.int)) ∈ lw_all := lw_g (lw_at lw_m9 203 rfl) rfl
theorem q2248 : (Jvm.Cond.methodLink "SettlerColony" (372 : Nat) ({ cls := "SettlerColony", name := "lawOf", desc := "(I)LSettlerColony$Law;" } : Jvm.MethodName)) ∈ lw_all := lw_g (lw_at lw_m9 204 rfl) rfl
theorem q2249 : (Jvm.Cond.privateMethod ({ cls := "SettlerColony", name := "lawOf", desc := "(I)LSettlerColony$Law;" } : Jvm.MethodName)) ∈ lw_tbl := lw_at lw_m9 205 rfl
theorem q2250 : (Jvm.Cond.instanceMethod ({ cls := "SettlerColony", name := "lawOf", desc := "(I)LSettlerColony$Law;" } : Jvm.MethodName)) ∈ lw_all := lw_g (lw_at lw_m9 206 rfl) rfl
theorem q2251 : (Jvm.Cond.code ({ cls := "SettlerColony", name := "lawOf", desc := "(I)LSettlerColony$Law;" } : Jvm.MethodName) prog_1_method_41_code (2 : Nat) (Option.some (Jvm.ClassFile.FieldType.object "SettlerColony$Law"))) ∈ lw_all := lw_g (lw_at lw_m9 207 rfl) rfl
theorem q2256 : (Jvm.Cond.instanceMethod ({ cls := "SettlerColony", name := "close", desc := "(I)I" } : Jvm.MethodName)) ∈ lw_all := lw_g (lw_at lw_m9 212 rfl) rfl
theorem q2257 : (Jvm.Cond.selects "SettlerColony" ({ cls := "SettlerColony", name := "close", desc := "(I)I" } : Jvm.MethodName) ({ cls := "SettlerColony", name := "close", desc := "(I)I" } : Jvm.MethodName)) ∈ lw_all := lw_g (lw_at lw_m9 213 rfl) rfl
theorem q2258 : (Jvm.Cond.code ({ cls := "SettlerColony", name := "close", desc := "(I)I" } : Jvm.MethodName) prog_1_method_43_code (4 : Nat) (Option.some Jvm.ClassFile.FieldType.int)) ∈ lw_all := lw_g (lw_at lw_m9 214 rfl) rfl
theorem q2263 : (Jvm.Cond.instanceMethod ({ cls := "SettlerColony", name := "assent", desc := "(IZ)I" } : Jvm.MethodName)) ∈ lw_all := lw_g (lw_at lw_m9 219 rfl) rfl
theorem q2264 : (Jvm.Cond.selects "SettlerColony" ({ cls := "SettlerColony", name := "assent", desc := "(IZ)I" } : Jvm.MethodName) ({ cls := "SettlerColony", name := "assent", desc := "(IZ)I" } : Jvm.MethodName)) ∈ lw_all := lw_g (lw_at lw_m9 220 rfl) rfl
theorem q2265 : (Jvm.Cond.code ({ cls := "SettlerColony", name := "assent", desc := "(IZ)I" } : Jvm.MethodName) prog_1_method_44_code (4 : Nat) (Option.some Jvm.ClassFile.FieldType.int)) ∈ lw_all := lw_g (lw_at lw_m9 221 rfl) rfl
theorem q2270 : (Jvm.Cond.instanceMethod ({ cls := "SettlerColony", name := "force", desc := "(I)I" } : Jvm.MethodName)) ∈ lw_all := lw_g (lw_at lw_m9 226 rfl) rfl
theorem q2271 : (Jvm.Cond.selects "SettlerColony" ({ cls := "SettlerColony", name := "force", desc := "(I)I" } : Jvm.MethodName) ({ cls := "SettlerColony", name := "force", desc := "(I)I" } : Jvm.MethodName)) ∈ lw_all := lw_g (lw_at lw_m9 227 rfl) rfl
theorem q2272 : (Jvm.Cond.code ({ cls := "SettlerColony", name := "force", desc := "(I)I" } : Jvm.MethodName) prog_1_method_45_code (2 : Nat) (Option.some Jvm.ClassFile.FieldType.int)) ∈ lw_all := lw_g (lw_at lw_m9 228 rfl) rfl
theorem q2277 : (Jvm.Cond.instanceMethod ({ cls := "SettlerColony", name := "means", desc := "(II)I" } : Jvm.MethodName)) ∈ lw_all := lw_g (lw_at lw_m9 233 rfl) rfl
theorem q2278 : (Jvm.Cond.selects "SettlerColony" ({ cls := "SettlerColony", name := "means", desc := "(II)I" } : Jvm.MethodName) ({ cls := "SettlerColony", name := "means", desc := "(II)I" } : Jvm.MethodName)) ∈ lw_all := lw_g (lw_at lw_m9 234 rfl) rfl
theorem q2279 : (Jvm.Cond.code ({ cls := "SettlerColony", name := "means", desc := "(II)I" } : Jvm.MethodName) prog_1_method_46_code (3 : Nat) (Option.some Jvm.ClassFile.FieldType.int)) ∈ lw_all := lw_g (lw_at lw_m9 235 rfl) rfl
theorem q2284 : (Jvm.Cond.instanceMethod ({ cls := "SettlerColony", name := "why", desc := "(I)I" } : Jvm.MethodName)) ∈ lw_all := lw_g (lw_at lw_m10 0 rfl) rfl
theorem q2285 : (Jvm.Cond.selects "SettlerColony" ({ cls := "SettlerColony", name := "why", desc := "(I)I" } : Jvm.MethodName) ({ cls := "SettlerColony", name := "why", desc := "(I)I" } : Jvm.MethodName)) ∈ lw_all := lw_g (lw_at lw_m10 1 rfl) rfl
theorem q2286 : (Jvm.Cond.code ({ cls := "SettlerColony", name := "why", desc := "(I)I" } : Jvm.MethodName) prog_1_method_47_code (2 : Nat) (Option.some Jvm.ClassFile.FieldType.int)) ∈ lw_all := lw_g (lw_at lw_m10 2 rfl) rfl
theorem q2287 : (Jvm.Cond.methodLink "SettlerColony" (396 : Nat) ({ cls := "SettlerColony$World", name := "why", desc := "(I)I" } : Jvm.MethodName)) ∈ lw_all := lw_g (lw_at lw_m10 3 rfl) rfl
theorem q2292 : (Jvm.Cond.instanceMethod ({ cls := "SettlerColony", name := "fund", desc := "(I)I" } : Jvm.MethodName)) ∈ lw_all := lw_g (lw_at lw_m10 8 rfl) rfl
theorem q2293 : (Jvm.Cond.selects "SettlerColony" ({ cls := "SettlerColony", name := "fund", desc := "(I)I" } : Jvm.MethodName) ({ cls := "SettlerColony", name := "fund", desc := "(I)I" } : Jvm.MethodName)) ∈ lw_all := lw_g (lw_at lw_m10 9 rfl) rfl
theorem q2294 : (Jvm.Cond.code ({ cls := "SettlerColony", name := "fund", desc := "(I)I" } : Jvm.MethodName) prog_1_method_53_code (2 : Nat) (Option.some Jvm.ClassFile.FieldType.int)) ∈ lw_all := lw_g (lw_at lw_m10 10 rfl) rfl
theorem q2295 : (Jvm.Cond.constant "SettlerColony" (423 : Nat) (100000 : Int32)) ∈ lw_all := lw_g (lw_at lw_m10 11 rfl) rfl
theorem q2300 : (Jvm.Cond.instanceMethod ({ cls := "SettlerColony", name := "bill", desc := "(I)I" } : Jvm.MethodName)) ∈ lw_all := lw_g (lw_at lw_m10 16 rfl) rfl
theorem q2301 : (Jvm.Cond.selects "SettlerColony" ({ cls := "SettlerColony", name := "bill", desc := "(I)I" } : Jvm.MethodName) ({ cls := "SettlerColony", name := "bill", desc := "(I)I" } : Jvm.MethodName)) ∈ lw_all := lw_g (lw_at lw_m10 17 rfl) rfl
theorem q2302 : (Jvm.Cond.code ({ cls := "SettlerColony", name := "bill", desc := "(I)I" } : Jvm.MethodName) prog_1_method_54_code (2 : Nat) (Option.some Jvm.ClassFile.FieldType.int)) ∈ lw_all := lw_g (lw_at lw_m10 18 rfl) rfl
theorem q2303 : (Jvm.Cond.classLink "SettlerColony" (430 : Nat) "SettlerColony$Bill") ∈ lw_all := lw_g (lw_at lw_m10 19 rfl) rfl
theorem q2304 : (Jvm.Cond.methodLink "SettlerColony" (432 : Nat) ({ cls := "SettlerColony$Bill", name := "<init>", desc := "(II)V" } : Jvm.MethodName)) ∈ lw_all := lw_g (lw_at lw_m10 20 rfl) rfl
theorem q2309 : (Jvm.Cond.instanceMethod ({ cls := "SettlerColony", name := "pass", desc := "(I)I" } : Jvm.MethodName)) ∈ lw_all := lw_g (lw_at lw_m10 25 rfl) rfl
theorem q2310 : (Jvm.Cond.selects "SettlerColony" ({ cls := "SettlerColony", name := "pass", desc := "(I)I" } : Jvm.MethodName) ({ cls := "SettlerColony", name := "pass", desc := "(I)I" } : Jvm.MethodName)) ∈ lw_all := lw_g (lw_at lw_m10 26 rfl) rfl
theorem q2311 : (Jvm.Cond.code ({ cls := "SettlerColony", name := "pass", desc := "(I)I" } : Jvm.MethodName) prog_1_method_56_code (3 : Nat) (Option.some Jvm.ClassFile.FieldType.int)) ∈ lw_all := lw_g (lw_at lw_m10 27 rfl) rfl
theorem q2312 : (Jvm.Cond.methodLink "SettlerColony" (433 : Nat) ({ cls := "SettlerColony", name := "billOf", desc := "(I)LSettlerColony$Bill;" } : Jvm.MethodName)) ∈ lw_all := lw_g (lw_at lw_m10 28 rfl) rfl
theorem q2313 : (Jvm.Cond.privateMethod ({ cls := "SettlerColony", name := "billOf", desc := "(I)LSettlerColony$Bill;" } : Jvm.MethodName)) ∈ lw_tbl := lw_at lw_m10 29 rfl
theorem q2314 : (Jvm.Cond.instanceMethod ({ cls := "SettlerColony", name := "billOf", desc := "(I)LSettlerColony$Bill;" } : Jvm.MethodName)) ∈ lw_all := lw_g (lw_at lw_m10 30 rfl) rfl
theorem q2315 : (Jvm.Cond.code ({ cls := "SettlerColony", name := "billOf", desc := "(I)LSettlerColony$Bill;" } : Jvm.MethodName) prog_1_method_55_code (2 : Nat) (Option.some (Jvm.ClassFile.FieldType.object "SettlerColony$Bill"))) ∈ lw_all := lw_g (lw_at lw_m10 31 rfl) rfl
theorem q2320 : (Jvm.Cond.instanceMethod ({ cls := "SettlerColony", name := "billed", desc := "(I)I" } : Jvm.MethodName)) ∈ lw_all := lw_g (lw_at lw_m10 36 rfl) rfl
theorem q2321 : (Jvm.Cond.selects "SettlerColony" ({ cls := "SettlerColony", name := "billed", desc := "(I)I" } : Jvm.MethodName) ({ cls := "SettlerColony", name := "billed", desc := "(I)I" } : Jvm.MethodName)) ∈ lw_all := lw_g (lw_at lw_m10 37 rfl) rfl
theorem q2322 : (Jvm.Cond.code ({ cls := "SettlerColony", name := "billed", desc := "(I)I" } : Jvm.MethodName) prog_1_method_57_code (2 : Nat) (Option.some Jvm.ClassFile.FieldType.int)) ∈ lw_all := lw_g (lw_at lw_m10 38 rfl) rfl
theorem q2328 : (Jvm.Cond.instanceMethod ({ cls := "SettlerColony", name := "week", desc := "(I)I" } : Jvm.MethodName)) ∈ lw_all := lw_g (lw_at lw_m10 44 rfl) rfl
theorem q2329 : (Jvm.Cond.selects "SettlerColony" ({ cls := "SettlerColony", name := "week", desc := "(I)I" } : Jvm.MethodName) ({ cls := "SettlerColony", name := "week", desc := "(I)I" } : Jvm.MethodName)) ∈ lw_all := lw_g (lw_at lw_m10 45 rfl) rfl
theorem q2330 : (Jvm.Cond.code ({ cls := "SettlerColony", name := "week", desc := "(I)I" } : Jvm.MethodName) prog_1_method_58_code (3 : Nat) (Option.some Jvm.ClassFile.FieldType.int)) ∈ lw_all := lw_g (lw_at lw_m10 46 rfl) rfl
theorem q2331 : (Jvm.Cond.methodLink "SettlerColony" (439 : Nat) ({ cls := "SettlerColony", name := "right", desc := "(Z)V" } : Jvm.MethodName)) ∈ lw_all := lw_g (lw_at lw_m10 47 rfl) rfl
theorem q2332 : (Jvm.Cond.static ({ cls := "SettlerColony", name := "right", desc := "(Z)V" } : Jvm.MethodName)) ∈ lw_all := lw_g (lw_at lw_m10 48 rfl) rfl
theorem q2333 : (Jvm.Cond.code ({ cls := "SettlerColony", name := "right", desc := "(Z)V" } : Jvm.MethodName) prog_1_method_5_code (1 : Nat) (Option.none : Option Jvm.ClassFile.FieldType)) ∈ lw_all := lw_g (lw_at lw_m10 49 rfl) rfl
theorem q2334 : (Jvm.Cond.classLink "SettlerColony" (68 : Nat) "java/lang/IllegalStateException") ∈ lw_all := lw_g (lw_at lw_m10 50 rfl) rfl
theorem q2343 : (Jvm.Cond.methodLink "SettlerColony" (70 : Nat) ({ cls := "java/lang/IllegalStateException", name := "<init>", desc := "()V" } : Jvm.MethodName)) ∈ lw_all := lw_g (lw_at lw_m10 59 rfl) rfl
theorem q2349 : (Jvm.Cond.methodLink "SettlerColony" (442 : Nat) ({ cls := "SettlerColony$World", name := "passes", desc := "()V" } : Jvm.MethodName)) ∈ lw_all := lw_g (lw_at lw_m10 65 rfl) rfl
theorem q2430 : (Jvm.Cond.static ({ cls := "SettlerColony", name := "beside", desc := "(II)I" } : Jvm.MethodName)) ∈ lw_all := lw_g (lw_at lw_m10 146 rfl) rfl
theorem q2431 : (Jvm.Cond.code ({ cls := "SettlerColony", name := "beside", desc := "(II)I" } : Jvm.MethodName) prog_1_method_2_code (2 : Nat) (Option.some Jvm.ClassFile.FieldType.int)) ∈ lw_all := lw_g (lw_at lw_m10 147 rfl) rfl
theorem q2461 : (Jvm.Cond.instanceMethod ({ cls := "SettlerColony", name := "as", desc := "(III)I" } : Jvm.MethodName)) ∈ lw_all := lw_g (lw_at lw_m10 177 rfl) rfl
theorem q2462 : (Jvm.Cond.selects "SettlerColony" ({ cls := "SettlerColony", name := "as", desc := "(III)I" } : Jvm.MethodName) ({ cls := "SettlerColony", name := "as", desc := "(III)I" } : Jvm.MethodName)) ∈ lw_all := lw_g (lw_at lw_m10 178 rfl) rfl
theorem q2463 : (Jvm.Cond.code ({ cls := "SettlerColony", name := "as", desc := "(III)I" } : Jvm.MethodName) prog_1_method_59_code (4 : Nat) (Option.some Jvm.ClassFile.FieldType.int)) ∈ lw_all := lw_g (lw_at lw_m10 179 rfl) rfl
theorem q2464 : (Jvm.Cond.methodLink "SettlerColony" (445 : Nat) ({ cls := "SettlerColony$World", name := "knownWeek", desc := "()I" } : Jvm.MethodName)) ∈ lw_all := lw_g (lw_at lw_m10 180 rfl) rfl
theorem q2465 : (Jvm.Cond.constant "SettlerColony" (448 : Nat) (-2000000000 : Int32)) ∈ lw_all := lw_g (lw_at lw_m10 181 rfl) rfl
theorem q2470 : (Jvm.Cond.instanceMethod ({ cls := "SettlerColony", name := "tried", desc := "(IIII)I" } : Jvm.MethodName)) ∈ lw_all := lw_g (lw_at lw_m10 186 rfl) rfl
theorem q2471 : (Jvm.Cond.selects "SettlerColony" ({ cls := "SettlerColony", name := "tried", desc := "(IIII)I" } : Jvm.MethodName) ({ cls := "SettlerColony", name := "tried", desc := "(IIII)I" } : Jvm.MethodName)) ∈ lw_all := lw_g (lw_at lw_m10 187 rfl) rfl
theorem q2472 : (Jvm.Cond.code ({ cls := "SettlerColony", name := "tried", desc := "(IIII)I" } : Jvm.MethodName) prog_1_method_61_code (7 : Nat) (Option.some Jvm.ClassFile.FieldType.int)) ∈ lw_all := lw_g (lw_at lw_m10 188 rfl) rfl
theorem q2473 : (Jvm.Cond.methodLink "SettlerColony" (470 : Nat) ({ cls := "SettlerColony", name := "told", desc := "(LSettlerColony$World;I)I" } : Jvm.MethodName)) ∈ lw_all := lw_g (lw_at lw_m10 189 rfl) rfl
theorem q2474 : (Jvm.Cond.static ({ cls := "SettlerColony", name := "told", desc := "(LSettlerColony$World;I)I" } : Jvm.MethodName)) ∈ lw_all := lw_g (lw_at lw_m10 190 rfl) rfl
theorem q2475 : (Jvm.Cond.code ({ cls := "SettlerColony", name := "told", desc := "(LSettlerColony$World;I)I" } : Jvm.MethodName) prog_1_method_60_code (2 : Nat) (Option.some Jvm.ClassFile.FieldType.int)) ∈ lw_all := lw_g (lw_at lw_m10 191 rfl) rfl
theorem q2476 : (Jvm.Cond.methodLink "SettlerColony" (458 : Nat) ({ cls := "SettlerColony$World", name := "hired", desc := "()I" } : Jvm.MethodName)) ∈ lw_all := lw_g (lw_at lw_m10 192 rfl) rfl
theorem q2484 : (Jvm.Cond.instanceMethod ({ cls := "SettlerColony", name := "prices", desc := "(III)V" } : Jvm.MethodName)) ∈ lw_all := lw_g (lw_at lw_m10 200 rfl) rfl
theorem q2485 : (Jvm.Cond.selects "SettlerColony" ({ cls := "SettlerColony", name := "prices", desc := "(III)V" } : Jvm.MethodName) ({ cls := "SettlerColony", name := "prices", desc := "(III)V" } : Jvm.MethodName)) ∈ lw_all := lw_g (lw_at lw_m10 201 rfl) rfl
theorem q2486 : (Jvm.Cond.code ({ cls := "SettlerColony", name := "prices", desc := "(III)V" } : Jvm.MethodName) prog_1_method_62_code (4 : Nat) (Option.none : Option Jvm.ClassFile.FieldType)) ∈ lw_all := lw_g (lw_at lw_m10 202 rfl) rfl
theorem q2491 : (Jvm.Cond.instanceMethod ({ cls := "SettlerColony", name := "worst", desc := "(IIII)V" } : Jvm.MethodName)) ∈ lw_all := lw_g (lw_at lw_m10 207 rfl) rfl
theorem q2492 : (Jvm.Cond.selects "SettlerColony" ({ cls := "SettlerColony", name := "worst", desc := "(IIII)V" } : Jvm.MethodName) ({ cls := "SettlerColony", name := "worst", desc := "(IIII)V" } : Jvm.MethodName)) ∈ lw_all := lw_g (lw_at lw_m10 208 rfl) rfl
theorem q2493 : (Jvm.Cond.code ({ cls := "SettlerColony", name := "worst", desc := "(IIII)V" } : Jvm.MethodName) prog_1_method_64_code (5 : Nat) (Option.none : Option Jvm.ClassFile.FieldType)) ∈ lw_all := lw_g (lw_at lw_m10 209 rfl) rfl
theorem q2494 : (Jvm.Cond.methodLink "SettlerColony" (477 : Nat) ({ cls := "SettlerColony", name := "isRain", desc := "(I)Z" } : Jvm.MethodName)) ∈ lw_all := lw_g (lw_at lw_m10 210 rfl) rfl
theorem q2495 : (Jvm.Cond.static ({ cls := "SettlerColony", name := "isRain", desc := "(I)Z" } : Jvm.MethodName)) ∈ lw_all := lw_g (lw_at lw_m10 211 rfl) rfl
theorem q2496 : (Jvm.Cond.code ({ cls := "SettlerColony", name := "isRain", desc := "(I)Z" } : Jvm.MethodName) prog_1_method_63_code (1 : Nat) (Option.some Jvm.ClassFile.FieldType.boolean)) ∈ lw_all := lw_g (lw_at lw_m10 212 rfl) rfl
theorem q2501 : (Jvm.Cond.instanceMethod ({ cls := "SettlerColony", name := "planned", desc := "(II)I" } : Jvm.MethodName)) ∈ lw_all := lw_g (lw_at lw_m10 217 rfl) rfl
theorem q2502 : (Jvm.Cond.selects "SettlerColony" ({ cls := "SettlerColony", name := "planned", desc := "(II)I" } : Jvm.MethodName) ({ cls := "SettlerColony", name := "planned", desc := "(II)I" } : Jvm.MethodName)) ∈ lw_all := lw_g (lw_at lw_m10 218 rfl) rfl
theorem q2503 : (Jvm.Cond.code ({ cls := "SettlerColony", name := "planned", desc := "(II)I" } : Jvm.MethodName) prog_1_method_66_code (6 : Nat) (Option.some Jvm.ClassFile.FieldType.int)) ∈ lw_all := lw_g (lw_at lw_m10 219 rfl) rfl
theorem q2504 : (Jvm.Cond.methodLink "SettlerColony" (495 : Nat) ({ cls := "SettlerColony", name := "goesOn", desc := "(I)V" } : Jvm.MethodName)) ∈ lw_all := lw_g (lw_at lw_m10 220 rfl) rfl
theorem q2505 : (Jvm.Cond.privateMethod ({ cls := "SettlerColony", name := "goesOn", desc := "(I)V" } : Jvm.MethodName)) ∈ lw_tbl := lw_at lw_m10 221 rfl
theorem q2506 : (Jvm.Cond.instanceMethod ({ cls := "SettlerColony", name := "goesOn", desc := "(I)V" } : Jvm.MethodName)) ∈ lw_all := lw_g (lw_at lw_m10 222 rfl) rfl
theorem q2507 : (Jvm.Cond.code ({ cls := "SettlerColony", name := "goesOn", desc := "(I)V" } : Jvm.MethodName) prog_1_method_65_code (6 : Nat) (Option.none : Option Jvm.ClassFile.FieldType)) ∈ lw_all := lw_g (lw_at lw_m10 223 rfl) rfl
theorem q2508 : (Jvm.Cond.methodLink "SettlerColony" (492 : Nat) ({ cls := "java/lang/Math", name := "max", desc := "(II)I" } : Jvm.MethodName)) ∈ lw_all := lw_g (lw_at lw_m10 224 rfl) rfl
theorem q2509 : (Jvm.Cond.methodLink "SettlerColony" (498 : Nat) ({ cls := "java/lang/System", name := "arraycopy", desc := "(Ljava/lang/Object;ILjava/lang/Object;II)V" } : Jvm.MethodName)) ∈ lw_all := lw_g (lw_at lw_m10 225 rfl) rfl
theorem q3239 : (Jvm.Cond.castable "SettlerColony" "java/lang/Object") ∈ lw_tbl := lw_at lw_m13 235 rfl
theorem in_X1 : ∀ w ∈ wsX10, w ∈ lw_all := lw_in wsX10 [875, 877, 879, 881, 883, 885, 887, 889, 891, 893, 895, 897, 899, 901, 903, 905, 907, 909, 911, 913, 915, 917] (by decide +kernel) (by decide +kernel)
/-! SettlerColony$Person -/
def RX10 : String := "SettlerColony$Person"
def TX10 : u_T := fun k => match k with
  | 0 => ("SettlerColony$Person", "number", "I", true)
  | 1 => ("SettlerColony$Person", "trade", "I", true)
  | 2 => ("SettlerColony$Person", "coins", "I", false)
  | 3 => ("SettlerColony$Person", "is", "I", false)
  | 4 => ("SettlerColony$Person", "boss", "I", false)
  | 5 => ("SettlerColony$Person", "hands", "I", false)
  | 6 => ("SettlerColony$Person", "farms", "I", false)
  | 7 => ("SettlerColony$Person", "order", "I", false)
  | 8 => ("SettlerColony$Person", "hungry", "I", false)
  | _ => ("SettlerColony$Person", "lands", "I", false)
def tyX10 : Nat → FieldType := fun k => match k with
  | 0 => .int
  | 1 => .int
  | 2 => .int
  | 3 => .int
  | 4 => .int
  | 5 => .int
  | 6 => .int
  | 7 => .int
  | 8 => .int
  | _ => .int
abbrev wsX100 : List Cond := u_ws RX10 TX10 10
theorem nmX10 : ∀ a, a < 10 → ∀ b, b < 10 → a ≠ b → (TX10 a).2.1 ≠ (TX10 b).2.1 := by decide +kernel
theorem tyX10_ok : ∀ k, k < 10 → parseFieldDescriptor (TX10 k).2.2.1 = some (tyX10 k) := by decide +kernel
abbrev cX10_init : ByteArray := prog_23_method_1_code
def yX10_init : MethodName := ⟨RX10, "<init>", "(III)V"⟩
abbrev cX10_isHere : ByteArray := prog_23_method_3_code
def yX10_isHere : MethodName := ⟨RX10, "isHere", "()Z"⟩
abbrev cX10_set : ByteArray := prog_23_method_2_code
def yX10_set : MethodName := ⟨RX10, "set", "(LSettlerColony$Person;)V"⟩
abbrev cX10_gets : ByteArray := prog_23_method_4_code
def yX10_gets : MethodName := ⟨RX10, "gets", "(I)V"⟩
theorem q158 : (Jvm.Cond.initialized "SettlerColony$Person") ∈ lw_all := lw_g (lw_at lw_m1 34 rfl) rfl
theorem q673 : (Jvm.Cond.selects "SettlerColony$Person" ({ cls := "java/lang/Object", name := "getClass", desc := "()Ljava/lang/Class;" } : Jvm.MethodName) ({ cls := "java/lang/Object", name := "getClass", desc := "()Ljava/lang/Class;" } : Jvm.MethodName)) ∈ lw_all := lw_g (lw_at lw_m3 69 rfl) rfl
theorem q1059 : (Jvm.Cond.instantiable "SettlerColony$Person" (10 : Nat)) ∈ lw_all := lw_g (lw_at lw_m4 215 rfl) rfl
theorem q1061 : (Jvm.Cond.instanceMethod ({ cls := "SettlerColony$Person", name := "<init>", desc := "(III)V" } : Jvm.MethodName)) ∈ lw_all := lw_g (lw_at lw_m4 217 rfl) rfl
theorem q1062 : (Jvm.Cond.code ({ cls := "SettlerColony$Person", name := "<init>", desc := "(III)V" } : Jvm.MethodName) prog_23_method_1_code (4 : Nat) (Option.none : Option Jvm.ClassFile.FieldType)) ∈ lw_all := lw_g (lw_at lw_m4 218 rfl) rfl
theorem q1063 : (Jvm.Cond.methodLink "SettlerColony$Person" (3 : Nat) ({ cls := "java/lang/Object", name := "<init>", desc := "()V" } : Jvm.MethodName)) ∈ lw_all := lw_g (lw_at lw_m4 219 rfl) rfl
theorem q1064 : (Jvm.Cond.fieldLink "SettlerColony$Person" (21 : Nat) "SettlerColony$Person" "number" "I") ∈ lw_all := lw_g (lw_at lw_m4 220 rfl) rfl
theorem q1067 : (Jvm.Cond.fieldLink "SettlerColony$Person" (24 : Nat) "SettlerColony$Person" "trade" "I") ∈ lw_all := lw_g (lw_at lw_m4 223 rfl) rfl
theorem q1070 : (Jvm.Cond.fieldLink "SettlerColony$Person" (27 : Nat) "SettlerColony$Person" "coins" "I") ∈ lw_all := lw_g (lw_at lw_m4 226 rfl) rfl
theorem q1073 : (Jvm.Cond.fieldLink "SettlerColony$Person" (30 : Nat) "SettlerColony$Person" "is" "I") ∈ lw_all := lw_g (lw_at lw_m4 229 rfl) rfl
theorem q1076 : (Jvm.Cond.fieldLink "SettlerColony$Person" (9 : Nat) "SettlerColony$Person" "boss" "I") ∈ lw_all := lw_g (lw_at lw_m4 232 rfl) rfl
theorem q1079 : (Jvm.Cond.fieldLink "SettlerColony$Person" (33 : Nat) "SettlerColony$Person" "hands" "I") ∈ lw_all := lw_g (lw_at lw_m4 235 rfl) rfl
theorem q1082 : (Jvm.Cond.fieldLink "SettlerColony$Person" (36 : Nat) "SettlerColony$Person" "farms" "I") ∈ lw_all := lw_g (lw_at lw_m4 238 rfl) rfl
theorem q1085 : (Jvm.Cond.fieldLink "SettlerColony$Person" (15 : Nat) "SettlerColony$Person" "order" "I") ∈ lw_all := lw_g (lw_at lw_m5 1 rfl) rfl
theorem q1087 : (Jvm.Cond.fieldLink "SettlerColony$Person" (39 : Nat) "SettlerColony$Person" "hungry" "I") ∈ lw_all := lw_g (lw_at lw_m5 3 rfl) rfl
theorem q1090 : (Jvm.Cond.fieldLink "SettlerColony$Person" (18 : Nat) "SettlerColony$Person" "lands" "I") ∈ lw_all := lw_g (lw_at lw_m5 6 rfl) rfl
theorem q1093 : (Jvm.Cond.laysFinal "SettlerColony$Person" "SettlerColony$Person" "number" "I") ∈ lw_all := lw_g (lw_at lw_m5 9 rfl) rfl
theorem q1094 : (Jvm.Cond.soleField "SettlerColony$Person" "number") ∈ lw_all := lw_g (lw_at lw_m5 10 rfl) rfl
theorem q1095 : (Jvm.Cond.laysFinal "SettlerColony$Person" "SettlerColony$Person" "trade" "I") ∈ lw_all := lw_g (lw_at lw_m5 11 rfl) rfl
theorem q1096 : (Jvm.Cond.soleField "SettlerColony$Person" "trade") ∈ lw_all := lw_g (lw_at lw_m5 12 rfl) rfl
theorem q1097 : (Jvm.Cond.lays "SettlerColony$Person" "SettlerColony$Person" "coins" "I") ∈ lw_all := lw_g (lw_at lw_m5 13 rfl) rfl
theorem q1098 : (Jvm.Cond.soleField "SettlerColony$Person" "coins") ∈ lw_all := lw_g (lw_at lw_m5 14 rfl) rfl
theorem q1099 : (Jvm.Cond.lays "SettlerColony$Person" "SettlerColony$Person" "is" "I") ∈ lw_all := lw_g (lw_at lw_m5 15 rfl) rfl
theorem q1100 : (Jvm.Cond.soleField "SettlerColony$Person" "is") ∈ lw_all := lw_g (lw_at lw_m5 16 rfl) rfl
theorem q1101 : (Jvm.Cond.lays "SettlerColony$Person" "SettlerColony$Person" "boss" "I") ∈ lw_all := lw_g (lw_at lw_m5 17 rfl) rfl
theorem q1102 : (Jvm.Cond.soleField "SettlerColony$Person" "boss") ∈ lw_all := lw_g (lw_at lw_m5 18 rfl) rfl
theorem q1103 : (Jvm.Cond.lays "SettlerColony$Person" "SettlerColony$Person" "hands" "I") ∈ lw_all := lw_g (lw_at lw_m5 19 rfl) rfl
theorem q1104 : (Jvm.Cond.soleField "SettlerColony$Person" "hands") ∈ lw_all := lw_g (lw_at lw_m5 20 rfl) rfl
theorem q1105 : (Jvm.Cond.lays "SettlerColony$Person" "SettlerColony$Person" "farms" "I") ∈ lw_all := lw_g (lw_at lw_m5 21 rfl) rfl
theorem q1106 : (Jvm.Cond.soleField "SettlerColony$Person" "farms") ∈ lw_all := lw_g (lw_at lw_m5 22 rfl) rfl
theorem q1107 : (Jvm.Cond.lays "SettlerColony$Person" "SettlerColony$Person" "order" "I") ∈ lw_all := lw_g (lw_at lw_m5 23 rfl) rfl
theorem q1108 : (Jvm.Cond.soleField "SettlerColony$Person" "order") ∈ lw_all := lw_g (lw_at lw_m5 24 rfl) rfl
theorem q1109 : (Jvm.Cond.lays "SettlerColony$Person" "SettlerColony$Person" "hungry" "I") ∈ lw_all := lw_g (lw_at lw_m5 25 rfl) rfl
theorem q1110 : (Jvm.Cond.soleField "SettlerColony$Person" "hungry") ∈ lw_all := lw_g (lw_at lw_m5 26 rfl) rfl
theorem q1111 : (Jvm.Cond.lays "SettlerColony$Person" "SettlerColony$Person" "lands" "I") ∈ lw_all := lw_g (lw_at lw_m5 27 rfl) rfl
theorem q1112 : (Jvm.Cond.soleField "SettlerColony$Person" "lands") ∈ lw_all := lw_g (lw_at lw_m5 28 rfl) rfl
theorem q1113 : (Jvm.Cond.superclass "SettlerColony$Person" "java/lang/Object") ∈ lw_all := lw_g (lw_at lw_m5 29 rfl) rfl
theorem q1192 : (Jvm.Cond.instanceMethod ({ cls := "SettlerColony$Person", name := "isHere", desc := "()Z" } : Jvm.MethodName)) ∈ lw_all := lw_g (lw_at lw_m5 108 rfl) rfl
theorem q1193 : (Jvm.Cond.selects "SettlerColony$Person" ({ cls := "SettlerColony$Person", name := "isHere", desc := "()Z" } : Jvm.MethodName) ({ cls := "SettlerColony$Person", name := "isHere", desc := "()Z" } : Jvm.MethodName)) ∈ lw_all := lw_g (lw_at lw_m5 109 rfl) rfl
theorem q1194 : (Jvm.Cond.code ({ cls := "SettlerColony$Person", name := "isHere", desc := "()Z" } : Jvm.MethodName) prog_23_method_3_code (1 : Nat) (Option.some Jvm.ClassFile.FieldType.boolean)) ∈ lw_all := lw_g (lw_at lw_m5 110 rfl) rfl
theorem q1480 : (Jvm.Cond.instanceMethod ({ cls := "SettlerColony$Person", name := "set", desc := "(LSettlerColony$Person;)V" } : Jvm.MethodName)) ∈ lw_all := lw_g (lw_at lw_m6 156 rfl) rfl
theorem q1481 : (Jvm.Cond.selects "SettlerColony$Person" ({ cls := "SettlerColony$Person", name := "set", desc := "(LSettlerColony$Person;)V" } : Jvm.MethodName) ({ cls := "SettlerColony$Person", name := "set", desc := "(LSettlerColony$Person;)V" } : Jvm.MethodName)) ∈ lw_all := lw_g (lw_at lw_m6 157 rfl) rfl
theorem q1482 : (Jvm.Cond.code ({ cls := "SettlerColony$Person", name := "set", desc := "(LSettlerColony$Person;)V" } : Jvm.MethodName) prog_23_method_2_code (2 : Nat) (Option.none : Option Jvm.ClassFile.FieldType)) ∈ lw_all := lw_g (lw_at lw_m6 158 rfl) rfl
theorem q1628 : (Jvm.Cond.selects "SettlerColony$Person" ({ cls := "java/lang/Object", name := "equals", desc := "(Ljava/lang/Object;)Z" } : Jvm.MethodName) ({ cls := "java/lang/Object", name := "equals", desc := "(Ljava/lang/Object;)Z" } : Jvm.MethodName)) ∈ lw_all := lw_g (lw_at lw_m7 64 rfl) rfl
theorem q2381 : (Jvm.Cond.instanceMethod ({ cls := "SettlerColony$Person", name := "gets", desc := "(I)V" } : Jvm.MethodName)) ∈ lw_all := lw_g (lw_at lw_m10 97 rfl) rfl
theorem q2382 : (Jvm.Cond.selects "SettlerColony$Person" ({ cls := "SettlerColony$Person", name := "gets", desc := "(I)V" } : Jvm.MethodName) ({ cls := "SettlerColony$Person", name := "gets", desc := "(I)V" } : Jvm.MethodName)) ∈ lw_all := lw_g (lw_at lw_m10 98 rfl) rfl
theorem q2383 : (Jvm.Cond.code ({ cls := "SettlerColony$Person", name := "gets", desc := "(I)V" } : Jvm.MethodName) prog_23_method_4_code (2 : Nat) (Option.none : Option Jvm.ClassFile.FieldType)) ∈ lw_all := lw_g (lw_at lw_m10 99 rfl) rfl
theorem q2384 : (Jvm.Cond.constant "SettlerColony$Person" (42 : Nat) (1000000 : Int32)) ∈ lw_all := lw_g (lw_at lw_m10 100 rfl) rfl
theorem q2385 : (Jvm.Cond.methodLink "SettlerColony$Person" (43 : Nat) ({ cls := "java/lang/Math", name := "min", desc := "(II)I" } : Jvm.MethodName)) ∈ lw_all := lw_g (lw_at lw_m10 101 rfl) rfl
theorem q3237 : (Jvm.Cond.castable "SettlerColony$Person" "java/lang/Object") ∈ lw_tbl := lw_at lw_m13 233 rfl
theorem in_X10 : ∀ w ∈ wsX100, w ∈ lw_all := lw_in wsX100 [1093, 1095, 1097, 1099, 1101, 1103, 1105, 1107, 1109, 1111] (by decide +kernel) (by decide +kernel)
/-! SettlerColony$Party -/
def RX11 : String := "SettlerColony$Party"
def TX11 : u_T := fun k => match k with
  | 0 => ("SettlerColony$Party", "pace", "I", true)
  | 1 => ("SettlerColony$Party", "at", "I", false)
  | 2 => ("SettlerColony$Party", "many", "I", false)
  | _ => ("SettlerColony$Party", "queue", "[I", true)
def tyX11 : Nat → FieldType := fun k => match k with
  | 0 => .int
  | 1 => .int
  | 2 => .int
  | _ => .array .int
abbrev wsX110 : List Cond := u_ws RX11 TX11 4
theorem nmX11 : ∀ a, a < 4 → ∀ b, b < 4 → a ≠ b → (TX11 a).2.1 ≠ (TX11 b).2.1 := by decide +kernel
theorem tyX11_ok : ∀ k, k < 4 → parseFieldDescriptor (TX11 k).2.2.1 = some (tyX11 k) := by decide +kernel
abbrev cX11_init : ByteArray := prog_22_method_1_code
def yX11_init : MethodName := ⟨RX11, "<init>", "(I)V"⟩
abbrev cX11_set : ByteArray := prog_22_method_2_code
def yX11_set : MethodName := ⟨RX11, "set", "(LSettlerColony$Party;)V"⟩
abbrev cX11_passes : ByteArray := prog_22_method_3_code
def yX11_passes : MethodName := ⟨RX11, "passes", "()V"⟩
theorem q159 : (Jvm.Cond.initialized "SettlerColony$Party") ∈ lw_all := lw_g (lw_at lw_m1 35 rfl) rfl
theorem q672 : (Jvm.Cond.selects "SettlerColony$Party" ({ cls := "java/lang/Object", name := "getClass", desc := "()Ljava/lang/Class;" } : Jvm.MethodName) ({ cls := "java/lang/Object", name := "getClass", desc := "()Ljava/lang/Class;" } : Jvm.MethodName)) ∈ lw_all := lw_g (lw_at lw_m3 68 rfl) rfl
theorem q1423 : (Jvm.Cond.instantiable "SettlerColony$Party" (4 : Nat)) ∈ lw_all := lw_g (lw_at lw_m6 99 rfl) rfl
theorem q1425 : (Jvm.Cond.instanceMethod ({ cls := "SettlerColony$Party", name := "<init>", desc := "(I)V" } : Jvm.MethodName)) ∈ lw_all := lw_g (lw_at lw_m6 101 rfl) rfl
theorem q1426 : (Jvm.Cond.code ({ cls := "SettlerColony$Party", name := "<init>", desc := "(I)V" } : Jvm.MethodName) prog_22_method_1_code (2 : Nat) (Option.none : Option Jvm.ClassFile.FieldType)) ∈ lw_all := lw_g (lw_at lw_m6 102 rfl) rfl
theorem q1427 : (Jvm.Cond.methodLink "SettlerColony$Party" (3 : Nat) ({ cls := "java/lang/Object", name := "<init>", desc := "()V" } : Jvm.MethodName)) ∈ lw_all := lw_g (lw_at lw_m6 103 rfl) rfl
theorem q1428 : (Jvm.Cond.fieldLink "SettlerColony$Party" (15 : Nat) "SettlerColony$Party" "pace" "I") ∈ lw_all := lw_g (lw_at lw_m6 104 rfl) rfl
theorem q1430 : (Jvm.Cond.fieldLink "SettlerColony$Party" (19 : Nat) "SettlerColony$Party" "at" "I") ∈ lw_all := lw_g (lw_at lw_m6 106 rfl) rfl
theorem q1433 : (Jvm.Cond.fieldLink "SettlerColony$Party" (22 : Nat) "SettlerColony$Party" "many" "I") ∈ lw_all := lw_g (lw_at lw_m6 109 rfl) rfl
theorem q1436 : (Jvm.Cond.fieldLink "SettlerColony$Party" (9 : Nat) "SettlerColony$Party" "queue" "[I") ∈ lw_all := lw_g (lw_at lw_m6 112 rfl) rfl
theorem q1439 : (Jvm.Cond.laysFinal "SettlerColony$Party" "SettlerColony$Party" "pace" "I") ∈ lw_all := lw_g (lw_at lw_m6 115 rfl) rfl
theorem q1440 : (Jvm.Cond.soleField "SettlerColony$Party" "pace") ∈ lw_all := lw_g (lw_at lw_m6 116 rfl) rfl
theorem q1441 : (Jvm.Cond.lays "SettlerColony$Party" "SettlerColony$Party" "at" "I") ∈ lw_all := lw_g (lw_at lw_m6 117 rfl) rfl
theorem q1442 : (Jvm.Cond.soleField "SettlerColony$Party" "at") ∈ lw_all := lw_g (lw_at lw_m6 118 rfl) rfl
theorem q1443 : (Jvm.Cond.lays "SettlerColony$Party" "SettlerColony$Party" "many" "I") ∈ lw_all := lw_g (lw_at lw_m6 119 rfl) rfl
theorem q1444 : (Jvm.Cond.soleField "SettlerColony$Party" "many") ∈ lw_all := lw_g (lw_at lw_m6 120 rfl) rfl
theorem q1445 : (Jvm.Cond.laysFinal "SettlerColony$Party" "SettlerColony$Party" "queue" "[I") ∈ lw_all := lw_g (lw_at lw_m6 121 rfl) rfl
theorem q1446 : (Jvm.Cond.soleField "SettlerColony$Party" "queue") ∈ lw_all := lw_g (lw_at lw_m6 122 rfl) rfl
theorem q1447 : (Jvm.Cond.superclass "SettlerColony$Party" "java/lang/Object") ∈ lw_all := lw_g (lw_at lw_m6 123 rfl) rfl
theorem q1486 : (Jvm.Cond.instanceMethod ({ cls := "SettlerColony$Party", name := "set", desc := "(LSettlerColony$Party;)V" } : Jvm.MethodName)) ∈ lw_all := lw_g (lw_at lw_m6 162 rfl) rfl
theorem q1487 : (Jvm.Cond.selects "SettlerColony$Party" ({ cls := "SettlerColony$Party", name := "set", desc := "(LSettlerColony$Party;)V" } : Jvm.MethodName) ({ cls := "SettlerColony$Party", name := "set", desc := "(LSettlerColony$Party;)V" } : Jvm.MethodName)) ∈ lw_all := lw_g (lw_at lw_m6 163 rfl) rfl
theorem q1488 : (Jvm.Cond.code ({ cls := "SettlerColony$Party", name := "set", desc := "(LSettlerColony$Party;)V" } : Jvm.MethodName) prog_22_method_2_code (2 : Nat) (Option.none : Option Jvm.ClassFile.FieldType)) ∈ lw_all := lw_g (lw_at lw_m6 164 rfl) rfl
theorem q1489 : (Jvm.Cond.methodLink "SettlerColony$Party" (25 : Nat) ({ cls := "java/lang/System", name := "arraycopy", desc := "(Ljava/lang/Object;ILjava/lang/Object;II)V" } : Jvm.MethodName)) ∈ lw_all := lw_g (lw_at lw_m6 165 rfl) rfl
theorem q1572 : (Jvm.Cond.instanceMethod ({ cls := "SettlerColony$Party", name := "passes", desc := "()V" } : Jvm.MethodName)) ∈ lw_all := lw_g (lw_at lw_m7 8 rfl) rfl
theorem q1573 : (Jvm.Cond.selects "SettlerColony$Party" ({ cls := "SettlerColony$Party", name := "passes", desc := "()V" } : Jvm.MethodName) ({ cls := "SettlerColony$Party", name := "passes", desc := "()V" } : Jvm.MethodName)) ∈ lw_all := lw_g (lw_at lw_m7 9 rfl) rfl
theorem q1574 : (Jvm.Cond.code ({ cls := "SettlerColony$Party", name := "passes", desc := "()V" } : Jvm.MethodName) prog_22_method_3_code (1 : Nat) (Option.none : Option Jvm.ClassFile.FieldType)) ∈ lw_all := lw_g (lw_at lw_m7 10 rfl) rfl
theorem q1627 : (Jvm.Cond.selects "SettlerColony$Party" ({ cls := "java/lang/Object", name := "equals", desc := "(Ljava/lang/Object;)Z" } : Jvm.MethodName) ({ cls := "java/lang/Object", name := "equals", desc := "(Ljava/lang/Object;)Z" } : Jvm.MethodName)) ∈ lw_all := lw_g (lw_at lw_m7 63 rfl) rfl
theorem q3255 : (Jvm.Cond.castable "SettlerColony$Party" "java/lang/Object") ∈ lw_tbl := lw_at lw_m14 11 rfl
theorem in_X11 : ∀ w ∈ wsX110, w ∈ lw_all := lw_in wsX110 [1439, 1441, 1443, 1445] (by decide +kernel) (by decide +kernel)
/-! SettlerColony$Law -/
def RX12 : String := "SettlerColony$Law"
def TX12 : u_T := fun k => match k with
  | 0 => ("SettlerColony$Law", "text", "LSettlerColony$Text;", true)
  | 1 => ("SettlerColony$Law", "is", "I", false)
  | 2 => ("SettlerColony$Law", "from", "I", false)
  | 3 => ("SettlerColony$Law", "until", "I", false)
  | 4 => ("SettlerColony$Law", "read", "I", false)
  | 5 => ("SettlerColony$Law", "yes", "I", false)
  | 6 => ("SettlerColony$Law", "no", "I", false)
  | 7 => ("SettlerColony$Law", "saysYes", "Z", false)
  | _ => ("SettlerColony$Law", "voted", "[Z", true)
def tyX12 : Nat → FieldType := fun k => match k with
  | 0 => .object "SettlerColony$Text"
  | 1 => .int
  | 2 => .int
  | 3 => .int
  | 4 => .int
  | 5 => .int
  | 6 => .int
  | 7 => .boolean
  | _ => .array .boolean
abbrev wsX120 : List Cond := u_ws RX12 TX12 9
theorem nmX12 : ∀ a, a < 9 → ∀ b, b < 9 → a ≠ b → (TX12 a).2.1 ≠ (TX12 b).2.1 := by decide +kernel
theorem tyX12_ok : ∀ k, k < 9 → parseFieldDescriptor (TX12 k).2.2.1 = some (tyX12 k) := by decide +kernel
abbrev cX12_wasIn : ByteArray := prog_16_method_3_code
def yX12_wasIn : MethodName := ⟨RX12, "wasIn", "(I)Z"⟩
abbrev cX12_init : ByteArray := prog_16_method_1_code
def yX12_init : MethodName := ⟨RX12, "<init>", "(LSettlerColony$Text;)V"⟩
abbrev cX12_set : ByteArray := prog_16_method_2_code
def yX12_set : MethodName := ⟨RX12, "set", "(LSettlerColony$Law;)V"⟩
abbrev cX12_isIn : ByteArray := prog_16_method_4_code
def yX12_isIn : MethodName := ⟨RX12, "isIn", "()Z"⟩
theorem q160 : (Jvm.Cond.initialized "SettlerColony$Law") ∈ lw_all := lw_g (lw_at lw_m1 36 rfl) rfl
theorem q666 : (Jvm.Cond.selects "SettlerColony$Law" ({ cls := "java/lang/Object", name := "getClass", desc := "()Ljava/lang/Class;" } : Jvm.MethodName) ({ cls := "java/lang/Object", name := "getClass", desc := "()Ljava/lang/Class;" } : Jvm.MethodName)) ∈ lw_all := lw_g (lw_at lw_m3 62 rfl) rfl
theorem q953 : (Jvm.Cond.instanceMethod ({ cls := "SettlerColony$Law", name := "wasIn", desc := "(I)Z" } : Jvm.MethodName)) ∈ lw_all := lw_g (lw_at lw_m4 109 rfl) rfl
theorem q954 : (Jvm.Cond.selects "SettlerColony$Law" ({ cls := "SettlerColony$Law", name := "wasIn", desc := "(I)Z" } : Jvm.MethodName) ({ cls := "SettlerColony$Law", name := "wasIn", desc := "(I)Z" } : Jvm.MethodName)) ∈ lw_all := lw_g (lw_at lw_m4 110 rfl) rfl
theorem q955 : (Jvm.Cond.code ({ cls := "SettlerColony$Law", name := "wasIn", desc := "(I)Z" } : Jvm.MethodName) prog_16_method_3_code (2 : Nat) (Option.some Jvm.ClassFile.FieldType.boolean)) ∈ lw_all := lw_g (lw_at lw_m4 111 rfl) rfl
theorem q1490 : (Jvm.Cond.instantiable "SettlerColony$Law" (9 : Nat)) ∈ lw_all := lw_g (lw_at lw_m6 166 rfl) rfl
theorem q1492 : (Jvm.Cond.instanceMethod ({ cls := "SettlerColony$Law", name := "<init>", desc := "(LSettlerColony$Text;)V" } : Jvm.MethodName)) ∈ lw_all := lw_g (lw_at lw_m6 168 rfl) rfl
theorem q1493 : (Jvm.Cond.code ({ cls := "SettlerColony$Law", name := "<init>", desc := "(LSettlerColony$Text;)V" } : Jvm.MethodName) prog_16_method_1_code (2 : Nat) (Option.none : Option Jvm.ClassFile.FieldType)) ∈ lw_all := lw_g (lw_at lw_m6 169 rfl) rfl
theorem q1494 : (Jvm.Cond.methodLink "SettlerColony$Law" (3 : Nat) ({ cls := "java/lang/Object", name := "<init>", desc := "()V" } : Jvm.MethodName)) ∈ lw_all := lw_g (lw_at lw_m6 170 rfl) rfl
theorem q1495 : (Jvm.Cond.fieldLink "SettlerColony$Law" (25 : Nat) "SettlerColony$Law" "text" "LSettlerColony$Text;") ∈ lw_all := lw_g (lw_at lw_m6 171 rfl) rfl
theorem q1497 : (Jvm.Cond.fieldLink "SettlerColony$Law" (29 : Nat) "SettlerColony$Law" "is" "I") ∈ lw_all := lw_g (lw_at lw_m6 173 rfl) rfl
theorem q1500 : (Jvm.Cond.fieldLink "SettlerColony$Law" (9 : Nat) "SettlerColony$Law" "from" "I") ∈ lw_all := lw_g (lw_at lw_m6 176 rfl) rfl
theorem q1502 : (Jvm.Cond.fieldLink "SettlerColony$Law" (15 : Nat) "SettlerColony$Law" "until" "I") ∈ lw_all := lw_g (lw_at lw_m6 178 rfl) rfl
theorem q1504 : (Jvm.Cond.fieldLink "SettlerColony$Law" (18 : Nat) "SettlerColony$Law" "read" "I") ∈ lw_all := lw_g (lw_at lw_m6 180 rfl) rfl
theorem q1509 : (Jvm.Cond.fieldLink "SettlerColony$Law" (32 : Nat) "SettlerColony$Law" "saysYes" "Z") ∈ lw_all := lw_g (lw_at lw_m6 185 rfl) rfl
theorem q1512 : (Jvm.Cond.fieldLink "SettlerColony$Law" (21 : Nat) "SettlerColony$Law" "voted" "[Z") ∈ lw_all := lw_g (lw_at lw_m6 188 rfl) rfl
theorem q1514 : (Jvm.Cond.laysFinal "SettlerColony$Law" "SettlerColony$Law" "text" "LSettlerColony$Text;") ∈ lw_all := lw_g (lw_at lw_m6 190 rfl) rfl
theorem q1515 : (Jvm.Cond.soleField "SettlerColony$Law" "text") ∈ lw_all := lw_g (lw_at lw_m6 191 rfl) rfl
theorem q1516 : (Jvm.Cond.lays "SettlerColony$Law" "SettlerColony$Law" "is" "I") ∈ lw_all := lw_g (lw_at lw_m6 192 rfl) rfl
theorem q1517 : (Jvm.Cond.soleField "SettlerColony$Law" "is") ∈ lw_all := lw_g (lw_at lw_m6 193 rfl) rfl
theorem q1518 : (Jvm.Cond.lays "SettlerColony$Law" "SettlerColony$Law" "from" "I") ∈ lw_all := lw_g (lw_at lw_m6 194 rfl) rfl
theorem q1519 : (Jvm.Cond.soleField "SettlerColony$Law" "from") ∈ lw_all := lw_g (lw_at lw_m6 195 rfl) rfl
theorem q1520 : (Jvm.Cond.lays "SettlerColony$Law" "SettlerColony$Law" "until" "I") ∈ lw_all := lw_g (lw_at lw_m6 196 rfl) rfl
theorem q1521 : (Jvm.Cond.soleField "SettlerColony$Law" "until") ∈ lw_all := lw_g (lw_at lw_m6 197 rfl) rfl
theorem q1522 : (Jvm.Cond.lays "SettlerColony$Law" "SettlerColony$Law" "read" "I") ∈ lw_all := lw_g (lw_at lw_m6 198 rfl) rfl
theorem q1523 : (Jvm.Cond.soleField "SettlerColony$Law" "read") ∈ lw_all := lw_g (lw_at lw_m6 199 rfl) rfl
theorem q1524 : (Jvm.Cond.lays "SettlerColony$Law" "SettlerColony$Law" "yes" "I") ∈ lw_all := lw_g (lw_at lw_m6 200 rfl) rfl
theorem q1525 : (Jvm.Cond.soleField "SettlerColony$Law" "yes") ∈ lw_all := lw_g (lw_at lw_m6 201 rfl) rfl
theorem q1526 : (Jvm.Cond.lays "SettlerColony$Law" "SettlerColony$Law" "no" "I") ∈ lw_all := lw_g (lw_at lw_m6 202 rfl) rfl
theorem q1527 : (Jvm.Cond.soleField "SettlerColony$Law" "no") ∈ lw_all := lw_g (lw_at lw_m6 203 rfl) rfl
theorem q1528 : (Jvm.Cond.lays "SettlerColony$Law" "SettlerColony$Law" "saysYes" "Z") ∈ lw_all := lw_g (lw_at lw_m6 204 rfl) rfl
theorem q1529 : (Jvm.Cond.soleField "SettlerColony$Law" "saysYes") ∈ lw_all := lw_g (lw_at lw_m6 205 rfl) rfl
theorem q1530 : (Jvm.Cond.laysFinal "SettlerColony$Law" "SettlerColony$Law" "voted" "[Z") ∈ lw_all := lw_g (lw_at lw_m6 206 rfl) rfl
theorem q1531 : (Jvm.Cond.soleField "SettlerColony$Law" "voted") ∈ lw_all := lw_g (lw_at lw_m6 207 rfl) rfl
theorem q1532 : (Jvm.Cond.superclass "SettlerColony$Law" "java/lang/Object") ∈ lw_all := lw_g (lw_at lw_m6 208 rfl) rfl
theorem q1534 : (Jvm.Cond.instanceMethod ({ cls := "SettlerColony$Law", name := "set", desc := "(LSettlerColony$Law;)V" } : Jvm.MethodName)) ∈ lw_all := lw_g (lw_at lw_m6 210 rfl) rfl
theorem q1535 : (Jvm.Cond.selects "SettlerColony$Law" ({ cls := "SettlerColony$Law", name := "set", desc := "(LSettlerColony$Law;)V" } : Jvm.MethodName) ({ cls := "SettlerColony$Law", name := "set", desc := "(LSettlerColony$Law;)V" } : Jvm.MethodName)) ∈ lw_all := lw_g (lw_at lw_m6 211 rfl) rfl
theorem q1536 : (Jvm.Cond.code ({ cls := "SettlerColony$Law", name := "set", desc := "(LSettlerColony$Law;)V" } : Jvm.MethodName) prog_16_method_2_code (2 : Nat) (Option.none : Option Jvm.ClassFile.FieldType)) ∈ lw_all := lw_g (lw_at lw_m6 212 rfl) rfl
theorem q1621 : (Jvm.Cond.selects "SettlerColony$Law" ({ cls := "java/lang/Object", name := "equals", desc := "(Ljava/lang/Object;)Z" } : Jvm.MethodName) ({ cls := "java/lang/Object", name := "equals", desc := "(Ljava/lang/Object;)Z" } : Jvm.MethodName)) ∈ lw_all := lw_g (lw_at lw_m7 57 rfl) rfl
theorem q1716 : (Jvm.Cond.instanceMethod ({ cls := "SettlerColony$Law", name := "isIn", desc := "()Z" } : Jvm.MethodName)) ∈ lw_all := lw_g (lw_at lw_m7 152 rfl) rfl
theorem q1717 : (Jvm.Cond.selects "SettlerColony$Law" ({ cls := "SettlerColony$Law", name := "isIn", desc := "()Z" } : Jvm.MethodName) ({ cls := "SettlerColony$Law", name := "isIn", desc := "()Z" } : Jvm.MethodName)) ∈ lw_all := lw_g (lw_at lw_m7 153 rfl) rfl
theorem q1718 : (Jvm.Cond.code ({ cls := "SettlerColony$Law", name := "isIn", desc := "()Z" } : Jvm.MethodName) prog_16_method_4_code (1 : Nat) (Option.some Jvm.ClassFile.FieldType.boolean)) ∈ lw_all := lw_g (lw_at lw_m7 154 rfl) rfl
theorem q3256 : (Jvm.Cond.castable "SettlerColony$Law" "java/lang/Object") ∈ lw_tbl := lw_at lw_m14 12 rfl
theorem in_X12 : ∀ w ∈ wsX120, w ∈ lw_all := lw_in wsX120 [1514, 1516, 1518, 1520, 1522, 1524, 1526, 1528, 1530] (by decide +kernel) (by decide +kernel)
/-! SettlerColony$Bill -/
def RX13 : String := "SettlerColony$Bill"
def TX13 : u_T := fun k => match k with
  | 0 => ("SettlerColony$Bill", "sum", "I", true)
  | 1 => ("SettlerColony$Bill", "sent", "I", true)
  | 2 => ("SettlerColony$Bill", "hands", "I", false)
  | _ => ("SettlerColony$Bill", "is", "I", false)
def tyX13 : Nat → FieldType := fun k => match k with
  | 0 => .int
  | 1 => .int
  | 2 => .int
  | _ => .int
abbrev wsX130 : List Cond := u_ws RX13 TX13 4
theorem nmX13 : ∀ a, a < 4 → ∀ b, b < 4 → a ≠ b → (TX13 a).2.1 ≠ (TX13 b).2.1 := by decide +kernel
theorem tyX13_ok : ∀ k, k < 4 → parseFieldDescriptor (TX13 k).2.2.1 = some (tyX13 k) := by decide +kernel
abbrev cX13_init : ByteArray := prog_5_method_1_code
def yX13_init : MethodName := ⟨RX13, "<init>", "(II)V"⟩
abbrev cX13_set : ByteArray := prog_5_method_2_code
def yX13_set : MethodName := ⟨RX13, "set", "(LSettlerColony$Bill;)V"⟩
theorem q161 : (Jvm.Cond.initialized "SettlerColony$Bill") ∈ lw_all := lw_g (lw_at lw_m1 37 rfl) rfl
theorem q661 : (Jvm.Cond.selects "SettlerColony$Bill" ({ cls := "java/lang/Object", name := "getClass", desc := "()Ljava/lang/Class;" } : Jvm.MethodName) ({ cls := "java/lang/Object", name := "getClass", desc := "()Ljava/lang/Class;" } : Jvm.MethodName)) ∈ lw_all := lw_g (lw_at lw_m3 57 rfl) rfl
theorem q1538 : (Jvm.Cond.instantiable "SettlerColony$Bill" (4 : Nat)) ∈ lw_all := lw_g (lw_at lw_m6 214 rfl) rfl
theorem q1540 : (Jvm.Cond.instanceMethod ({ cls := "SettlerColony$Bill", name := "<init>", desc := "(II)V" } : Jvm.MethodName)) ∈ lw_all := lw_g (lw_at lw_m6 216 rfl) rfl
theorem q1541 : (Jvm.Cond.code ({ cls := "SettlerColony$Bill", name := "<init>", desc := "(II)V" } : Jvm.MethodName) prog_5_method_1_code (3 : Nat) (Option.none : Option Jvm.ClassFile.FieldType)) ∈ lw_all := lw_g (lw_at lw_m6 217 rfl) rfl
theorem q1542 : (Jvm.Cond.methodLink "SettlerColony$Bill" (1 : Nat) ({ cls := "java/lang/Object", name := "<init>", desc := "()V" } : Jvm.MethodName)) ∈ lw_all := lw_g (lw_at lw_m6 218 rfl) rfl
theorem q1543 : (Jvm.Cond.fieldLink "SettlerColony$Bill" (7 : Nat) "SettlerColony$Bill" "sum" "I") ∈ lw_all := lw_g (lw_at lw_m6 219 rfl) rfl
theorem q1545 : (Jvm.Cond.fieldLink "SettlerColony$Bill" (13 : Nat) "SettlerColony$Bill" "sent" "I") ∈ lw_all := lw_g (lw_at lw_m6 221 rfl) rfl
theorem q1547 : (Jvm.Cond.fieldLink "SettlerColony$Bill" (16 : Nat) "SettlerColony$Bill" "hands" "I") ∈ lw_all := lw_g (lw_at lw_m6 223 rfl) rfl
theorem q1550 : (Jvm.Cond.fieldLink "SettlerColony$Bill" (19 : Nat) "SettlerColony$Bill" "is" "I") ∈ lw_all := lw_g (lw_at lw_m6 226 rfl) rfl
theorem q1553 : (Jvm.Cond.laysFinal "SettlerColony$Bill" "SettlerColony$Bill" "sum" "I") ∈ lw_all := lw_g (lw_at lw_m6 229 rfl) rfl
theorem q1554 : (Jvm.Cond.soleField "SettlerColony$Bill" "sum") ∈ lw_all := lw_g (lw_at lw_m6 230 rfl) rfl
theorem q1555 : (Jvm.Cond.laysFinal "SettlerColony$Bill" "SettlerColony$Bill" "sent" "I") ∈ lw_all := lw_g (lw_at lw_m6 231 rfl) rfl
theorem q1556 : (Jvm.Cond.soleField "SettlerColony$Bill" "sent") ∈ lw_all := lw_g (lw_at lw_m6 232 rfl) rfl
theorem q1557 : (Jvm.Cond.lays "SettlerColony$Bill" "SettlerColony$Bill" "hands" "I") ∈ lw_all := lw_g (lw_at lw_m6 233 rfl) rfl
theorem q1558 : (Jvm.Cond.soleField "SettlerColony$Bill" "hands") ∈ lw_all := lw_g (lw_at lw_m6 234 rfl) rfl
theorem q1559 : (Jvm.Cond.lays "SettlerColony$Bill" "SettlerColony$Bill" "is" "I") ∈ lw_all := lw_g (lw_at lw_m6 235 rfl) rfl
theorem q1560 : (Jvm.Cond.soleField "SettlerColony$Bill" "is") ∈ lw_all := lw_g (lw_at lw_m6 236 rfl) rfl
theorem q1561 : (Jvm.Cond.superclass "SettlerColony$Bill" "java/lang/Object") ∈ lw_all := lw_g (lw_at lw_m6 237 rfl) rfl
theorem q1563 : (Jvm.Cond.instanceMethod ({ cls := "SettlerColony$Bill", name := "set", desc := "(LSettlerColony$Bill;)V" } : Jvm.MethodName)) ∈ lw_all := lw_g (lw_at lw_m6 239 rfl) rfl
theorem q1564 : (Jvm.Cond.selects "SettlerColony$Bill" ({ cls := "SettlerColony$Bill", name := "set", desc := "(LSettlerColony$Bill;)V" } : Jvm.MethodName) ({ cls := "SettlerColony$Bill", name := "set", desc := "(LSettlerColony$Bill;)V" } : Jvm.MethodName)) ∈ lw_all := lw_g (lw_at lw_m7 0 rfl) rfl
theorem q1565 : (Jvm.Cond.code ({ cls := "SettlerColony$Bill", name := "set", desc := "(LSettlerColony$Bill;)V" } : Jvm.MethodName) prog_5_method_2_code (2 : Nat) (Option.none : Option Jvm.ClassFile.FieldType)) ∈ lw_all := lw_g (lw_at lw_m7 1 rfl) rfl
theorem q1616 : (Jvm.Cond.selects "SettlerColony$Bill" ({ cls := "java/lang/Object", name := "equals", desc := "(Ljava/lang/Object;)Z" } : Jvm.MethodName) ({ cls := "java/lang/Object", name := "equals", desc := "(Ljava/lang/Object;)Z" } : Jvm.MethodName)) ∈ lw_all := lw_g (lw_at lw_m7 52 rfl) rfl
theorem q3257 : (Jvm.Cond.castable "SettlerColony$Bill" "java/lang/Object") ∈ lw_tbl := lw_at lw_m14 13 rfl
theorem in_X13 : ∀ w ∈ wsX130, w ∈ lw_all := lw_in wsX130 [1553, 1555, 1557, 1559] (by decide +kernel) (by decide +kernel)
/-! SettlerColony$Country -/
def RX14 : String := "SettlerColony$Country"
def TX14 : u_T := fun k => match k with
  | 0 => ("SettlerColony$Country", "holder", "I", true)
  | 1 => ("SettlerColony$Country", "paid", "I", true)
  | _ => ("SettlerColony$Country", "law", "I", true)
def tyX14 : Nat → FieldType := fun k => match k with
  | 0 => .int
  | 1 => .int
  | _ => .int
abbrev wsX140 : List Cond := u_ws RX14 TX14 3
theorem nmX14 : ∀ a, a < 3 → ∀ b, b < 3 → a ≠ b → (TX14 a).2.1 ≠ (TX14 b).2.1 := by decide +kernel
theorem tyX14_ok : ∀ k, k < 3 → parseFieldDescriptor (TX14 k).2.2.1 = some (tyX14 k) := by decide +kernel
abbrev cX14_kind : ByteArray := prog_11_method_2_code
def yX14_kind : MethodName := ⟨RX14, "kind", "()I"⟩
abbrev cX14_holder : ByteArray := prog_11_method_3_code
def yX14_holder : MethodName := ⟨RX14, "holder", "()I"⟩
abbrev cX14_isFarm : ByteArray := prog_11_method_5_code
def yX14_isFarm : MethodName := ⟨RX14, "isFarm", "()Z"⟩
abbrev cX14_paid : ByteArray := prog_11_method_4_code
def yX14_paid : MethodName := ⟨RX14, "paid", "()I"⟩
abbrev cX14_init : ByteArray := prog_11_method_1_code
def yX14_init : MethodName := ⟨RX14, "<init>", "(III)V"⟩
abbrev cX14_isBy : ByteArray := prog_11_method_6_code
def yX14_isBy : MethodName := ⟨RX14, "isBy", "(I)Z"⟩
theorem q162 : (Jvm.Cond.initialized "SettlerColony$Country") ∈ lw_all := lw_g (lw_at lw_m1 38 rfl) rfl
theorem q665 : (Jvm.Cond.selects "SettlerColony$Country" ({ cls := "java/lang/Object", name := "getClass", desc := "()Ljava/lang/Class;" } : Jvm.MethodName) ({ cls := "java/lang/Object", name := "getClass", desc := "()Ljava/lang/Class;" } : Jvm.MethodName)) ∈ lw_all := lw_g (lw_at lw_m3 61 rfl) rfl
theorem q1134 : (Jvm.Cond.selects "SettlerColony$Country" ({ cls := "SettlerColony$Tells", name := "kind", desc := "()I" } : Jvm.MethodName) ({ cls := "SettlerColony$Country", name := "kind", desc := "()I" } : Jvm.MethodName)) ∈ lw_all := lw_g (lw_at lw_m5 50 rfl) rfl
theorem q1135 : (Jvm.Cond.instanceMethod ({ cls := "SettlerColony$Country", name := "kind", desc := "()I" } : Jvm.MethodName)) ∈ lw_all := lw_g (lw_at lw_m5 51 rfl) rfl
theorem q1136 : (Jvm.Cond.code ({ cls := "SettlerColony$Country", name := "kind", desc := "()I" } : Jvm.MethodName) prog_11_method_2_code (1 : Nat) (Option.some Jvm.ClassFile.FieldType.int)) ∈ lw_all := lw_g (lw_at lw_m5 52 rfl) rfl
theorem q1153 : (Jvm.Cond.selects "SettlerColony$Country" ({ cls := "SettlerColony$Holds", name := "holder", desc := "()I" } : Jvm.MethodName) ({ cls := "SettlerColony$Country", name := "holder", desc := "()I" } : Jvm.MethodName)) ∈ lw_all := lw_g (lw_at lw_m5 69 rfl) rfl
theorem q1154 : (Jvm.Cond.instanceMethod ({ cls := "SettlerColony$Country", name := "holder", desc := "()I" } : Jvm.MethodName)) ∈ lw_all := lw_g (lw_at lw_m5 70 rfl) rfl
theorem q1155 : (Jvm.Cond.code ({ cls := "SettlerColony$Country", name := "holder", desc := "()I" } : Jvm.MethodName) prog_11_method_3_code (1 : Nat) (Option.some Jvm.ClassFile.FieldType.int)) ∈ lw_all := lw_g (lw_at lw_m5 71 rfl) rfl
theorem q1201 : (Jvm.Cond.selects "SettlerColony$Country" ({ cls := "SettlerColony$Tells", name := "isFarm", desc := "()Z" } : Jvm.MethodName) ({ cls := "SettlerColony$Country", name := "isFarm", desc := "()Z" } : Jvm.MethodName)) ∈ lw_all := lw_g (lw_at lw_m5 117 rfl) rfl
theorem q1202 : (Jvm.Cond.instanceMethod ({ cls := "SettlerColony$Country", name := "isFarm", desc := "()Z" } : Jvm.MethodName)) ∈ lw_all := lw_g (lw_at lw_m5 118 rfl) rfl
theorem q1203 : (Jvm.Cond.code ({ cls := "SettlerColony$Country", name := "isFarm", desc := "()Z" } : Jvm.MethodName) prog_11_method_5_code (1 : Nat) (Option.some Jvm.ClassFile.FieldType.boolean)) ∈ lw_all := lw_g (lw_at lw_m5 119 rfl) rfl
theorem q1347 : (Jvm.Cond.selects "SettlerColony$Country" ({ cls := "SettlerColony$Costs", name := "paid", desc := "()I" } : Jvm.MethodName) ({ cls := "SettlerColony$Country", name := "paid", desc := "()I" } : Jvm.MethodName)) ∈ lw_all := lw_g (lw_at lw_m6 23 rfl) rfl
theorem q1348 : (Jvm.Cond.instanceMethod ({ cls := "SettlerColony$Country", name := "paid", desc := "()I" } : Jvm.MethodName)) ∈ lw_all := lw_g (lw_at lw_m6 24 rfl) rfl
theorem q1349 : (Jvm.Cond.code ({ cls := "SettlerColony$Country", name := "paid", desc := "()I" } : Jvm.MethodName) prog_11_method_4_code (1 : Nat) (Option.some Jvm.ClassFile.FieldType.int)) ∈ lw_all := lw_g (lw_at lw_m6 25 rfl) rfl
theorem q1385 : (Jvm.Cond.unhidden "SettlerColony$Country" "isPasture" "()Z") ∈ lw_tbl := lw_at lw_m6 61 rfl
theorem q1620 : (Jvm.Cond.selects "SettlerColony$Country" ({ cls := "java/lang/Object", name := "equals", desc := "(Ljava/lang/Object;)Z" } : Jvm.MethodName) ({ cls := "java/lang/Object", name := "equals", desc := "(Ljava/lang/Object;)Z" } : Jvm.MethodName)) ∈ lw_all := lw_g (lw_at lw_m7 56 rfl) rfl
theorem q1722 : (Jvm.Cond.instantiable "SettlerColony$Country" (3 : Nat)) ∈ lw_all := lw_g (lw_at lw_m7 158 rfl) rfl
theorem q1724 : (Jvm.Cond.instanceMethod ({ cls := "SettlerColony$Country", name := "<init>", desc := "(III)V" } : Jvm.MethodName)) ∈ lw_all := lw_g (lw_at lw_m7 160 rfl) rfl
theorem q1725 : (Jvm.Cond.code ({ cls := "SettlerColony$Country", name := "<init>", desc := "(III)V" } : Jvm.MethodName) prog_11_method_1_code (4 : Nat) (Option.none : Option Jvm.ClassFile.FieldType)) ∈ lw_all := lw_g (lw_at lw_m7 161 rfl) rfl
theorem q1726 : (Jvm.Cond.methodLinkNest "SettlerColony$Country" (1 : Nat) ({ cls := "SettlerColony$Lot", name := "<init>", desc := "()V" } : Jvm.MethodName) "SettlerColony") ∈ lw_tbl := lw_at lw_m7 162 rfl
theorem q1727 : (Jvm.Cond.fieldLink "SettlerColony$Country" (7 : Nat) "SettlerColony$Country" "holder" "I") ∈ lw_all := lw_g (lw_at lw_m7 163 rfl) rfl
theorem q1728 : (Jvm.Cond.fieldLink "SettlerColony$Country" (13 : Nat) "SettlerColony$Country" "paid" "I") ∈ lw_all := lw_g (lw_at lw_m7 164 rfl) rfl
theorem q1729 : (Jvm.Cond.fieldLink "SettlerColony$Country" (16 : Nat) "SettlerColony$Country" "law" "I") ∈ lw_all := lw_g (lw_at lw_m7 165 rfl) rfl
theorem q1730 : (Jvm.Cond.laysFinal "SettlerColony$Country" "SettlerColony$Country" "holder" "I") ∈ lw_all := lw_g (lw_at lw_m7 166 rfl) rfl
theorem q1731 : (Jvm.Cond.soleField "SettlerColony$Country" "holder") ∈ lw_all := lw_g (lw_at lw_m7 167 rfl) rfl
theorem q1732 : (Jvm.Cond.laysFinal "SettlerColony$Country" "SettlerColony$Country" "paid" "I") ∈ lw_all := lw_g (lw_at lw_m7 168 rfl) rfl
theorem q1733 : (Jvm.Cond.soleField "SettlerColony$Country" "paid") ∈ lw_all := lw_g (lw_at lw_m7 169 rfl) rfl
theorem q1734 : (Jvm.Cond.laysFinal "SettlerColony$Country" "SettlerColony$Country" "law" "I") ∈ lw_all := lw_g (lw_at lw_m7 170 rfl) rfl
theorem q1735 : (Jvm.Cond.soleField "SettlerColony$Country" "law") ∈ lw_all := lw_g (lw_at lw_m7 171 rfl) rfl
theorem q1736 : (Jvm.Cond.superclass "SettlerColony$Country" "SettlerColony$Lot") ∈ lw_all := lw_g (lw_at lw_m7 172 rfl) rfl
theorem q2371 : (Jvm.Cond.instanceMethod ({ cls := "SettlerColony$Country", name := "isBy", desc := "(I)Z" } : Jvm.MethodName)) ∈ lw_all := lw_g (lw_at lw_m10 87 rfl) rfl
theorem q2372 : (Jvm.Cond.selects "SettlerColony$Country" ({ cls := "SettlerColony$Country", name := "isBy", desc := "(I)Z" } : Jvm.MethodName) ({ cls := "SettlerColony$Country", name := "isBy", desc := "(I)Z" } : Jvm.MethodName)) ∈ lw_all := lw_g (lw_at lw_m10 88 rfl) rfl
theorem q2373 : (Jvm.Cond.sameMethod "SettlerColony$Country" "SettlerColony$Country" "isBy" "(I)Z") ∈ lw_all := lw_g (lw_at lw_m10 89 rfl) rfl
theorem q2377 : (Jvm.Cond.code ({ cls := "SettlerColony$Country", name := "isBy", desc := "(I)Z" } : Jvm.MethodName) prog_11_method_6_code (2 : Nat) (Option.some Jvm.ClassFile.FieldType.boolean)) ∈ lw_all := lw_g (lw_at lw_m10 93 rfl) rfl
theorem q2433 : (Jvm.Cond.unhidden "SettlerColony$Country" "ends" "()Z") ∈ lw_tbl := lw_at lw_m10 149 rfl
theorem q3213 : (Jvm.Cond.sameMethod "SettlerColony$Country" "SettlerColony$Country" "holder" "()I") ∈ lw_all := lw_g (lw_at lw_m13 209 rfl) rfl
theorem q3214 : (Jvm.Cond.selects "SettlerColony$Country" ({ cls := "SettlerColony$Country", name := "holder", desc := "()I" } : Jvm.MethodName) ({ cls := "SettlerColony$Country", name := "holder", desc := "()I" } : Jvm.MethodName)) ∈ lw_all := lw_g (lw_at lw_m13 210 rfl) rfl
theorem q3216 : (Jvm.Cond.sameMethod "SettlerColony$Country" "SettlerColony$Country" "paid" "()I") ∈ lw_all := lw_g (lw_at lw_m13 212 rfl) rfl
theorem q3217 : (Jvm.Cond.selects "SettlerColony$Country" ({ cls := "SettlerColony$Country", name := "paid", desc := "()I" } : Jvm.MethodName) ({ cls := "SettlerColony$Country", name := "paid", desc := "()I" } : Jvm.MethodName)) ∈ lw_all := lw_g (lw_at lw_m13 213 rfl) rfl
theorem q3225 : (Jvm.Cond.castable "SettlerColony$Country" "SettlerColony$Holding") ∈ lw_tbl := lw_at lw_m13 221 rfl
theorem q3232 : (Jvm.Cond.castable "SettlerColony$Country" "SettlerColony$Lot") ∈ lw_tbl := lw_at lw_m13 228 rfl
theorem q3258 : (Jvm.Cond.castable "SettlerColony$Country" "java/lang/Object") ∈ lw_tbl := lw_at lw_m14 14 rfl
theorem in_X14 : ∀ w ∈ wsX140, w ∈ lw_all := lw_in wsX140 [1730, 1732, 1734] (by decide +kernel) (by decide +kernel)
/-! SettlerColony$Order -/
def RX15 : String := "SettlerColony$Order"
def TX15 : u_T := fun k => match k with
  | 0 => ("SettlerColony$Country", "holder", "I", true)
  | 1 => ("SettlerColony$Country", "paid", "I", true)
  | _ => ("SettlerColony$Country", "law", "I", true)
def tyX15 : Nat → FieldType := fun k => match k with
  | 0 => .int
  | 1 => .int
  | _ => .int
abbrev wsX150 : List Cond := u_ws RX15 TX15 3
theorem nmX15 : ∀ a, a < 3 → ∀ b, b < 3 → a ≠ b → (TX15 a).2.1 ≠ (TX15 b).2.1 := by decide +kernel
theorem tyX15_ok : ∀ k, k < 3 → parseFieldDescriptor (TX15 k).2.2.1 = some (tyX15 k) := by decide +kernel
abbrev cX15_kind : ByteArray := prog_21_method_2_code
def yX15_kind : MethodName := ⟨RX15, "kind", "()I"⟩
abbrev cX15_init : ByteArray := prog_21_method_1_code
def yX15_init : MethodName := ⟨RX15, "<init>", "(II)V"⟩
abbrev cX15_isBy : ByteArray := prog_21_method_3_code
def yX15_isBy : MethodName := ⟨RX15, "isBy", "(I)Z"⟩
theorem q164 : (Jvm.Cond.initialized "SettlerColony$Order") ∈ lw_all := lw_g (lw_at lw_m1 40 rfl) rfl
theorem q671 : (Jvm.Cond.selects "SettlerColony$Order" ({ cls := "java/lang/Object", name := "getClass", desc := "()Ljava/lang/Class;" } : Jvm.MethodName) ({ cls := "java/lang/Object", name := "getClass", desc := "()Ljava/lang/Class;" } : Jvm.MethodName)) ∈ lw_all := lw_g (lw_at lw_m3 67 rfl) rfl
theorem q1140 : (Jvm.Cond.selects "SettlerColony$Order" ({ cls := "SettlerColony$Tells", name := "kind", desc := "()I" } : Jvm.MethodName) ({ cls := "SettlerColony$Order", name := "kind", desc := "()I" } : Jvm.MethodName)) ∈ lw_all := lw_g (lw_at lw_m5 56 rfl) rfl
theorem q1141 : (Jvm.Cond.instanceMethod ({ cls := "SettlerColony$Order", name := "kind", desc := "()I" } : Jvm.MethodName)) ∈ lw_all := lw_g (lw_at lw_m5 57 rfl) rfl
theorem q1142 : (Jvm.Cond.code ({ cls := "SettlerColony$Order", name := "kind", desc := "()I" } : Jvm.MethodName) prog_21_method_2_code (1 : Nat) (Option.some Jvm.ClassFile.FieldType.int)) ∈ lw_all := lw_g (lw_at lw_m5 58 rfl) rfl
theorem q1157 : (Jvm.Cond.selects "SettlerColony$Order" ({ cls := "SettlerColony$Holds", name := "holder", desc := "()I" } : Jvm.MethodName) ({ cls := "SettlerColony$Country", name := "holder", desc := "()I" } : Jvm.MethodName)) ∈ lw_all := lw_g (lw_at lw_m5 73 rfl) rfl
theorem q1205 : (Jvm.Cond.selects "SettlerColony$Order" ({ cls := "SettlerColony$Tells", name := "isFarm", desc := "()Z" } : Jvm.MethodName) ({ cls := "SettlerColony$Country", name := "isFarm", desc := "()Z" } : Jvm.MethodName)) ∈ lw_all := lw_g (lw_at lw_m5 121 rfl) rfl
theorem q1351 : (Jvm.Cond.selects "SettlerColony$Order" ({ cls := "SettlerColony$Costs", name := "paid", desc := "()I" } : Jvm.MethodName) ({ cls := "SettlerColony$Country", name := "paid", desc := "()I" } : Jvm.MethodName)) ∈ lw_all := lw_g (lw_at lw_m6 27 rfl) rfl
theorem q1387 : (Jvm.Cond.unhidden "SettlerColony$Order" "isPasture" "()Z") ∈ lw_tbl := lw_at lw_m6 63 rfl
theorem q1626 : (Jvm.Cond.selects "SettlerColony$Order" ({ cls := "java/lang/Object", name := "equals", desc := "(Ljava/lang/Object;)Z" } : Jvm.MethodName) ({ cls := "java/lang/Object", name := "equals", desc := "(Ljava/lang/Object;)Z" } : Jvm.MethodName)) ∈ lw_all := lw_g (lw_at lw_m7 62 rfl) rfl
theorem q1784 : (Jvm.Cond.instantiable "SettlerColony$Order" (3 : Nat)) ∈ lw_all := lw_g (lw_at lw_m7 220 rfl) rfl
theorem q1788 : (Jvm.Cond.instanceMethod ({ cls := "SettlerColony$Order", name := "<init>", desc := "(II)V" } : Jvm.MethodName)) ∈ lw_all := lw_g (lw_at lw_m7 224 rfl) rfl
theorem q1789 : (Jvm.Cond.code ({ cls := "SettlerColony$Order", name := "<init>", desc := "(II)V" } : Jvm.MethodName) prog_21_method_1_code (3 : Nat) (Option.none : Option Jvm.ClassFile.FieldType)) ∈ lw_all := lw_g (lw_at lw_m7 225 rfl) rfl
theorem q1790 : (Jvm.Cond.methodLink "SettlerColony$Order" (3 : Nat) ({ cls := "SettlerColony$Country", name := "<init>", desc := "(III)V" } : Jvm.MethodName)) ∈ lw_all := lw_g (lw_at lw_m7 226 rfl) rfl
theorem q1791 : (Jvm.Cond.laysFinal "SettlerColony$Order" "SettlerColony$Country" "holder" "I") ∈ lw_all := lw_g (lw_at lw_m7 227 rfl) rfl
theorem q1792 : (Jvm.Cond.laysFinal "SettlerColony$Order" "SettlerColony$Country" "paid" "I") ∈ lw_all := lw_g (lw_at lw_m7 228 rfl) rfl
theorem q1793 : (Jvm.Cond.laysFinal "SettlerColony$Order" "SettlerColony$Country" "law" "I") ∈ lw_all := lw_g (lw_at lw_m7 229 rfl) rfl
theorem q1794 : (Jvm.Cond.superclass "SettlerColony$Order" "SettlerColony$Country") ∈ lw_all := lw_g (lw_at lw_m7 230 rfl) rfl
theorem q2374 : (Jvm.Cond.selects "SettlerColony$Order" ({ cls := "SettlerColony$Country", name := "isBy", desc := "(I)Z" } : Jvm.MethodName) ({ cls := "SettlerColony$Order", name := "isBy", desc := "(I)Z" } : Jvm.MethodName)) ∈ lw_all := lw_g (lw_at lw_m10 90 rfl) rfl
theorem q2375 : (Jvm.Cond.instanceMethod ({ cls := "SettlerColony$Order", name := "isBy", desc := "(I)Z" } : Jvm.MethodName)) ∈ lw_all := lw_g (lw_at lw_m10 91 rfl) rfl
theorem q2376 : (Jvm.Cond.code ({ cls := "SettlerColony$Order", name := "isBy", desc := "(I)Z" } : Jvm.MethodName) prog_21_method_3_code (2 : Nat) (Option.some Jvm.ClassFile.FieldType.boolean)) ∈ lw_all := lw_g (lw_at lw_m10 92 rfl) rfl
theorem q2435 : (Jvm.Cond.unhidden "SettlerColony$Order" "ends" "()Z") ∈ lw_tbl := lw_at lw_m10 151 rfl
theorem q3215 : (Jvm.Cond.selects "SettlerColony$Order" ({ cls := "SettlerColony$Country", name := "holder", desc := "()I" } : Jvm.MethodName) ({ cls := "SettlerColony$Country", name := "holder", desc := "()I" } : Jvm.MethodName)) ∈ lw_all := lw_g (lw_at lw_m13 211 rfl) rfl
theorem q3218 : (Jvm.Cond.selects "SettlerColony$Order" ({ cls := "SettlerColony$Country", name := "paid", desc := "()I" } : Jvm.MethodName) ({ cls := "SettlerColony$Country", name := "paid", desc := "()I" } : Jvm.MethodName)) ∈ lw_all := lw_g (lw_at lw_m13 214 rfl) rfl
theorem q3227 : (Jvm.Cond.castable "SettlerColony$Order" "SettlerColony$Holding") ∈ lw_tbl := lw_at lw_m13 223 rfl
theorem q3233 : (Jvm.Cond.castable "SettlerColony$Order" "SettlerColony$Lot") ∈ lw_tbl := lw_at lw_m13 229 rfl
theorem q3236 : (Jvm.Cond.castable "SettlerColony$Order" "SettlerColony$Country") ∈ lw_tbl := lw_at lw_m13 232 rfl
theorem q3260 : (Jvm.Cond.castable "SettlerColony$Order" "java/lang/Object") ∈ lw_tbl := lw_at lw_m14 16 rfl
theorem in_X15 : ∀ w ∈ wsX150, w ∈ lw_all := lw_in wsX150 [1791, 1792, 1793] (by decide +kernel) (by decide +kernel)
/-! SettlerColony$Run -/
def RX16 : String := "SettlerColony$Run"
def TX16 : u_T := fun k => match k with
  | _ => ("SettlerColony$Run", "holder", "I", true)
def tyX16 : Nat → FieldType := fun k => match k with
  | _ => .int
abbrev wsX160 : List Cond := u_ws RX16 TX16 1
theorem nmX16 : ∀ a, a < 1 → ∀ b, b < 1 → a ≠ b → (TX16 a).2.1 ≠ (TX16 b).2.1 := by decide +kernel
theorem tyX16_ok : ∀ k, k < 1 → parseFieldDescriptor (TX16 k).2.2.1 = some (tyX16 k) := by decide +kernel
abbrev cX16_kind : ByteArray := prog_26_method_2_code
def yX16_kind : MethodName := ⟨RX16, "kind", "()I"⟩
abbrev cX16_holder : ByteArray := prog_26_method_3_code
def yX16_holder : MethodName := ⟨RX16, "holder", "()I"⟩
abbrev cX16_isPasture : ByteArray := prog_26_method_5_code
def yX16_isPasture : MethodName := ⟨RX16, "isPasture", "()Z"⟩
abbrev cX16_init : ByteArray := prog_26_method_1_code
def yX16_init : MethodName := ⟨RX16, "<init>", "(I)V"⟩
abbrev cX16_ends : ByteArray := prog_26_method_4_code
def yX16_ends : MethodName := ⟨RX16, "ends", "()Z"⟩
theorem q165 : (Jvm.Cond.initialized "SettlerColony$Run") ∈ lw_all := lw_g (lw_at lw_m1 41 rfl) rfl
theorem q676 : (Jvm.Cond.selects "SettlerColony$Run" ({ cls := "java/lang/Object", name := "getClass", desc := "()Ljava/lang/Class;" } : Jvm.MethodName) ({ cls := "java/lang/Object", name := "getClass", desc := "()Ljava/lang/Class;" } : Jvm.MethodName)) ∈ lw_all := lw_g (lw_at lw_m3 72 rfl) rfl
theorem q1143 : (Jvm.Cond.selects "SettlerColony$Run" ({ cls := "SettlerColony$Tells", name := "kind", desc := "()I" } : Jvm.MethodName) ({ cls := "SettlerColony$Run", name := "kind", desc := "()I" } : Jvm.MethodName)) ∈ lw_all := lw_g (lw_at lw_m5 59 rfl) rfl
theorem q1144 : (Jvm.Cond.instanceMethod ({ cls := "SettlerColony$Run", name := "kind", desc := "()I" } : Jvm.MethodName)) ∈ lw_all := lw_g (lw_at lw_m5 60 rfl) rfl
theorem q1145 : (Jvm.Cond.code ({ cls := "SettlerColony$Run", name := "kind", desc := "()I" } : Jvm.MethodName) prog_26_method_2_code (1 : Nat) (Option.some Jvm.ClassFile.FieldType.int)) ∈ lw_all := lw_g (lw_at lw_m5 61 rfl) rfl
theorem q1158 : (Jvm.Cond.selects "SettlerColony$Run" ({ cls := "SettlerColony$Holds", name := "holder", desc := "()I" } : Jvm.MethodName) ({ cls := "SettlerColony$Run", name := "holder", desc := "()I" } : Jvm.MethodName)) ∈ lw_all := lw_g (lw_at lw_m5 74 rfl) rfl
theorem q1159 : (Jvm.Cond.instanceMethod ({ cls := "SettlerColony$Run", name := "holder", desc := "()I" } : Jvm.MethodName)) ∈ lw_all := lw_g (lw_at lw_m5 75 rfl) rfl
theorem q1160 : (Jvm.Cond.code ({ cls := "SettlerColony$Run", name := "holder", desc := "()I" } : Jvm.MethodName) prog_26_method_3_code (1 : Nat) (Option.some Jvm.ClassFile.FieldType.int)) ∈ lw_all := lw_g (lw_at lw_m5 76 rfl) rfl
theorem q1206 : (Jvm.Cond.unhidden "SettlerColony$Run" "isFarm" "()Z") ∈ lw_tbl := lw_at lw_m5 122 rfl
theorem q1352 : (Jvm.Cond.unhidden "SettlerColony$Run" "paid" "()I") ∈ lw_tbl := lw_at lw_m6 28 rfl
theorem q1388 : (Jvm.Cond.selects "SettlerColony$Run" ({ cls := "SettlerColony$Tells", name := "isPasture", desc := "()Z" } : Jvm.MethodName) ({ cls := "SettlerColony$Run", name := "isPasture", desc := "()Z" } : Jvm.MethodName)) ∈ lw_all := lw_g (lw_at lw_m6 64 rfl) rfl
theorem q1389 : (Jvm.Cond.instanceMethod ({ cls := "SettlerColony$Run", name := "isPasture", desc := "()Z" } : Jvm.MethodName)) ∈ lw_all := lw_g (lw_at lw_m6 65 rfl) rfl
theorem q1390 : (Jvm.Cond.code ({ cls := "SettlerColony$Run", name := "isPasture", desc := "()Z" } : Jvm.MethodName) prog_26_method_5_code (1 : Nat) (Option.some Jvm.ClassFile.FieldType.boolean)) ∈ lw_all := lw_g (lw_at lw_m6 66 rfl) rfl
theorem q1631 : (Jvm.Cond.selects "SettlerColony$Run" ({ cls := "java/lang/Object", name := "equals", desc := "(Ljava/lang/Object;)Z" } : Jvm.MethodName) ({ cls := "java/lang/Object", name := "equals", desc := "(Ljava/lang/Object;)Z" } : Jvm.MethodName)) ∈ lw_all := lw_g (lw_at lw_m7 67 rfl) rfl
theorem q1805 : (Jvm.Cond.instantiable "SettlerColony$Run" (1 : Nat)) ∈ lw_all := lw_g (lw_at lw_m8 1 rfl) rfl
theorem q1807 : (Jvm.Cond.instanceMethod ({ cls := "SettlerColony$Run", name := "<init>", desc := "(I)V" } : Jvm.MethodName)) ∈ lw_all := lw_g (lw_at lw_m8 3 rfl) rfl
theorem q1808 : (Jvm.Cond.code ({ cls := "SettlerColony$Run", name := "<init>", desc := "(I)V" } : Jvm.MethodName) prog_26_method_1_code (2 : Nat) (Option.none : Option Jvm.ClassFile.FieldType)) ∈ lw_all := lw_g (lw_at lw_m8 4 rfl) rfl
theorem q1809 : (Jvm.Cond.methodLinkNest "SettlerColony$Run" (1 : Nat) ({ cls := "SettlerColony$Lot", name := "<init>", desc := "()V" } : Jvm.MethodName) "SettlerColony") ∈ lw_tbl := lw_at lw_m8 5 rfl
theorem q1810 : (Jvm.Cond.fieldLink "SettlerColony$Run" (7 : Nat) "SettlerColony$Run" "holder" "I") ∈ lw_all := lw_g (lw_at lw_m8 6 rfl) rfl
theorem q1811 : (Jvm.Cond.laysFinal "SettlerColony$Run" "SettlerColony$Run" "holder" "I") ∈ lw_all := lw_g (lw_at lw_m8 7 rfl) rfl
theorem q1812 : (Jvm.Cond.soleField "SettlerColony$Run" "holder") ∈ lw_all := lw_g (lw_at lw_m8 8 rfl) rfl
theorem q1813 : (Jvm.Cond.superclass "SettlerColony$Run" "SettlerColony$Lot") ∈ lw_all := lw_g (lw_at lw_m8 9 rfl) rfl
theorem q2436 : (Jvm.Cond.selects "SettlerColony$Run" ({ cls := "SettlerColony$Ends", name := "ends", desc := "()Z" } : Jvm.MethodName) ({ cls := "SettlerColony$Run", name := "ends", desc := "()Z" } : Jvm.MethodName)) ∈ lw_all := lw_g (lw_at lw_m10 152 rfl) rfl
theorem q2437 : (Jvm.Cond.instanceMethod ({ cls := "SettlerColony$Run", name := "ends", desc := "()Z" } : Jvm.MethodName)) ∈ lw_all := lw_g (lw_at lw_m10 153 rfl) rfl
theorem q2438 : (Jvm.Cond.code ({ cls := "SettlerColony$Run", name := "ends", desc := "()Z" } : Jvm.MethodName) prog_26_method_4_code (1 : Nat) (Option.some Jvm.ClassFile.FieldType.boolean)) ∈ lw_all := lw_g (lw_at lw_m10 154 rfl) rfl
theorem q3207 : (Jvm.Cond.sameMethod "SettlerColony$Run" "SettlerColony$Run" "holder" "()I") ∈ lw_all := lw_g (lw_at lw_m13 203 rfl) rfl
theorem q3208 : (Jvm.Cond.selects "SettlerColony$Run" ({ cls := "SettlerColony$Run", name := "holder", desc := "()I" } : Jvm.MethodName) ({ cls := "SettlerColony$Run", name := "holder", desc := "()I" } : Jvm.MethodName)) ∈ lw_all := lw_g (lw_at lw_m13 204 rfl) rfl
theorem q3228 : (Jvm.Cond.castable "SettlerColony$Run" "SettlerColony$Holding") ∈ lw_tbl := lw_at lw_m13 224 rfl
theorem q3234 : (Jvm.Cond.castable "SettlerColony$Run" "SettlerColony$Lot") ∈ lw_tbl := lw_at lw_m13 230 rfl
theorem q3261 : (Jvm.Cond.castable "SettlerColony$Run" "java/lang/Object") ∈ lw_tbl := lw_at lw_m14 17 rfl
theorem in_X16 : ∀ w ∈ wsX160, w ∈ lw_all := lw_in wsX160 [1811] (by decide +kernel) (by decide +kernel)
/-! SettlerColony$Squat -/
def RX17 : String := "SettlerColony$Squat"
def TX17 : u_T := fun k => match k with
  | _ => ("SettlerColony$Run", "holder", "I", true)
def tyX17 : Nat → FieldType := fun k => match k with
  | _ => .int
abbrev wsX170 : List Cond := u_ws RX17 TX17 1
theorem nmX17 : ∀ a, a < 1 → ∀ b, b < 1 → a ≠ b → (TX17 a).2.1 ≠ (TX17 b).2.1 := by decide +kernel
theorem tyX17_ok : ∀ k, k < 1 → parseFieldDescriptor (TX17 k).2.2.1 = some (tyX17 k) := by decide +kernel
abbrev cX17_kind : ByteArray := prog_28_method_2_code
def yX17_kind : MethodName := ⟨RX17, "kind", "()I"⟩
abbrev cX17_init : ByteArray := prog_28_method_1_code
def yX17_init : MethodName := ⟨RX17, "<init>", "(I)V"⟩
abbrev cX17_ends : ByteArray := prog_28_method_3_code
def yX17_ends : MethodName := ⟨RX17, "ends", "()Z"⟩
theorem q166 : (Jvm.Cond.initialized "SettlerColony$Squat") ∈ lw_all := lw_g (lw_at lw_m1 42 rfl) rfl
theorem q678 : (Jvm.Cond.selects "SettlerColony$Squat" ({ cls := "java/lang/Object", name := "getClass", desc := "()Ljava/lang/Class;" } : Jvm.MethodName) ({ cls := "java/lang/Object", name := "getClass", desc := "()Ljava/lang/Class;" } : Jvm.MethodName)) ∈ lw_all := lw_g (lw_at lw_m3 74 rfl) rfl
theorem q1146 : (Jvm.Cond.selects "SettlerColony$Squat" ({ cls := "SettlerColony$Tells", name := "kind", desc := "()I" } : Jvm.MethodName) ({ cls := "SettlerColony$Squat", name := "kind", desc := "()I" } : Jvm.MethodName)) ∈ lw_all := lw_g (lw_at lw_m5 62 rfl) rfl
theorem q1147 : (Jvm.Cond.instanceMethod ({ cls := "SettlerColony$Squat", name := "kind", desc := "()I" } : Jvm.MethodName)) ∈ lw_all := lw_g (lw_at lw_m5 63 rfl) rfl
theorem q1148 : (Jvm.Cond.code ({ cls := "SettlerColony$Squat", name := "kind", desc := "()I" } : Jvm.MethodName) prog_28_method_2_code (1 : Nat) (Option.some Jvm.ClassFile.FieldType.int)) ∈ lw_all := lw_g (lw_at lw_m5 64 rfl) rfl
theorem q1161 : (Jvm.Cond.selects "SettlerColony$Squat" ({ cls := "SettlerColony$Holds", name := "holder", desc := "()I" } : Jvm.MethodName) ({ cls := "SettlerColony$Run", name := "holder", desc := "()I" } : Jvm.MethodName)) ∈ lw_all := lw_g (lw_at lw_m5 77 rfl) rfl
theorem q1207 : (Jvm.Cond.unhidden "SettlerColony$Squat" "isFarm" "()Z") ∈ lw_tbl := lw_at lw_m5 123 rfl
theorem q1353 : (Jvm.Cond.unhidden "SettlerColony$Squat" "paid" "()I") ∈ lw_tbl := lw_at lw_m6 29 rfl
theorem q1391 : (Jvm.Cond.selects "SettlerColony$Squat" ({ cls := "SettlerColony$Tells", name := "isPasture", desc := "()Z" } : Jvm.MethodName) ({ cls := "SettlerColony$Run", name := "isPasture", desc := "()Z" } : Jvm.MethodName)) ∈ lw_all := lw_g (lw_at lw_m6 67 rfl) rfl
theorem q1633 : (Jvm.Cond.selects "SettlerColony$Squat" ({ cls := "java/lang/Object", name := "equals", desc := "(Ljava/lang/Object;)Z" } : Jvm.MethodName) ({ cls := "java/lang/Object", name := "equals", desc := "(Ljava/lang/Object;)Z" } : Jvm.MethodName)) ∈ lw_all := lw_g (lw_at lw_m7 69 rfl) rfl
theorem q1822 : (Jvm.Cond.instantiable "SettlerColony$Squat" (1 : Nat)) ∈ lw_all := lw_g (lw_at lw_m8 18 rfl) rfl
theorem q1824 : (Jvm.Cond.instanceMethod ({ cls := "SettlerColony$Squat", name := "<init>", desc := "(I)V" } : Jvm.MethodName)) ∈ lw_all := lw_g (lw_at lw_m8 20 rfl) rfl
theorem q1825 : (Jvm.Cond.code ({ cls := "SettlerColony$Squat", name := "<init>", desc := "(I)V" } : Jvm.MethodName) prog_28_method_1_code (2 : Nat) (Option.none : Option Jvm.ClassFile.FieldType)) ∈ lw_all := lw_g (lw_at lw_m8 21 rfl) rfl
theorem q1826 : (Jvm.Cond.methodLink "SettlerColony$Squat" (1 : Nat) ({ cls := "SettlerColony$Run", name := "<init>", desc := "(I)V" } : Jvm.MethodName)) ∈ lw_all := lw_g (lw_at lw_m8 22 rfl) rfl
theorem q1827 : (Jvm.Cond.laysFinal "SettlerColony$Squat" "SettlerColony$Run" "holder" "I") ∈ lw_all := lw_g (lw_at lw_m8 23 rfl) rfl
theorem q1828 : (Jvm.Cond.superclass "SettlerColony$Squat" "SettlerColony$Run") ∈ lw_all := lw_g (lw_at lw_m8 24 rfl) rfl
theorem q2439 : (Jvm.Cond.selects "SettlerColony$Squat" ({ cls := "SettlerColony$Ends", name := "ends", desc := "()Z" } : Jvm.MethodName) ({ cls := "SettlerColony$Squat", name := "ends", desc := "()Z" } : Jvm.MethodName)) ∈ lw_all := lw_g (lw_at lw_m10 155 rfl) rfl
theorem q2440 : (Jvm.Cond.instanceMethod ({ cls := "SettlerColony$Squat", name := "ends", desc := "()Z" } : Jvm.MethodName)) ∈ lw_all := lw_g (lw_at lw_m10 156 rfl) rfl
theorem q2441 : (Jvm.Cond.code ({ cls := "SettlerColony$Squat", name := "ends", desc := "()Z" } : Jvm.MethodName) prog_28_method_3_code (1 : Nat) (Option.some Jvm.ClassFile.FieldType.boolean)) ∈ lw_all := lw_g (lw_at lw_m10 157 rfl) rfl
theorem q3209 : (Jvm.Cond.selects "SettlerColony$Squat" ({ cls := "SettlerColony$Run", name := "holder", desc := "()I" } : Jvm.MethodName) ({ cls := "SettlerColony$Run", name := "holder", desc := "()I" } : Jvm.MethodName)) ∈ lw_all := lw_g (lw_at lw_m13 205 rfl) rfl
theorem q3229 : (Jvm.Cond.castable "SettlerColony$Squat" "SettlerColony$Holding") ∈ lw_tbl := lw_at lw_m13 225 rfl
theorem q3231 : (Jvm.Cond.castable "SettlerColony$Squat" "SettlerColony$Run") ∈ lw_tbl := lw_at lw_m13 227 rfl
theorem q3235 : (Jvm.Cond.castable "SettlerColony$Squat" "SettlerColony$Lot") ∈ lw_tbl := lw_at lw_m13 231 rfl
theorem q3262 : (Jvm.Cond.castable "SettlerColony$Squat" "java/lang/Object") ∈ lw_tbl := lw_at lw_m14 18 rfl
theorem in_X17 : ∀ w ∈ wsX170, w ∈ lw_all := lw_in wsX170 [1827] (by decide +kernel) (by decide +kernel)
/-! SettlerColony$Reader -/
def RX18 : String := "SettlerColony$Reader"
def TX18 : u_T := fun k => match k with
  | 0 => ("SettlerColony$Reader", "text", "[B", true)
  | 1 => ("SettlerColony$Reader", "size", "I", true)
  | 2 => ("SettlerColony$Reader", "next", "I", false)
  | _ => ("SettlerColony$Reader", "open", "I", false)
def tyX18 : Nat → FieldType := fun k => match k with
  | 0 => .array .byte
  | 1 => .int
  | 2 => .int
  | _ => .int
abbrev wsX180 : List Cond := u_ws RX18 TX18 4
theorem nmX18 : ∀ a, a < 4 → ∀ b, b < 4 → a ≠ b → (TX18 a).2.1 ≠ (TX18 b).2.1 := by decide +kernel
theorem tyX18_ok : ∀ k, k < 4 → parseFieldDescriptor (TX18 k).2.2.1 = some (tyX18 k) := by decide +kernel
abbrev cX18_init : ByteArray := prog_25_method_1_code
def yX18_init : MethodName := ⟨RX18, "<init>", "([BI)V"⟩
abbrev cX18_law : ByteArray := prog_25_method_9_code
def yX18_law : MethodName := ⟨RX18, "law", "()LSettlerColony$Text;"⟩
abbrev cX18_sign : ByteArray := prog_25_method_2_code
def yX18_sign : MethodName := ⟨RX18, "sign", "()I"⟩
abbrev cX18_word : ByteArray := prog_25_method_3_code
def yX18_word : MethodName := ⟨RX18, "word", "()Ljava/lang/String;"⟩
abbrev cX18_nameOf : ByteArray := prog_25_method_11_code
def yX18_nameOf : MethodName := ⟨RX18, "nameOf", "(Ljava/lang/String;)I"⟩
abbrev cX18_wrong : ByteArray := prog_25_method_5_code
def yX18_wrong : MethodName := ⟨RX18, "wrong", "()LSettlerColony$Wrong;"⟩
abbrev cX18_undo : ByteArray := prog_25_method_10_code
def yX18_undo : MethodName := ⟨RX18, "undo", "(LSettlerColony$Text;)V"⟩
abbrev cX18_takes : ByteArray := prog_25_method_4_code
def yX18_takes : MethodName := ⟨RX18, "takes", "(Ljava/lang/String;)Z"⟩
abbrev cX18_need : ByteArray := prog_25_method_6_code
def yX18_need : MethodName := ⟨RX18, "need", "(I)V"⟩
abbrev cX18_expr : ByteArray := prog_25_method_12_code
def yX18_expr : MethodName := ⟨RX18, "expr", "()LSettlerColony$Expr;"⟩
abbrev cX18_term : ByteArray := prog_25_method_13_code
def yX18_term : MethodName := ⟨RX18, "term", "()LSettlerColony$Expr;"⟩
abbrev cX18_unit : ByteArray := prog_25_method_14_code
def yX18_unit : MethodName := ⟨RX18, "unit", "()LSettlerColony$Expr;"⟩
abbrev cX18_number : ByteArray := prog_25_method_15_code
def yX18_number : MethodName := ⟨RX18, "number", "()LSettlerColony$Expr;"⟩
abbrev cX18_opens : ByteArray := prog_25_method_7_code
def yX18_opens : MethodName := ⟨RX18, "opens", "(I)V"⟩
abbrev cX18_closes : ByteArray := prog_25_method_8_code
def yX18_closes : MethodName := ⟨RX18, "closes", "(I)V"⟩
abbrev cX18_bound : ByteArray := prog_25_method_17_code
def yX18_bound : MethodName := ⟨RX18, "bound", "(Z)LSettlerColony$Expr;"⟩
abbrev cX18_bracket : ByteArray := prog_25_method_16_code
def yX18_bracket : MethodName := ⟨RX18, "bracket", "()V"⟩
abbrev cX18_choice : ByteArray := prog_25_method_18_code
def yX18_choice : MethodName := ⟨RX18, "choice", "()LSettlerColony$Expr;"⟩
abbrev cX18_any : ByteArray := prog_25_method_19_code
def yX18_any : MethodName := ⟨RX18, "any", "()LSettlerColony$Cond;"⟩
abbrev cX18_all : ByteArray := prog_25_method_20_code
def yX18_all : MethodName := ⟨RX18, "all", "()LSettlerColony$Cond;"⟩
abbrev cX18_one : ByteArray := prog_25_method_21_code
def yX18_one : MethodName := ⟨RX18, "one", "()LSettlerColony$Cond;"⟩
theorem q167 : (Jvm.Cond.initialized "SettlerColony$Reader") ∈ lw_all := lw_g (lw_at lw_m1 43 rfl) rfl
theorem q675 : (Jvm.Cond.selects "SettlerColony$Reader" ({ cls := "java/lang/Object", name := "getClass", desc := "()Ljava/lang/Class;" } : Jvm.MethodName) ({ cls := "java/lang/Object", name := "getClass", desc := "()Ljava/lang/Class;" } : Jvm.MethodName)) ∈ lw_all := lw_g (lw_at lw_m3 71 rfl) rfl
theorem q1630 : (Jvm.Cond.selects "SettlerColony$Reader" ({ cls := "java/lang/Object", name := "equals", desc := "(Ljava/lang/Object;)Z" } : Jvm.MethodName) ({ cls := "java/lang/Object", name := "equals", desc := "(Ljava/lang/Object;)Z" } : Jvm.MethodName)) ∈ lw_all := lw_g (lw_at lw_m7 66 rfl) rfl
theorem q1856 : (Jvm.Cond.instantiable "SettlerColony$Reader" (4 : Nat)) ∈ lw_all := lw_g (lw_at lw_m8 52 rfl) rfl
theorem q1858 : (Jvm.Cond.instanceMethod ({ cls := "SettlerColony$Reader", name := "<init>", desc := "([BI)V" } : Jvm.MethodName)) ∈ lw_all := lw_g (lw_at lw_m8 54 rfl) rfl
theorem q1859 : (Jvm.Cond.code ({ cls := "SettlerColony$Reader", name := "<init>", desc := "([BI)V" } : Jvm.MethodName) prog_25_method_1_code (3 : Nat) (Option.none : Option Jvm.ClassFile.FieldType)) ∈ lw_all := lw_g (lw_at lw_m8 55 rfl) rfl
theorem q1860 : (Jvm.Cond.methodLink "SettlerColony$Reader" (3 : Nat) ({ cls := "java/lang/Object", name := "<init>", desc := "()V" } : Jvm.MethodName)) ∈ lw_all := lw_g (lw_at lw_m8 56 rfl) rfl
theorem q1861 : (Jvm.Cond.fieldLink "SettlerColony$Reader" (9 : Nat) "SettlerColony$Reader" "text" "[B") ∈ lw_all := lw_g (lw_at lw_m8 57 rfl) rfl
theorem q1862 : (Jvm.Cond.fieldLink "SettlerColony$Reader" (15 : Nat) "SettlerColony$Reader" "size" "I") ∈ lw_all := lw_g (lw_at lw_m8 58 rfl) rfl
theorem q1863 : (Jvm.Cond.fieldLink "SettlerColony$Reader" (19 : Nat) "SettlerColony$Reader" "next" "I") ∈ lw_all := lw_g (lw_at lw_m8 59 rfl) rfl
theorem q1864 : (Jvm.Cond.fieldLink "SettlerColony$Reader" (59 : Nat) "SettlerColony$Reader" "open" "I") ∈ lw_all := lw_g (lw_at lw_m8 60 rfl) rfl
theorem q1865 : (Jvm.Cond.laysFinal "SettlerColony$Reader" "SettlerColony$Reader" "text" "[B") ∈ lw_all := lw_g (lw_at lw_m8 61 rfl) rfl
theorem q1866 : (Jvm.Cond.soleField "SettlerColony$Reader" "text") ∈ lw_all := lw_g (lw_at lw_m8 62 rfl) rfl
theorem q1867 : (Jvm.Cond.laysFinal "SettlerColony$Reader" "SettlerColony$Reader" "size" "I") ∈ lw_all := lw_g (lw_at lw_m8 63 rfl) rfl
theorem q1868 : (Jvm.Cond.soleField "SettlerColony$Reader" "size") ∈ lw_all := lw_g (lw_at lw_m8 64 rfl) rfl
theorem q1869 : (Jvm.Cond.lays "SettlerColony$Reader" "SettlerColony$Reader" "next" "I") ∈ lw_all := lw_g (lw_at lw_m8 65 rfl) rfl
theorem q1870 : (Jvm.Cond.soleField "SettlerColony$Reader" "next") ∈ lw_all := lw_g (lw_at lw_m8 66 rfl) rfl
theorem q1871 : (Jvm.Cond.lays "SettlerColony$Reader" "SettlerColony$Reader" "open" "I") ∈ lw_all := lw_g (lw_at lw_m8 67 rfl) rfl
theorem q1872 : (Jvm.Cond.soleField "SettlerColony$Reader" "open") ∈ lw_all := lw_g (lw_at lw_m8 68 rfl) rfl
theorem q1873 : (Jvm.Cond.superclass "SettlerColony$Reader" "java/lang/Object") ∈ lw_all := lw_g (lw_at lw_m8 69 rfl) rfl
theorem q1875 : (Jvm.Cond.instanceMethod ({ cls := "SettlerColony$Reader", name := "law", desc := "()LSettlerColony$Text;" } : Jvm.MethodName)) ∈ lw_all := lw_g (lw_at lw_m8 71 rfl) rfl
theorem q1876 : (Jvm.Cond.selects "SettlerColony$Reader" ({ cls := "SettlerColony$Reader", name := "law", desc := "()LSettlerColony$Text;" } : Jvm.MethodName) ({ cls := "SettlerColony$Reader", name := "law", desc := "()LSettlerColony$Text;" } : Jvm.MethodName)) ∈ lw_all := lw_g (lw_at lw_m8 72 rfl) rfl
theorem q1877 : (Jvm.Cond.code ({ cls := "SettlerColony$Reader", name := "law", desc := "()LSettlerColony$Text;" } : Jvm.MethodName) prog_25_method_9_code (5 : Nat) (Option.some (Jvm.ClassFile.FieldType.object "SettlerColony$Text"))) ∈ lw_all := lw_g (lw_at lw_m8 73 rfl) rfl
theorem q1878 : (Jvm.Cond.classLink "SettlerColony$Reader" (66 : Nat) "SettlerColony$Text") ∈ lw_all := lw_g (lw_at lw_m8 74 rfl) rfl
theorem q1880 : (Jvm.Cond.methodLinkNest "SettlerColony$Reader" (68 : Nat) ({ cls := "SettlerColony$Text", name := "<init>", desc := "()V" } : Jvm.MethodName) "SettlerColony") ∈ lw_tbl := lw_at lw_m8 76 rfl
theorem q1887 : (Jvm.Cond.fieldLinkNest "SettlerColony$Reader" (78 : Nat) "SettlerColony$Text" "told" "[LSettlerColony$Expr;" "SettlerColony") ∈ lw_tbl := lw_at lw_m8 83 rfl
theorem q1889 : (Jvm.Cond.fieldLinkNest "SettlerColony$Reader" (92 : Nat) "SettlerColony$Text" "falls" "Z" "SettlerColony") ∈ lw_tbl := lw_at lw_m8 85 rfl
theorem q1896 : (Jvm.Cond.methodLink "SettlerColony$Reader" (22 : Nat) ({ cls := "SettlerColony$Reader", name := "sign", desc := "()I" } : Jvm.MethodName)) ∈ lw_all := lw_g (lw_at lw_m8 92 rfl) rfl
theorem q1897 : (Jvm.Cond.privateMethod ({ cls := "SettlerColony$Reader", name := "sign", desc := "()I" } : Jvm.MethodName)) ∈ lw_tbl := lw_at lw_m8 93 rfl
theorem q1898 : (Jvm.Cond.instanceMethod ({ cls := "SettlerColony$Reader", name := "sign", desc := "()I" } : Jvm.MethodName)) ∈ lw_all := lw_g (lw_at lw_m8 94 rfl) rfl
theorem q1899 : (Jvm.Cond.code ({ cls := "SettlerColony$Reader", name := "sign", desc := "()I" } : Jvm.MethodName) prog_25_method_2_code (1 : Nat) (Option.some Jvm.ClassFile.FieldType.int)) ∈ lw_all := lw_g (lw_at lw_m8 95 rfl) rfl
theorem q1900 : (Jvm.Cond.methodLink "SettlerColony$Reader" (40 : Nat) ({ cls := "SettlerColony$Reader", name := "word", desc := "()Ljava/lang/String;" } : Jvm.MethodName)) ∈ lw_all := lw_g (lw_at lw_m8 96 rfl) rfl
theorem q1901 : (Jvm.Cond.privateMethod ({ cls := "SettlerColony$Reader", name := "word", desc := "()Ljava/lang/String;" } : Jvm.MethodName)) ∈ lw_tbl := lw_at lw_m8 97 rfl
theorem q1902 : (Jvm.Cond.instanceMethod ({ cls := "SettlerColony$Reader", name := "word", desc := "()Ljava/lang/String;" } : Jvm.MethodName)) ∈ lw_all := lw_g (lw_at lw_m8 98 rfl) rfl
theorem q1903 : (Jvm.Cond.code ({ cls := "SettlerColony$Reader", name := "word", desc := "()Ljava/lang/String;" } : Jvm.MethodName) prog_25_method_3_code (3 : Nat) (Option.some (Jvm.ClassFile.FieldType.object "java/lang/String"))) ∈ lw_all := lw_g (lw_at lw_m8 99 rfl) rfl
theorem q1904 : (Jvm.Cond.classLink "SettlerColony$Reader" (26 : Nat) "java/lang/StringBuilder") ∈ lw_all := lw_g (lw_at lw_m8 100 rfl) rfl
theorem q1905 : (Jvm.Cond.methodLink "SettlerColony$Reader" (28 : Nat) ({ cls := "java/lang/StringBuilder", name := "<init>", desc := "()V" } : Jvm.MethodName)) ∈ lw_all := lw_g (lw_at lw_m8 101 rfl) rfl
theorem q1906 : (Jvm.Cond.methodLink "SettlerColony$Reader" (29 : Nat) ({ cls := "java/lang/StringBuilder", name := "length", desc := "()I" } : Jvm.MethodName)) ∈ lw_all := lw_g (lw_at lw_m8 102 rfl) rfl
theorem q1907 : (Jvm.Cond.methodLink "SettlerColony$Reader" (32 : Nat) ({ cls := "java/lang/StringBuilder", name := "append", desc := "(C)Ljava/lang/StringBuilder;" } : Jvm.MethodName)) ∈ lw_all := lw_g (lw_at lw_m8 103 rfl) rfl
theorem q1927 : (Jvm.Cond.methodLink "SettlerColony$Reader" (36 : Nat) ({ cls := "java/lang/StringBuilder", name := "toString", desc := "()Ljava/lang/String;" } : Jvm.MethodName)) ∈ lw_all := lw_g (lw_at lw_m8 123 rfl) rfl
theorem q1928 : (Jvm.Cond.methodLink "SettlerColony$Reader" (69 : Nat) ({ cls := "SettlerColony$Reader", name := "nameOf", desc := "(Ljava/lang/String;)I" } : Jvm.MethodName)) ∈ lw_all := lw_g (lw_at lw_m8 124 rfl) rfl
theorem q1929 : (Jvm.Cond.static ({ cls := "SettlerColony$Reader", name := "nameOf", desc := "(Ljava/lang/String;)I" } : Jvm.MethodName)) ∈ lw_all := lw_g (lw_at lw_m8 125 rfl) rfl
theorem q1930 : (Jvm.Cond.code ({ cls := "SettlerColony$Reader", name := "nameOf", desc := "(Ljava/lang/String;)I" } : Jvm.MethodName) prog_25_method_11_code (3 : Nat) (Option.some Jvm.ClassFile.FieldType.int)) ∈ lw_all := lw_g (lw_at lw_m8 126 rfl) rfl
theorem q1931 : (Jvm.Cond.methodLink "SettlerColony$Reader" (98 : Nat) ({ cls := "java/lang/String", name := "hashCode", desc := "()I" } : Jvm.MethodName)) ∈ lw_all := lw_g (lw_at lw_m8 127 rfl) rfl
theorem q1992 : (Jvm.Cond.stringRef "SettlerColony$Reader" (101 : Nat) "price") ∈ lw_tbl := lw_at lw_m8 188 rfl
theorem q1993 : (Jvm.Cond.methodLink "SettlerColony$Reader" (43 : Nat) ({ cls := "java/lang/String", name := "equals", desc := "(Ljava/lang/Object;)Z" } : Jvm.MethodName)) ∈ lw_all := lw_g (lw_at lw_m8 189 rfl) rfl
theorem q1994 : (Jvm.Cond.stringRef "SettlerColony$Reader" (103 : Nat) "share") ∈ lw_tbl := lw_at lw_m8 190 rfl
theorem q1995 : (Jvm.Cond.stringRef "SettlerColony$Reader" (105 : Nat) "wage") ∈ lw_tbl := lw_at lw_m8 191 rfl
theorem q1996 : (Jvm.Cond.stringRef "SettlerColony$Reader" (107 : Nat) "run") ∈ lw_tbl := lw_at lw_m8 192 rfl
theorem q1997 : (Jvm.Cond.stringRef "SettlerColony$Reader" (109 : Nat) "fine") ∈ lw_tbl := lw_at lw_m8 193 rfl
theorem q1998 : (Jvm.Cond.stringRef "SettlerColony$Reader" (111 : Nat) "votes") ∈ lw_tbl := lw_at lw_m8 194 rfl
theorem q1999 : (Jvm.Cond.stringRef "SettlerColony$Reader" (113 : Nat) "choice") ∈ lw_tbl := lw_at lw_m8 195 rfl
theorem q2000 : (Jvm.Cond.stringRef "SettlerColony$Reader" (115 : Nat) "squat") ∈ lw_tbl := lw_at lw_m8 196 rfl
theorem q2001 : (Jvm.Cond.stringRef "SettlerColony$Reader" (73 : Nat) "undo") ∈ lw_tbl := lw_at lw_m8 197 rfl
theorem q2002 : (Jvm.Cond.methodLink "SettlerColony$Reader" (55 : Nat) ({ cls := "SettlerColony$Reader", name := "wrong", desc := "()LSettlerColony$Wrong;" } : Jvm.MethodName)) ∈ lw_all := lw_g (lw_at lw_m8 198 rfl) rfl
theorem q2003 : (Jvm.Cond.privateMethod ({ cls := "SettlerColony$Reader", name := "wrong", desc := "()LSettlerColony$Wrong;" } : Jvm.MethodName)) ∈ lw_tbl := lw_at lw_m8 199 rfl
theorem q2004 : (Jvm.Cond.instanceMethod ({ cls := "SettlerColony$Reader", name := "wrong", desc := "()LSettlerColony$Wrong;" } : Jvm.MethodName)) ∈ lw_all := lw_g (lw_at lw_m8 200 rfl) rfl
theorem q2005 : (Jvm.Cond.code ({ cls := "SettlerColony$Reader", name := "wrong", desc := "()LSettlerColony$Wrong;" } : Jvm.MethodName) prog_25_method_5_code (1 : Nat) (Option.some (Jvm.ClassFile.FieldType.object "SettlerColony$Wrong"))) ∈ lw_all := lw_g (lw_at lw_m8 201 rfl) rfl
theorem q2006 : (Jvm.Cond.classLink "SettlerColony$Reader" (50 : Nat) "SettlerColony$Wrong") ∈ lw_all := lw_g (lw_at lw_m8 202 rfl) rfl
theorem q2015 : (Jvm.Cond.methodLink "SettlerColony$Reader" (52 : Nat) ({ cls := "SettlerColony$Wrong", name := "<init>", desc := "(II)V" } : Jvm.MethodName)) ∈ lw_all := lw_g (lw_at lw_m8 211 rfl) rfl
theorem q2034 : (Jvm.Cond.methodLink "SettlerColony$Reader" (49 : Nat) ({ cls := "java/lang/String", name := "length", desc := "()I" } : Jvm.MethodName)) ∈ lw_all := lw_g (lw_at lw_m8 230 rfl) rfl
theorem q2035 : (Jvm.Cond.methodLink "SettlerColony$Reader" (75 : Nat) ({ cls := "SettlerColony$Reader", name := "undo", desc := "(LSettlerColony$Text;)V" } : Jvm.MethodName)) ∈ lw_all := lw_g (lw_at lw_m8 231 rfl) rfl
theorem q2036 : (Jvm.Cond.privateMethod ({ cls := "SettlerColony$Reader", name := "undo", desc := "(LSettlerColony$Text;)V" } : Jvm.MethodName)) ∈ lw_tbl := lw_at lw_m8 232 rfl
theorem q2037 : (Jvm.Cond.instanceMethod ({ cls := "SettlerColony$Reader", name := "undo", desc := "(LSettlerColony$Text;)V" } : Jvm.MethodName)) ∈ lw_all := lw_g (lw_at lw_m8 233 rfl) rfl
theorem q2038 : (Jvm.Cond.code ({ cls := "SettlerColony$Reader", name := "undo", desc := "(LSettlerColony$Text;)V" } : Jvm.MethodName) prog_25_method_10_code (2 : Nat) (Option.none : Option Jvm.ClassFile.FieldType)) ∈ lw_all := lw_g (lw_at lw_m8 234 rfl) rfl
theorem q2039 : (Jvm.Cond.stringRef "SettlerColony$Reader" (86 : Nat) "fall") ∈ lw_tbl := lw_at lw_m8 235 rfl
theorem q2040 : (Jvm.Cond.methodLink "SettlerColony$Reader" (88 : Nat) ({ cls := "SettlerColony$Reader", name := "takes", desc := "(Ljava/lang/String;)Z" } : Jvm.MethodName)) ∈ lw_all := lw_g (lw_at lw_m8 236 rfl) rfl
theorem q2041 : (Jvm.Cond.privateMethod ({ cls := "SettlerColony$Reader", name := "takes", desc := "(Ljava/lang/String;)Z" } : Jvm.MethodName)) ∈ lw_tbl := lw_at lw_m8 237 rfl
theorem q2042 : (Jvm.Cond.instanceMethod ({ cls := "SettlerColony$Reader", name := "takes", desc := "(Ljava/lang/String;)Z" } : Jvm.MethodName)) ∈ lw_all := lw_g (lw_at lw_m8 238 rfl) rfl
theorem q2043 : (Jvm.Cond.code ({ cls := "SettlerColony$Reader", name := "takes", desc := "(Ljava/lang/String;)Z" } : Jvm.MethodName) prog_25_method_4_code (2 : Nat) (Option.some Jvm.ClassFile.FieldType.boolean)) ∈ lw_all := lw_g (lw_at lw_m8 239 rfl) rfl
theorem q2044 : (Jvm.Cond.stringRef "SettlerColony$Reader" (96 : Nat) "stand") ∈ lw_tbl := lw_at lw_m9 0 rfl
theorem q2045 : (Jvm.Cond.methodLink "SettlerColony$Reader" (62 : Nat) ({ cls := "SettlerColony$Reader", name := "need", desc := "(I)V" } : Jvm.MethodName)) ∈ lw_all := lw_g (lw_at lw_m9 1 rfl) rfl
theorem q2046 : (Jvm.Cond.privateMethod ({ cls := "SettlerColony$Reader", name := "need", desc := "(I)V" } : Jvm.MethodName)) ∈ lw_tbl := lw_at lw_m9 2 rfl
theorem q2047 : (Jvm.Cond.instanceMethod ({ cls := "SettlerColony$Reader", name := "need", desc := "(I)V" } : Jvm.MethodName)) ∈ lw_all := lw_g (lw_at lw_m9 3 rfl) rfl
theorem q2048 : (Jvm.Cond.code ({ cls := "SettlerColony$Reader", name := "need", desc := "(I)V" } : Jvm.MethodName) prog_25_method_6_code (2 : Nat) (Option.none : Option Jvm.ClassFile.FieldType)) ∈ lw_all := lw_g (lw_at lw_m9 4 rfl) rfl
theorem q2049 : (Jvm.Cond.methodLink "SettlerColony$Reader" (82 : Nat) ({ cls := "SettlerColony$Reader", name := "expr", desc := "()LSettlerColony$Expr;" } : Jvm.MethodName)) ∈ lw_all := lw_g (lw_at lw_m9 5 rfl) rfl
theorem q2050 : (Jvm.Cond.privateMethod ({ cls := "SettlerColony$Reader", name := "expr", desc := "()LSettlerColony$Expr;" } : Jvm.MethodName)) ∈ lw_tbl := lw_at lw_m9 6 rfl
theorem q2051 : (Jvm.Cond.instanceMethod ({ cls := "SettlerColony$Reader", name := "expr", desc := "()LSettlerColony$Expr;" } : Jvm.MethodName)) ∈ lw_all := lw_g (lw_at lw_m9 7 rfl) rfl
theorem q2052 : (Jvm.Cond.code ({ cls := "SettlerColony$Reader", name := "expr", desc := "()LSettlerColony$Expr;" } : Jvm.MethodName) prog_25_method_12_code (3 : Nat) (Option.some (Jvm.ClassFile.FieldType.object "SettlerColony$Expr"))) ∈ lw_all := lw_g (lw_at lw_m9 8 rfl) rfl
theorem q2053 : (Jvm.Cond.methodLink "SettlerColony$Reader" (117 : Nat) ({ cls := "SettlerColony$Reader", name := "term", desc := "()LSettlerColony$Expr;" } : Jvm.MethodName)) ∈ lw_all := lw_g (lw_at lw_m9 9 rfl) rfl
theorem q2054 : (Jvm.Cond.privateMethod ({ cls := "SettlerColony$Reader", name := "term", desc := "()LSettlerColony$Expr;" } : Jvm.MethodName)) ∈ lw_tbl := lw_at lw_m9 10 rfl
theorem q2055 : (Jvm.Cond.instanceMethod ({ cls := "SettlerColony$Reader", name := "term", desc := "()LSettlerColony$Expr;" } : Jvm.MethodName)) ∈ lw_all := lw_g (lw_at lw_m9 11 rfl) rfl
theorem q2056 : (Jvm.Cond.code ({ cls := "SettlerColony$Reader", name := "term", desc := "()LSettlerColony$Expr;" } : Jvm.MethodName) prog_25_method_13_code (3 : Nat) (Option.some (Jvm.ClassFile.FieldType.object "SettlerColony$Expr"))) ∈ lw_all := lw_g (lw_at lw_m9 12 rfl) rfl
theorem q2057 : (Jvm.Cond.methodLink "SettlerColony$Reader" (125 : Nat) ({ cls := "SettlerColony$Reader", name := "unit", desc := "()LSettlerColony$Expr;" } : Jvm.MethodName)) ∈ lw_all := lw_g (lw_at lw_m9 13 rfl) rfl
theorem q2058 : (Jvm.Cond.privateMethod ({ cls := "SettlerColony$Reader", name := "unit", desc := "()LSettlerColony$Expr;" } : Jvm.MethodName)) ∈ lw_tbl := lw_at lw_m9 14 rfl
theorem q2059 : (Jvm.Cond.instanceMethod ({ cls := "SettlerColony$Reader", name := "unit", desc := "()LSettlerColony$Expr;" } : Jvm.MethodName)) ∈ lw_all := lw_g (lw_at lw_m9 15 rfl) rfl
theorem q2060 : (Jvm.Cond.code ({ cls := "SettlerColony$Reader", name := "unit", desc := "()LSettlerColony$Expr;" } : Jvm.MethodName) prog_25_method_14_code (5 : Nat) (Option.some (Jvm.ClassFile.FieldType.object "SettlerColony$Expr"))) ∈ lw_all := lw_g (lw_at lw_m9 16 rfl) rfl
theorem q2061 : (Jvm.Cond.methodLink "SettlerColony$Reader" (128 : Nat) ({ cls := "SettlerColony$Reader", name := "number", desc := "()LSettlerColony$Expr;" } : Jvm.MethodName)) ∈ lw_all := lw_g (lw_at lw_m9 17 rfl) rfl
theorem q2062 : (Jvm.Cond.privateMethod ({ cls := "SettlerColony$Reader", name := "number", desc := "()LSettlerColony$Expr;" } : Jvm.MethodName)) ∈ lw_tbl := lw_at lw_m9 18 rfl
theorem q2063 : (Jvm.Cond.instanceMethod ({ cls := "SettlerColony$Reader", name := "number", desc := "()LSettlerColony$Expr;" } : Jvm.MethodName)) ∈ lw_all := lw_g (lw_at lw_m9 19 rfl) rfl
theorem q2064 : (Jvm.Cond.code ({ cls := "SettlerColony$Reader", name := "number", desc := "()LSettlerColony$Expr;" } : Jvm.MethodName) prog_25_method_15_code (3 : Nat) (Option.some (Jvm.ClassFile.FieldType.object "SettlerColony$Expr"))) ∈ lw_all := lw_g (lw_at lw_m9 20 rfl) rfl
theorem q2065 : (Jvm.Cond.methodLink "SettlerColony$Reader" (168 : Nat) ({ cls := "java/lang/Math", name := "min", desc := "(II)I" } : Jvm.MethodName)) ∈ lw_all := lw_g (lw_at lw_m9 21 rfl) rfl
theorem q2066 : (Jvm.Cond.classLink "SettlerColony$Reader" (174 : Nat) "SettlerColony$Number") ∈ lw_all := lw_g (lw_at lw_m9 22 rfl) rfl
theorem q2068 : (Jvm.Cond.methodLink "SettlerColony$Reader" (176 : Nat) ({ cls := "SettlerColony$Number", name := "<init>", desc := "(I)V" } : Jvm.MethodName)) ∈ lw_all := lw_g (lw_at lw_m9 24 rfl) rfl
theorem q2079 : (Jvm.Cond.methodLink "SettlerColony$Reader" (131 : Nat) ({ cls := "SettlerColony$Reader", name := "opens", desc := "(I)V" } : Jvm.MethodName)) ∈ lw_all := lw_g (lw_at lw_m9 35 rfl) rfl
theorem q2080 : (Jvm.Cond.privateMethod ({ cls := "SettlerColony$Reader", name := "opens", desc := "(I)V" } : Jvm.MethodName)) ∈ lw_tbl := lw_at lw_m9 36 rfl
theorem q2081 : (Jvm.Cond.instanceMethod ({ cls := "SettlerColony$Reader", name := "opens", desc := "(I)V" } : Jvm.MethodName)) ∈ lw_all := lw_g (lw_at lw_m9 37 rfl) rfl
theorem q2082 : (Jvm.Cond.code ({ cls := "SettlerColony$Reader", name := "opens", desc := "(I)V" } : Jvm.MethodName) prog_25_method_7_code (2 : Nat) (Option.none : Option Jvm.ClassFile.FieldType)) ∈ lw_all := lw_g (lw_at lw_m9 38 rfl) rfl
theorem q2083 : (Jvm.Cond.methodLink "SettlerColony$Reader" (134 : Nat) ({ cls := "SettlerColony$Reader", name := "closes", desc := "(I)V" } : Jvm.MethodName)) ∈ lw_all := lw_g (lw_at lw_m9 39 rfl) rfl
theorem q2084 : (Jvm.Cond.privateMethod ({ cls := "SettlerColony$Reader", name := "closes", desc := "(I)V" } : Jvm.MethodName)) ∈ lw_tbl := lw_at lw_m9 40 rfl
theorem q2085 : (Jvm.Cond.instanceMethod ({ cls := "SettlerColony$Reader", name := "closes", desc := "(I)V" } : Jvm.MethodName)) ∈ lw_all := lw_g (lw_at lw_m9 41 rfl) rfl
theorem q2086 : (Jvm.Cond.code ({ cls := "SettlerColony$Reader", name := "closes", desc := "(I)V" } : Jvm.MethodName) prog_25_method_8_code (2 : Nat) (Option.none : Option Jvm.ClassFile.FieldType)) ∈ lw_all := lw_g (lw_at lw_m9 42 rfl) rfl
theorem q2087 : (Jvm.Cond.stringRef "SettlerColony$Reader" (137 : Nat) "week") ∈ lw_tbl := lw_at lw_m9 43 rfl
theorem q2088 : (Jvm.Cond.stringRef "SettlerColony$Reader" (139 : Nat) "year") ∈ lw_tbl := lw_at lw_m9 44 rfl
theorem q2089 : (Jvm.Cond.stringRef "SettlerColony$Reader" (141 : Nat) "sold") ∈ lw_tbl := lw_at lw_m9 45 rfl
theorem q2090 : (Jvm.Cond.stringRef "SettlerColony$Reader" (143 : Nat) "people") ∈ lw_tbl := lw_at lw_m9 46 rfl
theorem q2091 : (Jvm.Cond.stringRef "SettlerColony$Reader" (145 : Nat) "soil") ∈ lw_tbl := lw_at lw_m9 47 rfl
theorem q2092 : (Jvm.Cond.stringRef "SettlerColony$Reader" (147 : Nat) "least") ∈ lw_tbl := lw_at lw_m9 48 rfl
theorem q2093 : (Jvm.Cond.stringRef "SettlerColony$Reader" (149 : Nat) "most") ∈ lw_tbl := lw_at lw_m9 49 rfl
theorem q2094 : (Jvm.Cond.stringRef "SettlerColony$Reader" (151 : Nat) "if") ∈ lw_tbl := lw_at lw_m9 50 rfl
theorem q2095 : (Jvm.Cond.classLink "SettlerColony$Reader" (153 : Nat) "SettlerColony$Name") ∈ lw_all := lw_g (lw_at lw_m9 51 rfl) rfl
theorem q2097 : (Jvm.Cond.methodLink "SettlerColony$Reader" (155 : Nat) ({ cls := "java/lang/String", name := "charAt", desc := "(I)C" } : Jvm.MethodName)) ∈ lw_all := lw_g (lw_at lw_m9 53 rfl) rfl
theorem q2108 : (Jvm.Cond.methodLink "SettlerColony$Reader" (159 : Nat) ({ cls := "SettlerColony$Name", name := "<init>", desc := "(C)V" } : Jvm.MethodName)) ∈ lw_all := lw_g (lw_at lw_m9 64 rfl) rfl
theorem q2116 : (Jvm.Cond.methodLink "SettlerColony$Reader" (162 : Nat) ({ cls := "SettlerColony$Reader", name := "bound", desc := "(Z)LSettlerColony$Expr;" } : Jvm.MethodName)) ∈ lw_all := lw_g (lw_at lw_m9 72 rfl) rfl
theorem q2117 : (Jvm.Cond.privateMethod ({ cls := "SettlerColony$Reader", name := "bound", desc := "(Z)LSettlerColony$Expr;" } : Jvm.MethodName)) ∈ lw_tbl := lw_at lw_m9 73 rfl
theorem q2118 : (Jvm.Cond.instanceMethod ({ cls := "SettlerColony$Reader", name := "bound", desc := "(Z)LSettlerColony$Expr;" } : Jvm.MethodName)) ∈ lw_all := lw_g (lw_at lw_m9 74 rfl) rfl
theorem q2119 : (Jvm.Cond.code ({ cls := "SettlerColony$Reader", name := "bound", desc := "(Z)LSettlerColony$Expr;" } : Jvm.MethodName) prog_25_method_17_code (4 : Nat) (Option.some (Jvm.ClassFile.FieldType.object "SettlerColony$Expr"))) ∈ lw_all := lw_g (lw_at lw_m9 75 rfl) rfl
theorem q2120 : (Jvm.Cond.methodLink "SettlerColony$Reader" (178 : Nat) ({ cls := "SettlerColony$Reader", name := "bracket", desc := "()V" } : Jvm.MethodName)) ∈ lw_all := lw_g (lw_at lw_m9 76 rfl) rfl
theorem q2121 : (Jvm.Cond.privateMethod ({ cls := "SettlerColony$Reader", name := "bracket", desc := "()V" } : Jvm.MethodName)) ∈ lw_tbl := lw_at lw_m9 77 rfl
theorem q2122 : (Jvm.Cond.instanceMethod ({ cls := "SettlerColony$Reader", name := "bracket", desc := "()V" } : Jvm.MethodName)) ∈ lw_all := lw_g (lw_at lw_m9 78 rfl) rfl
theorem q2123 : (Jvm.Cond.code ({ cls := "SettlerColony$Reader", name := "bracket", desc := "()V" } : Jvm.MethodName) prog_25_method_16_code (1 : Nat) (Option.none : Option Jvm.ClassFile.FieldType)) ∈ lw_all := lw_g (lw_at lw_m9 79 rfl) rfl
theorem q2124 : (Jvm.Cond.classLink "SettlerColony$Reader" (181 : Nat) "SettlerColony$Bound") ∈ lw_all := lw_g (lw_at lw_m9 80 rfl) rfl
theorem q2126 : (Jvm.Cond.methodLink "SettlerColony$Reader" (183 : Nat) ({ cls := "SettlerColony$Bound", name := "<init>", desc := "(LSettlerColony$Expr;LSettlerColony$Expr;Z)V" } : Jvm.MethodName)) ∈ lw_all := lw_g (lw_at lw_m9 82 rfl) rfl
theorem q2150 : (Jvm.Cond.methodLink "SettlerColony$Reader" (166 : Nat) ({ cls := "SettlerColony$Reader", name := "choice", desc := "()LSettlerColony$Expr;" } : Jvm.MethodName)) ∈ lw_all := lw_g (lw_at lw_m9 106 rfl) rfl
theorem q2151 : (Jvm.Cond.privateMethod ({ cls := "SettlerColony$Reader", name := "choice", desc := "()LSettlerColony$Expr;" } : Jvm.MethodName)) ∈ lw_tbl := lw_at lw_m9 107 rfl
theorem q2152 : (Jvm.Cond.instanceMethod ({ cls := "SettlerColony$Reader", name := "choice", desc := "()LSettlerColony$Expr;" } : Jvm.MethodName)) ∈ lw_all := lw_g (lw_at lw_m9 108 rfl) rfl
theorem q2153 : (Jvm.Cond.code ({ cls := "SettlerColony$Reader", name := "choice", desc := "()LSettlerColony$Expr;" } : Jvm.MethodName) prog_25_method_18_code (4 : Nat) (Option.some (Jvm.ClassFile.FieldType.object "SettlerColony$Expr"))) ∈ lw_all := lw_g (lw_at lw_m9 109 rfl) rfl
theorem q2154 : (Jvm.Cond.methodLink "SettlerColony$Reader" (186 : Nat) ({ cls := "SettlerColony$Reader", name := "any", desc := "()LSettlerColony$Cond;" } : Jvm.MethodName)) ∈ lw_all := lw_g (lw_at lw_m9 110 rfl) rfl
theorem q2155 : (Jvm.Cond.privateMethod ({ cls := "SettlerColony$Reader", name := "any", desc := "()LSettlerColony$Cond;" } : Jvm.MethodName)) ∈ lw_tbl := lw_at lw_m9 111 rfl
theorem q2156 : (Jvm.Cond.instanceMethod ({ cls := "SettlerColony$Reader", name := "any", desc := "()LSettlerColony$Cond;" } : Jvm.MethodName)) ∈ lw_all := lw_g (lw_at lw_m9 112 rfl) rfl
theorem q2157 : (Jvm.Cond.code ({ cls := "SettlerColony$Reader", name := "any", desc := "()LSettlerColony$Cond;" } : Jvm.MethodName) prog_25_method_19_code (2 : Nat) (Option.some (Jvm.ClassFile.FieldType.object "SettlerColony$Cond"))) ∈ lw_all := lw_g (lw_at lw_m9 113 rfl) rfl
theorem q2158 : (Jvm.Cond.classLink "SettlerColony$Reader" (195 : Nat) "SettlerColony$Any") ∈ lw_all := lw_g (lw_at lw_m9 114 rfl) rfl
theorem q2160 : (Jvm.Cond.methodLinkNest "SettlerColony$Reader" (197 : Nat) ({ cls := "SettlerColony$Any", name := "<init>", desc := "()V" } : Jvm.MethodName) "SettlerColony") ∈ lw_tbl := lw_at lw_m9 116 rfl
theorem q2169 : (Jvm.Cond.fieldLink "SettlerColony$Reader" (198 : Nat) "SettlerColony$Any" "parts" "Ljava/util/ArrayList;") ∈ lw_all := lw_g (lw_at lw_m9 125 rfl) rfl
theorem q2170 : (Jvm.Cond.fieldLink "SettlerColony$Reader" (215 : Nat) "SettlerColony$All" "parts" "Ljava/util/ArrayList;") ∈ lw_all := lw_g (lw_at lw_m9 126 rfl) rfl
theorem q2174 : (Jvm.Cond.methodLink "SettlerColony$Reader" (202 : Nat) ({ cls := "SettlerColony$Reader", name := "all", desc := "()LSettlerColony$Cond;" } : Jvm.MethodName)) ∈ lw_all := lw_g (lw_at lw_m9 130 rfl) rfl
theorem q2175 : (Jvm.Cond.privateMethod ({ cls := "SettlerColony$Reader", name := "all", desc := "()LSettlerColony$Cond;" } : Jvm.MethodName)) ∈ lw_tbl := lw_at lw_m9 131 rfl
theorem q2176 : (Jvm.Cond.instanceMethod ({ cls := "SettlerColony$Reader", name := "all", desc := "()LSettlerColony$Cond;" } : Jvm.MethodName)) ∈ lw_all := lw_g (lw_at lw_m9 132 rfl) rfl
theorem q2177 : (Jvm.Cond.code ({ cls := "SettlerColony$Reader", name := "all", desc := "()LSettlerColony$Cond;" } : Jvm.MethodName) prog_25_method_20_code (2 : Nat) (Option.some (Jvm.ClassFile.FieldType.object "SettlerColony$Cond"))) ∈ lw_all := lw_g (lw_at lw_m9 133 rfl) rfl
theorem q2178 : (Jvm.Cond.classLink "SettlerColony$Reader" (212 : Nat) "SettlerColony$All") ∈ lw_all := lw_g (lw_at lw_m9 134 rfl) rfl
theorem q2180 : (Jvm.Cond.methodLinkNest "SettlerColony$Reader" (214 : Nat) ({ cls := "SettlerColony$All", name := "<init>", desc := "()V" } : Jvm.MethodName) "SettlerColony") ∈ lw_tbl := lw_at lw_m9 136 rfl
theorem q2186 : (Jvm.Cond.methodLink "SettlerColony$Reader" (216 : Nat) ({ cls := "SettlerColony$Reader", name := "one", desc := "()LSettlerColony$Cond;" } : Jvm.MethodName)) ∈ lw_all := lw_g (lw_at lw_m9 142 rfl) rfl
theorem q2187 : (Jvm.Cond.privateMethod ({ cls := "SettlerColony$Reader", name := "one", desc := "()LSettlerColony$Cond;" } : Jvm.MethodName)) ∈ lw_tbl := lw_at lw_m9 143 rfl
theorem q2188 : (Jvm.Cond.instanceMethod ({ cls := "SettlerColony$Reader", name := "one", desc := "()LSettlerColony$Cond;" } : Jvm.MethodName)) ∈ lw_all := lw_g (lw_at lw_m9 144 rfl) rfl
theorem q2189 : (Jvm.Cond.code ({ cls := "SettlerColony$Reader", name := "one", desc := "()LSettlerColony$Cond;" } : Jvm.MethodName) prog_25_method_21_code (3 : Nat) (Option.some (Jvm.ClassFile.FieldType.object "SettlerColony$Cond"))) ∈ lw_all := lw_g (lw_at lw_m9 145 rfl) rfl
theorem q2190 : (Jvm.Cond.stringRef "SettlerColony$Reader" (221 : Nat) "not") ∈ lw_tbl := lw_at lw_m9 146 rfl
theorem q2191 : (Jvm.Cond.classLink "SettlerColony$Reader" (223 : Nat) "SettlerColony$Not") ∈ lw_all := lw_g (lw_at lw_m9 147 rfl) rfl
theorem q2193 : (Jvm.Cond.methodLink "SettlerColony$Reader" (225 : Nat) ({ cls := "SettlerColony$Not", name := "<init>", desc := "(LSettlerColony$Cond;)V" } : Jvm.MethodName)) ∈ lw_all := lw_g (lw_at lw_m9 149 rfl) rfl
theorem q2201 : (Jvm.Cond.classLink "SettlerColony$Reader" (228 : Nat) "SettlerColony$Compare") ∈ lw_all := lw_g (lw_at lw_m9 157 rfl) rfl
theorem q2203 : (Jvm.Cond.methodLink "SettlerColony$Reader" (230 : Nat) ({ cls := "SettlerColony$Compare", name := "<init>", desc := "(LSettlerColony$Expr;CLSettlerColony$Expr;)V" } : Jvm.MethodName)) ∈ lw_all := lw_g (lw_at lw_m9 159 rfl) rfl
theorem q2217 : (Jvm.Cond.methodLink "SettlerColony$Reader" (205 : Nat) ({ cls := "java/util/ArrayList", name := "add", desc := "(Ljava/lang/Object;)Z" } : Jvm.MethodName)) ∈ lw_all := lw_g (lw_at lw_m9 173 rfl) rfl
theorem q2218 : (Jvm.Cond.stringRef "SettlerColony$Reader" (219 : Nat) "and") ∈ lw_tbl := lw_at lw_m9 174 rfl
theorem q2219 : (Jvm.Cond.stringRef "SettlerColony$Reader" (210 : Nat) "or") ∈ lw_tbl := lw_at lw_m9 175 rfl
theorem q2220 : (Jvm.Cond.classLink "SettlerColony$Reader" (190 : Nat) "SettlerColony$Choice") ∈ lw_all := lw_g (lw_at lw_m9 176 rfl) rfl
theorem q2222 : (Jvm.Cond.methodLink "SettlerColony$Reader" (192 : Nat) ({ cls := "SettlerColony$Choice", name := "<init>", desc := "(LSettlerColony$Cond;LSettlerColony$Expr;LSettlerColony$Expr;)V" } : Jvm.MethodName)) ∈ lw_all := lw_g (lw_at lw_m9 178 rfl) rfl
theorem q2233 : (Jvm.Cond.classLink "SettlerColony$Reader" (120 : Nat) "SettlerColony$Two") ∈ lw_all := lw_g (lw_at lw_m9 189 rfl) rfl
theorem q2235 : (Jvm.Cond.methodLink "SettlerColony$Reader" (122 : Nat) ({ cls := "SettlerColony$Two", name := "<init>", desc := "(LSettlerColony$Expr;CLSettlerColony$Expr;)V" } : Jvm.MethodName)) ∈ lw_all := lw_g (lw_at lw_m9 191 rfl) rfl
theorem q3263 : (Jvm.Cond.castable "SettlerColony$Reader" "java/lang/Object") ∈ lw_tbl := lw_at lw_m14 19 rfl
theorem in_X18 : ∀ w ∈ wsX180, w ∈ lw_all := lw_in wsX180 [1865, 1867, 1869, 1871] (by decide +kernel) (by decide +kernel)
/-! SettlerColony$Text -/
def RX19 : String := "SettlerColony$Text"
def TX19 : u_T := fun k => match k with
  | 0 => ("SettlerColony$Text", "told", "[LSettlerColony$Expr;", true)
  | _ => ("SettlerColony$Text", "falls", "Z", false)
def tyX19 : Nat → FieldType := fun k => match k with
  | 0 => .array (.object "SettlerColony$Expr")
  | _ => .boolean
abbrev wsX190 : List Cond := u_ws RX19 TX19 2
theorem nmX19 : ∀ a, a < 2 → ∀ b, b < 2 → a ≠ b → (TX19 a).2.1 ≠ (TX19 b).2.1 := by decide +kernel
theorem tyX19_ok : ∀ k, k < 2 → parseFieldDescriptor (TX19 k).2.2.1 = some (tyX19 k) := by decide +kernel
abbrev cX19_init : ByteArray := prog_30_method_1_code
def yX19_init : MethodName := ⟨RX19, "<init>", "()V"⟩
theorem q168 : (Jvm.Cond.initialized "SettlerColony$Text") ∈ lw_all := lw_g (lw_at lw_m1 44 rfl) rfl
theorem q679 : (Jvm.Cond.selects "SettlerColony$Text" ({ cls := "java/lang/Object", name := "getClass", desc := "()Ljava/lang/Class;" } : Jvm.MethodName) ({ cls := "java/lang/Object", name := "getClass", desc := "()Ljava/lang/Class;" } : Jvm.MethodName)) ∈ lw_all := lw_g (lw_at lw_m3 75 rfl) rfl
theorem q1634 : (Jvm.Cond.selects "SettlerColony$Text" ({ cls := "java/lang/Object", name := "equals", desc := "(Ljava/lang/Object;)Z" } : Jvm.MethodName) ({ cls := "java/lang/Object", name := "equals", desc := "(Ljava/lang/Object;)Z" } : Jvm.MethodName)) ∈ lw_all := lw_g (lw_at lw_m7 70 rfl) rfl
theorem q1879 : (Jvm.Cond.instantiable "SettlerColony$Text" (2 : Nat)) ∈ lw_all := lw_g (lw_at lw_m8 75 rfl) rfl
theorem q1881 : (Jvm.Cond.instanceMethod ({ cls := "SettlerColony$Text", name := "<init>", desc := "()V" } : Jvm.MethodName)) ∈ lw_all := lw_g (lw_at lw_m8 77 rfl) rfl
theorem q1882 : (Jvm.Cond.code ({ cls := "SettlerColony$Text", name := "<init>", desc := "()V" } : Jvm.MethodName) prog_30_method_1_code (1 : Nat) (Option.none : Option Jvm.ClassFile.FieldType)) ∈ lw_all := lw_g (lw_at lw_m8 78 rfl) rfl
theorem q1883 : (Jvm.Cond.methodLink "SettlerColony$Text" (3 : Nat) ({ cls := "java/lang/Object", name := "<init>", desc := "()V" } : Jvm.MethodName)) ∈ lw_all := lw_g (lw_at lw_m8 79 rfl) rfl
theorem q1884 : (Jvm.Cond.classLink "SettlerColony$Text" (9 : Nat) "SettlerColony$Expr") ∈ lw_all := lw_g (lw_at lw_m8 80 rfl) rfl
theorem q1886 : (Jvm.Cond.fieldLink "SettlerColony$Text" (11 : Nat) "SettlerColony$Text" "told" "[LSettlerColony$Expr;") ∈ lw_all := lw_g (lw_at lw_m8 82 rfl) rfl
theorem q1891 : (Jvm.Cond.laysFinal "SettlerColony$Text" "SettlerColony$Text" "told" "[LSettlerColony$Expr;") ∈ lw_all := lw_g (lw_at lw_m8 87 rfl) rfl
theorem q1892 : (Jvm.Cond.soleField "SettlerColony$Text" "told") ∈ lw_all := lw_g (lw_at lw_m8 88 rfl) rfl
theorem q1893 : (Jvm.Cond.lays "SettlerColony$Text" "SettlerColony$Text" "falls" "Z") ∈ lw_all := lw_g (lw_at lw_m8 89 rfl) rfl
theorem q1894 : (Jvm.Cond.soleField "SettlerColony$Text" "falls") ∈ lw_all := lw_g (lw_at lw_m8 90 rfl) rfl
theorem q1895 : (Jvm.Cond.superclass "SettlerColony$Text" "java/lang/Object") ∈ lw_all := lw_g (lw_at lw_m8 91 rfl) rfl
theorem q3264 : (Jvm.Cond.castable "SettlerColony$Text" "java/lang/Object") ∈ lw_tbl := lw_at lw_m14 20 rfl
theorem in_X19 : ∀ w ∈ wsX190, w ∈ lw_all := lw_in wsX190 [1891, 1893] (by decide +kernel) (by decide +kernel)
/-! SettlerColony$World -/
def RX2 : String := "SettlerColony$World"
def TX2 : u_T := fun k => match k with
  | 0 => ("SettlerColony$World", "week", "I", false)
  | 1 => ("SettlerColony$World", "store", "I", false)
  | 2 => ("SettlerColony$World", "treasury", "I", false)
  | 3 => ("SettlerColony$World", "bySales", "I", false)
  | 4 => ("SettlerColony$World", "byOrders", "I", false)
  | 5 => ("SettlerColony$World", "shipCost", "I", false)
  | 6 => ("SettlerColony$World", "hungry", "I", false)
  | 7 => ("SettlerColony$World", "fund", "I", false)
  | 8 => ("SettlerColony$World", "acresDrawn", "I", false)
  | 9 => ("SettlerColony$World", "triedPrice", "I", false)
  | 10 => ("SettlerColony$World", "triedShare", "I", false)
  | 11 => ("SettlerColony$World", "triedRain", "I", false)
  | 12 => ("SettlerColony$World", "land", "Ljava/util/ArrayList;", true)
  | 13 => ("SettlerColony$World", "soil", "[B", true)
  | 14 => ("SettlerColony$World", "water", "[Z", true)
  | 15 => ("SettlerColony$World", "miles", "[I", true)
  | 16 => ("SettlerColony$World", "stock", "[I", true)
  | 17 => ("SettlerColony$World", "ends", "[I", true)
  | 18 => ("SettlerColony$World", "isFenced", "[Z", true)
  | 19 => ("SettlerColony$World", "wild", "LSettlerColony$Wild;", true)
  | 20 => ("SettlerColony$World", "lot", "LSettlerColony$Lot;", true)
  | 21 => ("SettlerColony$World", "rains", "LSettlerColony$Rains;", true)
  | 22 => ("SettlerColony$World", "yearRain", "[I", true)
  | 23 => ("SettlerColony$World", "seenYears", "[I", true)
  | 24 => ("SettlerColony$World", "seenRain", "[I", true)
  | 25 => ("SettlerColony$World", "acres", "[I", true)
  | 26 => ("SettlerColony$World", "people", "Ljava/util/ArrayList;", true)
  | 27 => ("SettlerColony$World", "parties", "Ljava/util/ArrayList;", true)
  | 28 => ("SettlerColony$World", "laws", "Ljava/util/ArrayList;", true)
  | 29 => ("SettlerColony$World", "bills", "Ljava/util/ArrayList;", true)
  | 30 => ("SettlerColony$World", "ask", "LSettlerColony$Ask;", true)
  | _ => ("SettlerColony$World", "rows", "[I", true)
def tyX2 : Nat → FieldType := fun k => match k with
  | 0 => .int
  | 1 => .int
  | 2 => .int
  | 3 => .int
  | 4 => .int
  | 5 => .int
  | 6 => .int
  | 7 => .int
  | 8 => .int
  | 9 => .int
  | 10 => .int
  | 11 => .int
  | 12 => .object "java/util/ArrayList"
  | 13 => .array .byte
  | 14 => .array .boolean
  | 15 => .array .int
  | 16 => .array .int
  | 17 => .array .int
  | 18 => .array .boolean
  | 19 => .object "SettlerColony$Wild"
  | 20 => .object "SettlerColony$Lot"
  | 21 => .object "SettlerColony$Rains"
  | 22 => .array .int
  | 23 => .array .int
  | 24 => .array .int
  | 25 => .array .int
  | 26 => .object "java/util/ArrayList"
  | 27 => .object "java/util/ArrayList"
  | 28 => .object "java/util/ArrayList"
  | 29 => .object "java/util/ArrayList"
  | 30 => .object "SettlerColony$Ask"
  | _ => .array .int
abbrev wsX20 : List Cond := u_ws RX2 TX2 32
theorem nmX2 : ∀ a, a < 32 → ∀ b, b < 32 → a ≠ b → (TX2 a).2.1 ≠ (TX2 b).2.1 := by decide +kernel
theorem tyX2_ok : ∀ k, k < 32 → parseFieldDescriptor (TX2 k).2.2.1 = some (tyX2 k) := by decide +kernel
abbrev cX2_init : ByteArray := prog_33_method_1_code
def yX2_init : MethodName := ⟨RX2, "<init>", "()V"⟩
abbrev cX2_puts : ByteArray := prog_33_method_6_code
def yX2_puts : MethodName := ⟨RX2, "puts", "(ILSettlerColony$Holding;)V"⟩
abbrev cX2_wanted : ByteArray := prog_33_method_4_code
def yX2_wanted : MethodName := ⟨RX2, "wanted", "(I)I"⟩
abbrev cX2_init_2 : ByteArray := prog_33_method_2_code
def yX2_init_2 : MethodName := ⟨RX2, "<init>", "(LSettlerColony$World;)V"⟩
abbrev cX2_quoted : ByteArray := prog_33_method_38_code
def yX2_quoted : MethodName := ⟨RX2, "quoted", "()I"⟩
abbrev cX2_knownWeek : ByteArray := prog_33_method_37_code
def yX2_knownWeek : MethodName := ⟨RX2, "knownWeek", "()I"⟩
abbrev cX2_plain : ByteArray := prog_33_method_12_code
def yX2_plain : MethodName := ⟨RX2, "plain", "(I)I"⟩
abbrev cX2_bounded : ByteArray := prog_33_method_11_code
def yX2_bounded : MethodName := ⟨RX2, "bounded", "(II)I"⟩
abbrev cX2_passages : ByteArray := prog_33_method_39_code
def yX2_passages : MethodName := ⟨RX2, "passages", "()I"⟩
abbrev cX2_at : ByteArray := prog_33_method_5_code
def yX2_at : MethodName := ⟨RX2, "at", "(I)LSettlerColony$Holding;"⟩
abbrev cX2_here : ByteArray := prog_33_method_8_code
def yX2_here : MethodName := ⟨RX2, "here", "()I"⟩
abbrev cX2_farms : ByteArray := prog_33_method_7_code
def yX2_farms : MethodName := ⟨RX2, "farms", "()I"⟩
abbrev cX2_promise : ByteArray := prog_33_method_10_code
def yX2_promise : MethodName := ⟨RX2, "promise", "(I)I"⟩
abbrev cX2_set : ByteArray := prog_33_method_3_code
def yX2_set : MethodName := ⟨RX2, "set", "(LSettlerColony$World;)LSettlerColony$World;"⟩
abbrev cX2_surveys : ByteArray := prog_33_method_25_code
def yX2_surveys : MethodName := ⟨RX2, "surveys", "(LSettlerColony$Party;)V"⟩
abbrev cX2_distance : ByteArray := prog_33_method_24_code
def yX2_distance : MethodName := ⟨RX2, "distance", "(II)I"⟩
abbrev cX2_nearer : ByteArray := prog_33_method_26_code
def yX2_nearer : MethodName := ⟨RX2, "nearer", "(III)I"⟩
abbrev cX2_sells : ByteArray := prog_33_method_18_code
def yX2_sells : MethodName := ⟨RX2, "sells", "(LSettlerColony$Person;I)I"⟩
abbrev cX2_means : ByteArray := prog_33_method_14_code
def yX2_means : MethodName := ⟨RX2, "means", "(II)I"⟩
abbrev cX2_why : ByteArray := prog_33_method_13_code
def yX2_why : MethodName := ⟨RX2, "why", "(I)I"⟩
abbrev cX2_settles : ByteArray := prog_33_method_15_code
def yX2_settles : MethodName := ⟨RX2, "settles", "(LSettlerColony$Person;ILSettlerColony$Holding;)V"⟩
abbrev cX2_leaves : ByteArray := prog_33_method_16_code
def yX2_leaves : MethodName := ⟨RX2, "leaves", "(LSettlerColony$Person;)V"⟩
abbrev cX2_passes : ByteArray := prog_33_method_19_code
def yX2_passes : MethodName := ⟨RX2, "passes", "()V"⟩
abbrev cX2_lands : ByteArray := prog_33_method_20_code
def yX2_lands : MethodName := ⟨RX2, "lands", "()V"⟩
abbrev cX2_reads : ByteArray := prog_33_method_21_code
def yX2_reads : MethodName := ⟨RX2, "reads", "()V"⟩
abbrev cX2_reads_2 : ByteArray := prog_33_method_22_code
def yX2_reads_2 : MethodName := ⟨RX2, "reads", "(I)V"⟩
abbrev cX2_falls : ByteArray := prog_33_method_17_code
def yX2_falls : MethodName := ⟨RX2, "falls", "(I)V"⟩
abbrev cX2_reads_3 : ByteArray := prog_33_method_23_code
def yX2_reads_3 : MethodName := ⟨RX2, "reads", "(LSettlerColony$Bill;)V"⟩
abbrev cX2_works : ByteArray := prog_33_method_28_code
def yX2_works : MethodName := ⟨RX2, "works", "()V"⟩
abbrev cX2_isPaid : ByteArray := prog_33_method_29_code
def yX2_isPaid : MethodName := ⟨RX2, "isPaid", "(LSettlerColony$Person;)V"⟩
abbrev cX2_wants : ByteArray := prog_33_method_30_code
def yX2_wants : MethodName := ⟨RX2, "wants", "(LSettlerColony$Person;)V"⟩
abbrev cX2_bestLot : ByteArray := prog_33_method_27_code
def yX2_bestLot : MethodName := ⟨RX2, "bestLot", "()I"⟩
abbrev cX2_seeks : ByteArray := prog_33_method_31_code
def yX2_seeks : MethodName := ⟨RX2, "seeks", "(LSettlerColony$Person;)V"⟩
abbrev cX2_strays : ByteArray := prog_33_method_32_code
def yX2_strays : MethodName := ⟨RX2, "strays", "()V"⟩
abbrev cX2_straysTo : ByteArray := prog_33_method_33_code
def yX2_straysTo : MethodName := ⟨RX2, "straysTo", "(II)I"⟩
abbrev cX2_harvests : ByteArray := prog_33_method_34_code
def yX2_harvests : MethodName := ⟨RX2, "harvests", "()V"⟩
abbrev cX2_band : ByteArray := prog_33_method_35_code
def yX2_band : MethodName := ⟨RX2, "band", "(I)I"⟩
abbrev cX2_writes : ByteArray := prog_33_method_36_code
def yX2_writes : MethodName := ⟨RX2, "writes", "()V"⟩
abbrev cX2_hired : ByteArray := prog_33_method_9_code
def yX2_hired : MethodName := ⟨RX2, "hired", "()I"⟩
theorem q126 : (Jvm.Cond.initialized "SettlerColony$World") ∈ lw_all := lw_g (lw_at lw_m1 2 rfl) rfl
theorem q190 : (Jvm.Cond.instantiable "SettlerColony$World" (32 : Nat)) ∈ lw_all := lw_g (lw_at lw_m1 66 rfl) rfl
theorem q192 : (Jvm.Cond.instanceMethod ({ cls := "SettlerColony$World", name := "<init>", desc := "()V" } : Jvm.MethodName)) ∈ lw_all := lw_g (lw_at lw_m1 68 rfl) rfl
theorem q193 : (Jvm.Cond.code ({ cls := "SettlerColony$World", name := "<init>", desc := "()V" } : Jvm.MethodName) prog_33_method_1_code (2 : Nat) (Option.none : Option Jvm.ClassFile.FieldType)) ∈ lw_all := lw_g (lw_at lw_m1 69 rfl) rfl
theorem q194 : (Jvm.Cond.methodLink "SettlerColony$World" (3 : Nat) ({ cls := "java/lang/Object", name := "<init>", desc := "()V" } : Jvm.MethodName)) ∈ lw_all := lw_g (lw_at lw_m1 70 rfl) rfl
theorem q195 : (Jvm.Cond.classLink "SettlerColony$World" (24 : Nat) "java/util/ArrayList") ∈ lw_all := lw_g (lw_at lw_m1 71 rfl) rfl
theorem q197 : (Jvm.Cond.methodLink "SettlerColony$World" (26 : Nat) ({ cls := "java/util/ArrayList", name := "<init>", desc := "(I)V" } : Jvm.MethodName)) ∈ lw_all := lw_g (lw_at lw_m1 73 rfl) rfl
theorem q562 : (Jvm.Cond.classLink "SettlerColony$World" (47 : Nat) "SettlerColony$Wild") ∈ lw_all := lw_g (lw_at lw_m2 198 rfl) rfl
theorem q564 : (Jvm.Cond.methodLinkNest "SettlerColony$World" (49 : Nat) ({ cls := "SettlerColony$Wild", name := "<init>", desc := "()V" } : Jvm.MethodName) "SettlerColony") ∈ lw_tbl := lw_at lw_m2 200 rfl
theorem q574 : (Jvm.Cond.classLink "SettlerColony$World" (54 : Nat) "SettlerColony$Lot") ∈ lw_all := lw_g (lw_at lw_m2 210 rfl) rfl
theorem q576 : (Jvm.Cond.methodLinkNest "SettlerColony$World" (56 : Nat) ({ cls := "SettlerColony$Lot", name := "<init>", desc := "()V" } : Jvm.MethodName) "SettlerColony") ∈ lw_tbl := lw_at lw_m2 212 rfl
theorem q581 : (Jvm.Cond.classLink "SettlerColony$World" (85 : Nat) "SettlerColony$Ask") ∈ lw_all := lw_g (lw_at lw_m2 217 rfl) rfl
theorem q583 : (Jvm.Cond.methodLinkNest "SettlerColony$World" (87 : Nat) ({ cls := "SettlerColony$Ask", name := "<init>", desc := "()V" } : Jvm.MethodName) "SettlerColony") ∈ lw_tbl := lw_at lw_m2 219 rfl
theorem q604 : (Jvm.Cond.classLink "SettlerColony$World" (99 : Nat) "SettlerColony$Rains") ∈ lw_all := lw_g (lw_at lw_m3 0 rfl) rfl
theorem q606 : (Jvm.Cond.methodLinkNest "SettlerColony$World" (101 : Nat) ({ cls := "SettlerColony$Rains", name := "<init>", desc := "()V" } : Jvm.MethodName) "SettlerColony") ∈ lw_tbl := lw_at lw_m3 2 rfl
theorem q620 : (Jvm.Cond.classLink "SettlerColony$World" (109 : Nat) "SettlerColony$Slot") ∈ lw_all := lw_g (lw_at lw_m3 16 rfl) rfl
theorem q622 : (Jvm.Cond.methodLinkNest "SettlerColony$World" (111 : Nat) ({ cls := "SettlerColony$Slot", name := "<init>", desc := "()V" } : Jvm.MethodName) "SettlerColony") ∈ lw_tbl := lw_at lw_m3 18 rfl
theorem q627 : (Jvm.Cond.fieldLinkNest "SettlerColony$World" (145 : Nat) "SettlerColony$Slot" "held" "Ljava/lang/Object;" "SettlerColony") ∈ lw_tbl := lw_at lw_m3 23 rfl
theorem q632 : (Jvm.Cond.methodLink "SettlerColony$World" (112 : Nat) ({ cls := "java/util/ArrayList", name := "add", desc := "(Ljava/lang/Object;)Z" } : Jvm.MethodName)) ∈ lw_all := lw_g (lw_at lw_m3 28 rfl) rfl
theorem q682 : (Jvm.Cond.selects "SettlerColony$World" ({ cls := "java/lang/Object", name := "getClass", desc := "()Ljava/lang/Class;" } : Jvm.MethodName) ({ cls := "java/lang/Object", name := "getClass", desc := "()Ljava/lang/Class;" } : Jvm.MethodName)) ∈ lw_all := lw_g (lw_at lw_m3 78 rfl) rfl
theorem q703 : (Jvm.Cond.methodLink "SettlerColony$World" (116 : Nat) ({ cls := "SettlerColony$World", name := "puts", desc := "(ILSettlerColony$Holding;)V" } : Jvm.MethodName)) ∈ lw_all := lw_g (lw_at lw_m3 99 rfl) rfl
theorem q704 : (Jvm.Cond.instanceMethod ({ cls := "SettlerColony$World", name := "puts", desc := "(ILSettlerColony$Holding;)V" } : Jvm.MethodName)) ∈ lw_all := lw_g (lw_at lw_m3 100 rfl) rfl
theorem q705 : (Jvm.Cond.selects "SettlerColony$World" ({ cls := "SettlerColony$World", name := "puts", desc := "(ILSettlerColony$Holding;)V" } : Jvm.MethodName) ({ cls := "SettlerColony$World", name := "puts", desc := "(ILSettlerColony$Holding;)V" } : Jvm.MethodName)) ∈ lw_all := lw_g (lw_at lw_m3 101 rfl) rfl
theorem q706 : (Jvm.Cond.code ({ cls := "SettlerColony$World", name := "puts", desc := "(ILSettlerColony$Holding;)V" } : Jvm.MethodName) prog_33_method_6_code (3 : Nat) (Option.none : Option Jvm.ClassFile.FieldType)) ∈ lw_all := lw_g (lw_at lw_m3 102 rfl) rfl
theorem q707 : (Jvm.Cond.methodLink "SettlerColony$World" (141 : Nat) ({ cls := "java/util/ArrayList", name := "get", desc := "(I)Ljava/lang/Object;" } : Jvm.MethodName)) ∈ lw_all := lw_g (lw_at lw_m3 103 rfl) rfl
theorem q721 : (Jvm.Cond.methodLink "SettlerColony$World" (204 : Nat) ({ cls := "SettlerColony$World", name := "wanted", desc := "(I)I" } : Jvm.MethodName)) ∈ lw_all := lw_g (lw_at lw_m3 117 rfl) rfl
theorem q722 : (Jvm.Cond.instanceMethod ({ cls := "SettlerColony$World", name := "wanted", desc := "(I)I" } : Jvm.MethodName)) ∈ lw_all := lw_g (lw_at lw_m3 118 rfl) rfl
theorem q723 : (Jvm.Cond.selects "SettlerColony$World" ({ cls := "SettlerColony$World", name := "wanted", desc := "(I)I" } : Jvm.MethodName) ({ cls := "SettlerColony$World", name := "wanted", desc := "(I)I" } : Jvm.MethodName)) ∈ lw_all := lw_g (lw_at lw_m3 119 rfl) rfl
theorem q724 : (Jvm.Cond.code ({ cls := "SettlerColony$World", name := "wanted", desc := "(I)I" } : Jvm.MethodName) prog_33_method_4_code (2 : Nat) (Option.some Jvm.ClassFile.FieldType.int)) ∈ lw_all := lw_g (lw_at lw_m3 120 rfl) rfl
theorem q725 : (Jvm.Cond.fieldLink "SettlerColony$World" (120 : Nat) "SettlerColony$World" "week" "I") ∈ lw_all := lw_g (lw_at lw_m3 121 rfl) rfl
theorem q727 : (Jvm.Cond.fieldLink "SettlerColony$World" (9 : Nat) "SettlerColony$World" "store" "I") ∈ lw_all := lw_g (lw_at lw_m3 123 rfl) rfl
theorem q729 : (Jvm.Cond.fieldLink "SettlerColony$World" (15 : Nat) "SettlerColony$World" "treasury" "I") ∈ lw_all := lw_g (lw_at lw_m3 125 rfl) rfl
theorem q731 : (Jvm.Cond.fieldLink "SettlerColony$World" (123 : Nat) "SettlerColony$World" "bySales" "I") ∈ lw_all := lw_g (lw_at lw_m3 127 rfl) rfl
theorem q733 : (Jvm.Cond.fieldLink "SettlerColony$World" (433 : Nat) "SettlerColony$World" "byOrders" "I") ∈ lw_all := lw_g (lw_at lw_m3 129 rfl) rfl
theorem q734 : (Jvm.Cond.fieldLink "SettlerColony$World" (436 : Nat) "SettlerColony$World" "shipCost" "I") ∈ lw_all := lw_g (lw_at lw_m3 130 rfl) rfl
theorem q736 : (Jvm.Cond.fieldLink "SettlerColony$World" (126 : Nat) "SettlerColony$World" "hungry" "I") ∈ lw_all := lw_g (lw_at lw_m3 132 rfl) rfl
theorem q738 : (Jvm.Cond.fieldLink "SettlerColony$World" (129 : Nat) "SettlerColony$World" "fund" "I") ∈ lw_all := lw_g (lw_at lw_m3 134 rfl) rfl
theorem q741 : (Jvm.Cond.fieldLink "SettlerColony$World" (132 : Nat) "SettlerColony$World" "triedPrice" "I") ∈ lw_all := lw_g (lw_at lw_m3 137 rfl) rfl
theorem q743 : (Jvm.Cond.fieldLink "SettlerColony$World" (18 : Nat) "SettlerColony$World" "triedShare" "I") ∈ lw_all := lw_g (lw_at lw_m3 139 rfl) rfl
theorem q745 : (Jvm.Cond.fieldLink "SettlerColony$World" (21 : Nat) "SettlerColony$World" "triedRain" "I") ∈ lw_all := lw_g (lw_at lw_m3 141 rfl) rfl
theorem q747 : (Jvm.Cond.fieldLink "SettlerColony$World" (29 : Nat) "SettlerColony$World" "land" "Ljava/util/ArrayList;") ∈ lw_all := lw_g (lw_at lw_m3 143 rfl) rfl
theorem q749 : (Jvm.Cond.fieldLink "SettlerColony$World" (92 : Nat) "SettlerColony$World" "soil" "[B") ∈ lw_all := lw_g (lw_at lw_m3 145 rfl) rfl
theorem q751 : (Jvm.Cond.fieldLink "SettlerColony$World" (96 : Nat) "SettlerColony$World" "water" "[Z") ∈ lw_all := lw_g (lw_at lw_m3 147 rfl) rfl
theorem q753 : (Jvm.Cond.fieldLink "SettlerColony$World" (33 : Nat) "SettlerColony$World" "miles" "[I") ∈ lw_all := lw_g (lw_at lw_m3 149 rfl) rfl
theorem q755 : (Jvm.Cond.fieldLink "SettlerColony$World" (37 : Nat) "SettlerColony$World" "stock" "[I") ∈ lw_all := lw_g (lw_at lw_m3 151 rfl) rfl
theorem q757 : (Jvm.Cond.fieldLink "SettlerColony$World" (40 : Nat) "SettlerColony$World" "ends" "[I") ∈ lw_all := lw_g (lw_at lw_m3 153 rfl) rfl
theorem q759 : (Jvm.Cond.fieldLink "SettlerColony$World" (43 : Nat) "SettlerColony$World" "isFenced" "[Z") ∈ lw_all := lw_g (lw_at lw_m3 155 rfl) rfl
theorem q761 : (Jvm.Cond.fieldLink "SettlerColony$World" (50 : Nat) "SettlerColony$World" "wild" "LSettlerColony$Wild;") ∈ lw_all := lw_g (lw_at lw_m3 157 rfl) rfl
theorem q763 : (Jvm.Cond.fieldLink "SettlerColony$World" (57 : Nat) "SettlerColony$World" "lot" "LSettlerColony$Lot;") ∈ lw_all := lw_g (lw_at lw_m3 159 rfl) rfl
theorem q764 : (Jvm.Cond.fieldLink "SettlerColony$World" (102 : Nat) "SettlerColony$World" "rains" "LSettlerColony$Rains;") ∈ lw_all := lw_g (lw_at lw_m3 160 rfl) rfl
theorem q766 : (Jvm.Cond.fieldLink "SettlerColony$World" (61 : Nat) "SettlerColony$World" "yearRain" "[I") ∈ lw_all := lw_g (lw_at lw_m3 162 rfl) rfl
theorem q767 : (Jvm.Cond.fieldLink "SettlerColony$World" (64 : Nat) "SettlerColony$World" "seenYears" "[I") ∈ lw_all := lw_g (lw_at lw_m3 163 rfl) rfl
theorem q769 : (Jvm.Cond.fieldLink "SettlerColony$World" (67 : Nat) "SettlerColony$World" "seenRain" "[I") ∈ lw_all := lw_g (lw_at lw_m3 165 rfl) rfl
theorem q770 : (Jvm.Cond.fieldLink "SettlerColony$World" (70 : Nat) "SettlerColony$World" "acres" "[I") ∈ lw_all := lw_g (lw_at lw_m3 166 rfl) rfl
theorem q772 : (Jvm.Cond.fieldLink "SettlerColony$World" (73 : Nat) "SettlerColony$World" "people" "Ljava/util/ArrayList;") ∈ lw_all := lw_g (lw_at lw_m3 168 rfl) rfl
theorem q774 : (Jvm.Cond.fieldLink "SettlerColony$World" (76 : Nat) "SettlerColony$World" "parties" "Ljava/util/ArrayList;") ∈ lw_all := lw_g (lw_at lw_m3 170 rfl) rfl
theorem q776 : (Jvm.Cond.fieldLink "SettlerColony$World" (79 : Nat) "SettlerColony$World" "laws" "Ljava/util/ArrayList;") ∈ lw_all := lw_g (lw_at lw_m3 172 rfl) rfl
theorem q778 : (Jvm.Cond.fieldLink "SettlerColony$World" (82 : Nat) "SettlerColony$World" "bills" "Ljava/util/ArrayList;") ∈ lw_all := lw_g (lw_at lw_m3 174 rfl) rfl
theorem q780 : (Jvm.Cond.fieldLink "SettlerColony$World" (88 : Nat) "SettlerColony$World" "ask" "LSettlerColony$Ask;") ∈ lw_all := lw_g (lw_at lw_m3 176 rfl) rfl
theorem q781 : (Jvm.Cond.fieldLink "SettlerColony$World" (106 : Nat) "SettlerColony$World" "rows" "[I") ∈ lw_all := lw_g (lw_at lw_m3 177 rfl) rfl
theorem q783 : (Jvm.Cond.lays "SettlerColony$World" "SettlerColony$World" "week" "I") ∈ lw_all := lw_g (lw_at lw_m3 179 rfl) rfl
theorem q784 : (Jvm.Cond.soleField "SettlerColony$World" "week") ∈ lw_all := lw_g (lw_at lw_m3 180 rfl) rfl
theorem q785 : (Jvm.Cond.lays "SettlerColony$World" "SettlerColony$World" "store" "I") ∈ lw_all := lw_g (lw_at lw_m3 181 rfl) rfl
theorem q786 : (Jvm.Cond.soleField "SettlerColony$World" "store") ∈ lw_all := lw_g (lw_at lw_m3 182 rfl) rfl
theorem q787 : (Jvm.Cond.lays "SettlerColony$World" "SettlerColony$World" "treasury" "I") ∈ lw_all := lw_g (lw_at lw_m3 183 rfl) rfl
theorem q788 : (Jvm.Cond.soleField "SettlerColony$World" "treasury") ∈ lw_all := lw_g (lw_at lw_m3 184 rfl) rfl
theorem q789 : (Jvm.Cond.lays "SettlerColony$World" "SettlerColony$World" "bySales" "I") ∈ lw_all := lw_g (lw_at lw_m3 185 rfl) rfl
theorem q790 : (Jvm.Cond.soleField "SettlerColony$World" "bySales") ∈ lw_all := lw_g (lw_at lw_m3 186 rfl) rfl
theorem q791 : (Jvm.Cond.lays "SettlerColony$World" "SettlerColony$World" "byOrders" "I") ∈ lw_all := lw_g (lw_at lw_m3 187 rfl) rfl
theorem q792 : (Jvm.Cond.soleField "SettlerColony$World" "byOrders") ∈ lw_all := lw_g (lw_at lw_m3 188 rfl) rfl
theorem q793 : (Jvm.Cond.lays "SettlerColony$World" "SettlerColony$World" "shipCost" "I") ∈ lw_all := lw_g (lw_at lw_m3 189 rfl) rfl
theorem q794 : (Jvm.Cond.soleField "SettlerColony$World" "shipCost") ∈ lw_all := lw_g (lw_at lw_m3 190 rfl) rfl
theorem q795 : (Jvm.Cond.lays "SettlerColony$World" "SettlerColony$World" "hungry" "I") ∈ lw_all := lw_g (lw_at lw_m3 191 rfl) rfl
theorem q796 : (Jvm.Cond.soleField "SettlerColony$World" "hungry") ∈ lw_all := lw_g (lw_at lw_m3 192 rfl) rfl
theorem q797 : (Jvm.Cond.lays "SettlerColony$World" "SettlerColony$World" "fund" "I") ∈ lw_all := lw_g (lw_at lw_m3 193 rfl) rfl
theorem q798 : (Jvm.Cond.soleField "SettlerColony$World" "fund") ∈ lw_all := lw_g (lw_at lw_m3 194 rfl) rfl
theorem q799 : (Jvm.Cond.lays "SettlerColony$World" "SettlerColony$World" "acresDrawn" "I") ∈ lw_all := lw_g (lw_at lw_m3 195 rfl) rfl
theorem q800 : (Jvm.Cond.soleField "SettlerColony$World" "acresDrawn") ∈ lw_all := lw_g (lw_at lw_m3 196 rfl) rfl
theorem q801 : (Jvm.Cond.lays "SettlerColony$World" "SettlerColony$World" "triedPrice" "I") ∈ lw_all := lw_g (lw_at lw_m3 197 rfl) rfl
theorem q802 : (Jvm.Cond.soleField "SettlerColony$World" "triedPrice") ∈ lw_all := lw_g (lw_at lw_m3 198 rfl) rfl
theorem q803 : (Jvm.Cond.lays "SettlerColony$World" "SettlerColony$World" "triedShare" "I") ∈ lw_all := lw_g (lw_at lw_m3 199 rfl) rfl
theorem q804 : (Jvm.Cond.soleField "SettlerColony$World" "triedShare") ∈ lw_all := lw_g (lw_at lw_m3 200 rfl) rfl
theorem q805 : (Jvm.Cond.lays "SettlerColony$World" "SettlerColony$World" "triedRain" "I") ∈ lw_all := lw_g (lw_at lw_m3 201 rfl) rfl
theorem q806 : (Jvm.Cond.soleField "SettlerColony$World" "triedRain") ∈ lw_all := lw_g (lw_at lw_m3 202 rfl) rfl
theorem q807 : (Jvm.Cond.laysFinal "SettlerColony$World" "SettlerColony$World" "land" "Ljava/util/ArrayList;") ∈ lw_all := lw_g (lw_at lw_m3 203 rfl) rfl
theorem q808 : (Jvm.Cond.soleField "SettlerColony$World" "land") ∈ lw_all := lw_g (lw_at lw_m3 204 rfl) rfl
theorem q809 : (Jvm.Cond.laysFinal "SettlerColony$World" "SettlerColony$World" "soil" "[B") ∈ lw_all := lw_g (lw_at lw_m3 205 rfl) rfl
theorem q810 : (Jvm.Cond.soleField "SettlerColony$World" "soil") ∈ lw_all := lw_g (lw_at lw_m3 206 rfl) rfl
theorem q811 : (Jvm.Cond.laysFinal "SettlerColony$World" "SettlerColony$World" "water" "[Z") ∈ lw_all := lw_g (lw_at lw_m3 207 rfl) rfl
theorem q812 : (Jvm.Cond.soleField "SettlerColony$World" "water") ∈ lw_all := lw_g (lw_at lw_m3 208 rfl) rfl
theorem q813 : (Jvm.Cond.laysFinal "SettlerColony$World" "SettlerColony$World" "miles" "[I") ∈ lw_all := lw_g (lw_at lw_m3 209 rfl) rfl
theorem q814 : (Jvm.Cond.soleField "SettlerColony$World" "miles") ∈ lw_all := lw_g (lw_at lw_m3 210 rfl) rfl
theorem q815 : (Jvm.Cond.laysFinal "SettlerColony$World" "SettlerColony$World" "stock" "[I") ∈ lw_all := lw_g (lw_at lw_m3 211 rfl) rfl
theorem q816 : (Jvm.Cond.soleField "SettlerColony$World" "stock") ∈ lw_all := lw_g (lw_at lw_m3 212 rfl) rfl
theorem q817 : (Jvm.Cond.laysFinal "SettlerColony$World" "SettlerColony$World" "ends" "[I") ∈ lw_all := lw_g (lw_at lw_m3 213 rfl) rfl
theorem q818 : (Jvm.Cond.soleField "SettlerColony$World" "ends") ∈ lw_all := lw_g (lw_at lw_m3 214 rfl) rfl
theorem q819 : (Jvm.Cond.laysFinal "SettlerColony$World" "SettlerColony$World" "isFenced" "[Z") ∈ lw_all := lw_g (lw_at lw_m3 215 rfl) rfl
theorem q820 : (Jvm.Cond.soleField "SettlerColony$World" "isFenced") ∈ lw_all := lw_g (lw_at lw_m3 216 rfl) rfl
theorem q821 : (Jvm.Cond.laysFinal "SettlerColony$World" "SettlerColony$World" "wild" "LSettlerColony$Wild;") ∈ lw_all := lw_g (lw_at lw_m3 217 rfl) rfl
theorem q822 : (Jvm.Cond.soleField "SettlerColony$World" "wild") ∈ lw_all := lw_g (lw_at lw_m3 218 rfl) rfl
theorem q823 : (Jvm.Cond.laysFinal "SettlerColony$World" "SettlerColony$World" "lot" "LSettlerColony$Lot;") ∈ lw_all := lw_g (lw_at lw_m3 219 rfl) rfl
theorem q824 : (Jvm.Cond.soleField "SettlerColony$World" "lot") ∈ lw_all := lw_g (lw_at lw_m3 220 rfl) rfl
theorem q825 : (Jvm.Cond.laysFinal "SettlerColony$World" "SettlerColony$World" "rains" "LSettlerColony$Rains;") ∈ lw_all := lw_g (lw_at lw_m3 221 rfl) rfl
theorem q826 : (Jvm.Cond.soleField "SettlerColony$World" "rains") ∈ lw_all := lw_g (lw_at lw_m3 222 rfl) rfl
theorem q827 : (Jvm.Cond.laysFinal "SettlerColony$World" "SettlerColony$World" "yearRain" "[I") ∈ lw_all := lw_g (lw_at lw_m3 223 rfl) rfl
theorem q828 : (Jvm.Cond.soleField "SettlerColony$World" "yearRain") ∈ lw_all := lw_g (lw_at lw_m3 224 rfl) rfl
theorem q829 : (Jvm.Cond.laysFinal "SettlerColony$World" "SettlerColony$World" "seenYears" "[I") ∈ lw_all := lw_g (lw_at lw_m3 225 rfl) rfl
theorem q830 : (Jvm.Cond.soleField "SettlerColony$World" "seenYears") ∈ lw_all := lw_g (lw_at lw_m3 226 rfl) rfl
theorem q831 : (Jvm.Cond.laysFinal "SettlerColony$World" "SettlerColony$World" "seenRain" "[I") ∈ lw_all := lw_g (lw_at lw_m3 227 rfl) rfl
theorem q832 : (Jvm.Cond.soleField "SettlerColony$World" "seenRain") ∈ lw_all := lw_g (lw_at lw_m3 228 rfl) rfl
theorem q833 : (Jvm.Cond.laysFinal "SettlerColony$World" "SettlerColony$World" "acres" "[I") ∈ lw_all := lw_g (lw_at lw_m3 229 rfl) rfl
theorem q834 : (Jvm.Cond.soleField "SettlerColony$World" "acres") ∈ lw_all := lw_g (lw_at lw_m3 230 rfl) rfl
theorem q835 : (Jvm.Cond.laysFinal "SettlerColony$World" "SettlerColony$World" "people" "Ljava/util/ArrayList;") ∈ lw_all := lw_g (lw_at lw_m3 231 rfl) rfl
theorem q836 : (Jvm.Cond.soleField "SettlerColony$World" "people") ∈ lw_all := lw_g (lw_at lw_m3 232 rfl) rfl
theorem q837 : (Jvm.Cond.laysFinal "SettlerColony$World" "SettlerColony$World" "parties" "Ljava/util/ArrayList;") ∈ lw_all := lw_g (lw_at lw_m3 233 rfl) rfl
theorem q838 : (Jvm.Cond.soleField "SettlerColony$World" "parties") ∈ lw_all := lw_g (lw_at lw_m3 234 rfl) rfl
theorem q839 : (Jvm.Cond.laysFinal "SettlerColony$World" "SettlerColony$World" "laws" "Ljava/util/ArrayList;") ∈ lw_all := lw_g (lw_at lw_m3 235 rfl) rfl
theorem q840 : (Jvm.Cond.soleField "SettlerColony$World" "laws") ∈ lw_all := lw_g (lw_at lw_m3 236 rfl) rfl
theorem q841 : (Jvm.Cond.laysFinal "SettlerColony$World" "SettlerColony$World" "bills" "Ljava/util/ArrayList;") ∈ lw_all := lw_g (lw_at lw_m3 237 rfl) rfl
theorem q842 : (Jvm.Cond.soleField "SettlerColony$World" "bills") ∈ lw_all := lw_g (lw_at lw_m3 238 rfl) rfl
theorem q843 : (Jvm.Cond.laysFinal "SettlerColony$World" "SettlerColony$World" "ask" "LSettlerColony$Ask;") ∈ lw_all := lw_g (lw_at lw_m3 239 rfl) rfl
theorem q844 : (Jvm.Cond.soleField "SettlerColony$World" "ask") ∈ lw_all := lw_g (lw_at lw_m4 0 rfl) rfl
theorem q845 : (Jvm.Cond.laysFinal "SettlerColony$World" "SettlerColony$World" "rows" "[I") ∈ lw_all := lw_g (lw_at lw_m4 1 rfl) rfl
theorem q846 : (Jvm.Cond.soleField "SettlerColony$World" "rows") ∈ lw_all := lw_g (lw_at lw_m4 2 rfl) rfl
theorem q847 : (Jvm.Cond.superclass "SettlerColony$World" "java/lang/Object") ∈ lw_all := lw_g (lw_at lw_m4 3 rfl) rfl
theorem q849 : (Jvm.Cond.instanceMethod ({ cls := "SettlerColony$World", name := "<init>", desc := "(LSettlerColony$World;)V" } : Jvm.MethodName)) ∈ lw_all := lw_g (lw_at lw_m4 5 rfl) rfl
theorem q850 : (Jvm.Cond.code ({ cls := "SettlerColony$World", name := "<init>", desc := "(LSettlerColony$World;)V" } : Jvm.MethodName) prog_33_method_2_code (3 : Nat) (Option.none : Option Jvm.ClassFile.FieldType)) ∈ lw_all := lw_g (lw_at lw_m4 6 rfl) rfl
theorem q937 : (Jvm.Cond.instanceMethod ({ cls := "SettlerColony$World", name := "quoted", desc := "()I" } : Jvm.MethodName)) ∈ lw_all := lw_g (lw_at lw_m4 93 rfl) rfl
theorem q938 : (Jvm.Cond.selects "SettlerColony$World" ({ cls := "SettlerColony$World", name := "quoted", desc := "()I" } : Jvm.MethodName) ({ cls := "SettlerColony$World", name := "quoted", desc := "()I" } : Jvm.MethodName)) ∈ lw_all := lw_g (lw_at lw_m4 94 rfl) rfl
theorem q939 : (Jvm.Cond.code ({ cls := "SettlerColony$World", name := "quoted", desc := "()I" } : Jvm.MethodName) prog_33_method_38_code (4 : Nat) (Option.some Jvm.ClassFile.FieldType.int)) ∈ lw_all := lw_g (lw_at lw_m4 95 rfl) rfl
theorem q940 : (Jvm.Cond.methodLink "SettlerColony$World" (427 : Nat) ({ cls := "SettlerColony$World", name := "knownWeek", desc := "()I" } : Jvm.MethodName)) ∈ lw_all := lw_g (lw_at lw_m4 96 rfl) rfl
theorem q941 : (Jvm.Cond.instanceMethod ({ cls := "SettlerColony$World", name := "knownWeek", desc := "()I" } : Jvm.MethodName)) ∈ lw_all := lw_g (lw_at lw_m4 97 rfl) rfl
theorem q942 : (Jvm.Cond.selects "SettlerColony$World" ({ cls := "SettlerColony$World", name := "knownWeek", desc := "()I" } : Jvm.MethodName) ({ cls := "SettlerColony$World", name := "knownWeek", desc := "()I" } : Jvm.MethodName)) ∈ lw_all := lw_g (lw_at lw_m4 98 rfl) rfl
theorem q943 : (Jvm.Cond.code ({ cls := "SettlerColony$World", name := "knownWeek", desc := "()I" } : Jvm.MethodName) prog_33_method_37_code (1 : Nat) (Option.some Jvm.ClassFile.FieldType.int)) ∈ lw_all := lw_g (lw_at lw_m4 99 rfl) rfl
theorem q944 : (Jvm.Cond.methodLink "SettlerColony$World" (248 : Nat) ({ cls := "SettlerColony$World", name := "plain", desc := "(I)I" } : Jvm.MethodName)) ∈ lw_all := lw_g (lw_at lw_m4 100 rfl) rfl
theorem q945 : (Jvm.Cond.static ({ cls := "SettlerColony$World", name := "plain", desc := "(I)I" } : Jvm.MethodName)) ∈ lw_all := lw_g (lw_at lw_m4 101 rfl) rfl
theorem q946 : (Jvm.Cond.code ({ cls := "SettlerColony$World", name := "plain", desc := "(I)I" } : Jvm.MethodName) prog_33_method_12_code (1 : Nat) (Option.some Jvm.ClassFile.FieldType.int)) ∈ lw_all := lw_g (lw_at lw_m4 102 rfl) rfl
theorem q947 : (Jvm.Cond.methodLink "SettlerColony$World" (149 : Nat) ({ cls := "java/util/ArrayList", name := "size", desc := "()I" } : Jvm.MethodName)) ∈ lw_all := lw_g (lw_at lw_m4 103 rfl) rfl
theorem q951 : (Jvm.Cond.classLink "SettlerColony$World" (174 : Nat) "SettlerColony$Law") ∈ lw_all := lw_g (lw_at lw_m4 107 rfl) rfl
theorem q952 : (Jvm.Cond.methodLink "SettlerColony$World" (430 : Nat) ({ cls := "SettlerColony$Law", name := "wasIn", desc := "(I)Z" } : Jvm.MethodName)) ∈ lw_all := lw_g (lw_at lw_m4 108 rfl) rfl
theorem q956 : (Jvm.Cond.methodLink "SettlerColony$World" (257 : Nat) ({ cls := "SettlerColony$Ask", name := "of", desc := "(IIII)LSettlerColony$Ask;" } : Jvm.MethodName)) ∈ lw_all := lw_g (lw_at lw_m4 112 rfl) rfl
theorem q960 : (Jvm.Cond.methodLink "SettlerColony$World" (261 : Nat) ({ cls := "SettlerColony$Expr", name := "of", desc := "(LSettlerColony$Ask;)I" } : Jvm.MethodName)) ∈ lw_all := lw_g (lw_at lw_m4 116 rfl) rfl
theorem q1030 : (Jvm.Cond.methodLink "SettlerColony$World" (266 : Nat) ({ cls := "SettlerColony$World", name := "bounded", desc := "(II)I" } : Jvm.MethodName)) ∈ lw_all := lw_g (lw_at lw_m4 186 rfl) rfl
theorem q1031 : (Jvm.Cond.static ({ cls := "SettlerColony$World", name := "bounded", desc := "(II)I" } : Jvm.MethodName)) ∈ lw_all := lw_g (lw_at lw_m4 187 rfl) rfl
theorem q1032 : (Jvm.Cond.code ({ cls := "SettlerColony$World", name := "bounded", desc := "(II)I" } : Jvm.MethodName) prog_33_method_11_code (2 : Nat) (Option.some Jvm.ClassFile.FieldType.int)) ∈ lw_all := lw_g (lw_at lw_m4 188 rfl) rfl
theorem q1033 : (Jvm.Cond.methodLink "SettlerColony$World" (227 : Nat) ({ cls := "java/lang/Math", name := "min", desc := "(II)I" } : Jvm.MethodName)) ∈ lw_all := lw_g (lw_at lw_m4 189 rfl) rfl
theorem q1034 : (Jvm.Cond.methodLink "SettlerColony$World" (233 : Nat) ({ cls := "java/lang/Math", name := "max", desc := "(II)I" } : Jvm.MethodName)) ∈ lw_all := lw_g (lw_at lw_m4 190 rfl) rfl
theorem q1051 : (Jvm.Cond.instanceMethod ({ cls := "SettlerColony$World", name := "passages", desc := "()I" } : Jvm.MethodName)) ∈ lw_all := lw_g (lw_at lw_m4 207 rfl) rfl
theorem q1052 : (Jvm.Cond.selects "SettlerColony$World" ({ cls := "SettlerColony$World", name := "passages", desc := "()I" } : Jvm.MethodName) ({ cls := "SettlerColony$World", name := "passages", desc := "()I" } : Jvm.MethodName)) ∈ lw_all := lw_g (lw_at lw_m4 208 rfl) rfl
theorem q1053 : (Jvm.Cond.code ({ cls := "SettlerColony$World", name := "passages", desc := "()I" } : Jvm.MethodName) prog_33_method_39_code (2 : Nat) (Option.some Jvm.ClassFile.FieldType.int)) ∈ lw_all := lw_g (lw_at lw_m4 209 rfl) rfl
theorem q1065 : (Jvm.Cond.fieldLinkNest "SettlerColony$World" (283 : Nat) "SettlerColony$Person" "number" "I" "SettlerColony") ∈ lw_tbl := lw_at lw_m4 221 rfl
theorem q1068 : (Jvm.Cond.fieldLinkNest "SettlerColony$World" (155 : Nat) "SettlerColony$Person" "trade" "I" "SettlerColony") ∈ lw_tbl := lw_at lw_m4 224 rfl
theorem q1071 : (Jvm.Cond.fieldLinkNest "SettlerColony$World" (289 : Nat) "SettlerColony$Person" "coins" "I" "SettlerColony") ∈ lw_tbl := lw_at lw_m4 227 rfl
theorem q1074 : (Jvm.Cond.fieldLinkNest "SettlerColony$World" (221 : Nat) "SettlerColony$Person" "is" "I" "SettlerColony") ∈ lw_tbl := lw_at lw_m4 230 rfl
theorem q1077 : (Jvm.Cond.fieldLinkNest "SettlerColony$World" (274 : Nat) "SettlerColony$Person" "boss" "I" "SettlerColony") ∈ lw_tbl := lw_at lw_m4 233 rfl
theorem q1080 : (Jvm.Cond.fieldLinkNest "SettlerColony$World" (277 : Nat) "SettlerColony$Person" "hands" "I" "SettlerColony") ∈ lw_tbl := lw_at lw_m4 236 rfl
theorem q1083 : (Jvm.Cond.fieldLinkNest "SettlerColony$World" (272 : Nat) "SettlerColony$Person" "farms" "I" "SettlerColony") ∈ lw_tbl := lw_at lw_m4 239 rfl
theorem q1089 : (Jvm.Cond.fieldLinkNest "SettlerColony$World" (403 : Nat) "SettlerColony$Person" "hungry" "I" "SettlerColony") ∈ lw_tbl := lw_at lw_m5 5 rfl
theorem q1092 : (Jvm.Cond.fieldLinkNest "SettlerColony$World" (325 : Nat) "SettlerColony$Person" "lands" "I" "SettlerColony") ∈ lw_tbl := lw_at lw_m5 8 rfl
theorem q1124 : (Jvm.Cond.instanceMethod ({ cls := "SettlerColony$World", name := "at", desc := "(I)LSettlerColony$Holding;" } : Jvm.MethodName)) ∈ lw_all := lw_g (lw_at lw_m5 40 rfl) rfl
theorem q1125 : (Jvm.Cond.selects "SettlerColony$World" ({ cls := "SettlerColony$World", name := "at", desc := "(I)LSettlerColony$Holding;" } : Jvm.MethodName) ({ cls := "SettlerColony$World", name := "at", desc := "(I)LSettlerColony$Holding;" } : Jvm.MethodName)) ∈ lw_all := lw_g (lw_at lw_m5 41 rfl) rfl
theorem q1126 : (Jvm.Cond.code ({ cls := "SettlerColony$World", name := "at", desc := "(I)LSettlerColony$Holding;" } : Jvm.MethodName) prog_33_method_5_code (2 : Nat) (Option.some (Jvm.ClassFile.FieldType.object "SettlerColony$Holding"))) ∈ lw_all := lw_g (lw_at lw_m5 42 rfl) rfl
theorem q1127 : (Jvm.Cond.methodLink "SettlerColony$World" (200 : Nat) ({ cls := "SettlerColony$Slot", name := "holding", desc := "()LSettlerColony$Holding;" } : Jvm.MethodName)) ∈ lw_all := lw_g (lw_at lw_m5 43 rfl) rfl
theorem q1187 : (Jvm.Cond.instanceMethod ({ cls := "SettlerColony$World", name := "here", desc := "()I" } : Jvm.MethodName)) ∈ lw_all := lw_g (lw_at lw_m5 103 rfl) rfl
theorem q1188 : (Jvm.Cond.selects "SettlerColony$World" ({ cls := "SettlerColony$World", name := "here", desc := "()I" } : Jvm.MethodName) ({ cls := "SettlerColony$World", name := "here", desc := "()I" } : Jvm.MethodName)) ∈ lw_all := lw_g (lw_at lw_m5 104 rfl) rfl
theorem q1189 : (Jvm.Cond.code ({ cls := "SettlerColony$World", name := "here", desc := "()I" } : Jvm.MethodName) prog_33_method_8_code (3 : Nat) (Option.some Jvm.ClassFile.FieldType.int)) ∈ lw_all := lw_g (lw_at lw_m5 105 rfl) rfl
theorem q1190 : (Jvm.Cond.classLink "SettlerColony$World" (153 : Nat) "SettlerColony$Person") ∈ lw_all := lw_g (lw_at lw_m5 106 rfl) rfl
theorem q1191 : (Jvm.Cond.methodLink "SettlerColony$World" (218 : Nat) ({ cls := "SettlerColony$Person", name := "isHere", desc := "()Z" } : Jvm.MethodName)) ∈ lw_all := lw_g (lw_at lw_m5 107 rfl) rfl
theorem q1196 : (Jvm.Cond.instanceMethod ({ cls := "SettlerColony$World", name := "farms", desc := "()I" } : Jvm.MethodName)) ∈ lw_all := lw_g (lw_at lw_m5 112 rfl) rfl
theorem q1197 : (Jvm.Cond.selects "SettlerColony$World" ({ cls := "SettlerColony$World", name := "farms", desc := "()I" } : Jvm.MethodName) ({ cls := "SettlerColony$World", name := "farms", desc := "()I" } : Jvm.MethodName)) ∈ lw_all := lw_g (lw_at lw_m5 113 rfl) rfl
theorem q1198 : (Jvm.Cond.code ({ cls := "SettlerColony$World", name := "farms", desc := "()I" } : Jvm.MethodName) prog_33_method_7_code (3 : Nat) (Option.some Jvm.ClassFile.FieldType.int)) ∈ lw_all := lw_g (lw_at lw_m5 114 rfl) rfl
theorem q1199 : (Jvm.Cond.methodLink "SettlerColony$World" (208 : Nat) ({ cls := "SettlerColony$World", name := "at", desc := "(I)LSettlerColony$Holding;" } : Jvm.MethodName)) ∈ lw_all := lw_g (lw_at lw_m5 115 rfl) rfl
theorem q1327 : (Jvm.Cond.instanceMethod ({ cls := "SettlerColony$World", name := "promise", desc := "(I)I" } : Jvm.MethodName)) ∈ lw_all := lw_g (lw_at lw_m6 3 rfl) rfl
theorem q1328 : (Jvm.Cond.selects "SettlerColony$World" ({ cls := "SettlerColony$World", name := "promise", desc := "(I)I" } : Jvm.MethodName) ({ cls := "SettlerColony$World", name := "promise", desc := "(I)I" } : Jvm.MethodName)) ∈ lw_all := lw_g (lw_at lw_m6 4 rfl) rfl
theorem q1329 : (Jvm.Cond.code ({ cls := "SettlerColony$World", name := "promise", desc := "(I)I" } : Jvm.MethodName) prog_33_method_10_code (3 : Nat) (Option.some Jvm.ClassFile.FieldType.int)) ∈ lw_all := lw_g (lw_at lw_m6 5 rfl) rfl
theorem q1330 : (Jvm.Cond.methodLinkNest "SettlerColony$World" (224 : Nat) ({ cls := "SettlerColony", name := "zoneOf", desc := "(I)I" } : Jvm.MethodName) "SettlerColony") ∈ lw_tbl := lw_at lw_m6 6 rfl
theorem q1429 : (Jvm.Cond.fieldLinkNest "SettlerColony$World" (167 : Nat) "SettlerColony$Party" "pace" "I" "SettlerColony") ∈ lw_tbl := lw_at lw_m6 105 rfl
theorem q1432 : (Jvm.Cond.fieldLinkNest "SettlerColony$World" (379 : Nat) "SettlerColony$Party" "at" "I" "SettlerColony") ∈ lw_tbl := lw_at lw_m6 108 rfl
theorem q1435 : (Jvm.Cond.fieldLinkNest "SettlerColony$World" (367 : Nat) "SettlerColony$Party" "many" "I" "SettlerColony") ∈ lw_tbl := lw_at lw_m6 111 rfl
theorem q1438 : (Jvm.Cond.fieldLinkNest "SettlerColony$World" (370 : Nat) "SettlerColony$Party" "queue" "[I" "SettlerColony") ∈ lw_tbl := lw_at lw_m6 114 rfl
theorem q1474 : (Jvm.Cond.instanceMethod ({ cls := "SettlerColony$World", name := "set", desc := "(LSettlerColony$World;)LSettlerColony$World;" } : Jvm.MethodName)) ∈ lw_all := lw_g (lw_at lw_m6 150 rfl) rfl
theorem q1475 : (Jvm.Cond.selects "SettlerColony$World" ({ cls := "SettlerColony$World", name := "set", desc := "(LSettlerColony$World;)LSettlerColony$World;" } : Jvm.MethodName) ({ cls := "SettlerColony$World", name := "set", desc := "(LSettlerColony$World;)LSettlerColony$World;" } : Jvm.MethodName)) ∈ lw_all := lw_g (lw_at lw_m6 151 rfl) rfl
theorem q1476 : (Jvm.Cond.code ({ cls := "SettlerColony$World", name := "set", desc := "(LSettlerColony$World;)LSettlerColony$World;" } : Jvm.MethodName) prog_33_method_3_code (3 : Nat) (Option.some (Jvm.ClassFile.FieldType.object "SettlerColony$World"))) ∈ lw_all := lw_g (lw_at lw_m6 152 rfl) rfl
theorem q1477 : (Jvm.Cond.methodLink "SettlerColony$World" (135 : Nat) ({ cls := "java/lang/System", name := "arraycopy", desc := "(Ljava/lang/Object;ILjava/lang/Object;II)V" } : Jvm.MethodName)) ∈ lw_all := lw_g (lw_at lw_m6 153 rfl) rfl
theorem q1478 : (Jvm.Cond.methodLink "SettlerColony$World" (158 : Nat) ({ cls := "SettlerColony$Person", name := "<init>", desc := "(III)V" } : Jvm.MethodName)) ∈ lw_all := lw_g (lw_at lw_m6 154 rfl) rfl
theorem q1479 : (Jvm.Cond.methodLink "SettlerColony$World" (161 : Nat) ({ cls := "SettlerColony$Person", name := "set", desc := "(LSettlerColony$Person;)V" } : Jvm.MethodName)) ∈ lw_all := lw_g (lw_at lw_m6 155 rfl) rfl
theorem q1483 : (Jvm.Cond.classLink "SettlerColony$World" (165 : Nat) "SettlerColony$Party") ∈ lw_all := lw_g (lw_at lw_m6 159 rfl) rfl
theorem q1484 : (Jvm.Cond.methodLink "SettlerColony$World" (170 : Nat) ({ cls := "SettlerColony$Party", name := "<init>", desc := "(I)V" } : Jvm.MethodName)) ∈ lw_all := lw_g (lw_at lw_m6 160 rfl) rfl
theorem q1485 : (Jvm.Cond.methodLink "SettlerColony$World" (171 : Nat) ({ cls := "SettlerColony$Party", name := "set", desc := "(LSettlerColony$Party;)V" } : Jvm.MethodName)) ∈ lw_all := lw_g (lw_at lw_m6 161 rfl) rfl
theorem q1491 : (Jvm.Cond.methodLink "SettlerColony$World" (180 : Nat) ({ cls := "SettlerColony$Law", name := "<init>", desc := "(LSettlerColony$Text;)V" } : Jvm.MethodName)) ∈ lw_all := lw_g (lw_at lw_m6 167 rfl) rfl
theorem q1496 : (Jvm.Cond.fieldLinkNest "SettlerColony$World" (176 : Nat) "SettlerColony$Law" "text" "LSettlerColony$Text;" "SettlerColony") ∈ lw_tbl := lw_at lw_m6 172 rfl
theorem q1498 : (Jvm.Cond.fieldLinkNest "SettlerColony$World" (327 : Nat) "SettlerColony$Law" "is" "I" "SettlerColony") ∈ lw_tbl := lw_at lw_m6 174 rfl
theorem q1503 : (Jvm.Cond.fieldLinkNest "SettlerColony$World" (339 : Nat) "SettlerColony$Law" "until" "I" "SettlerColony") ∈ lw_tbl := lw_at lw_m6 179 rfl
theorem q1505 : (Jvm.Cond.fieldLinkNest "SettlerColony$World" (328 : Nat) "SettlerColony$Law" "read" "I" "SettlerColony") ∈ lw_tbl := lw_at lw_m6 181 rfl
theorem q1510 : (Jvm.Cond.fieldLinkNest "SettlerColony$World" (335 : Nat) "SettlerColony$Law" "saysYes" "Z" "SettlerColony") ∈ lw_tbl := lw_at lw_m6 186 rfl
theorem q1533 : (Jvm.Cond.methodLink "SettlerColony$World" (183 : Nat) ({ cls := "SettlerColony$Law", name := "set", desc := "(LSettlerColony$Law;)V" } : Jvm.MethodName)) ∈ lw_all := lw_g (lw_at lw_m6 209 rfl) rfl
theorem q1537 : (Jvm.Cond.classLink "SettlerColony$World" (186 : Nat) "SettlerColony$Bill") ∈ lw_all := lw_g (lw_at lw_m6 213 rfl) rfl
theorem q1539 : (Jvm.Cond.methodLink "SettlerColony$World" (194 : Nat) ({ cls := "SettlerColony$Bill", name := "<init>", desc := "(II)V" } : Jvm.MethodName)) ∈ lw_all := lw_g (lw_at lw_m6 215 rfl) rfl
theorem q1544 : (Jvm.Cond.fieldLinkNest "SettlerColony$World" (188 : Nat) "SettlerColony$Bill" "sum" "I" "SettlerColony") ∈ lw_tbl := lw_at lw_m6 220 rfl
theorem q1546 : (Jvm.Cond.fieldLinkNest "SettlerColony$World" (191 : Nat) "SettlerColony$Bill" "sent" "I" "SettlerColony") ∈ lw_tbl := lw_at lw_m6 222 rfl
theorem q1548 : (Jvm.Cond.fieldLinkNest "SettlerColony$World" (363 : Nat) "SettlerColony$Bill" "hands" "I" "SettlerColony") ∈ lw_tbl := lw_at lw_m6 224 rfl
theorem q1551 : (Jvm.Cond.fieldLinkNest "SettlerColony$World" (362 : Nat) "SettlerColony$Bill" "is" "I" "SettlerColony") ∈ lw_tbl := lw_at lw_m6 227 rfl
theorem q1562 : (Jvm.Cond.methodLink "SettlerColony$World" (197 : Nat) ({ cls := "SettlerColony$Bill", name := "set", desc := "(LSettlerColony$Bill;)V" } : Jvm.MethodName)) ∈ lw_all := lw_g (lw_at lw_m6 238 rfl) rfl
theorem q1567 : (Jvm.Cond.privateMethod ({ cls := "SettlerColony$World", name := "surveys", desc := "(LSettlerColony$Party;)V" } : Jvm.MethodName)) ∈ lw_tbl := lw_at lw_m7 3 rfl
theorem q1568 : (Jvm.Cond.instanceMethod ({ cls := "SettlerColony$World", name := "surveys", desc := "(LSettlerColony$Party;)V" } : Jvm.MethodName)) ∈ lw_all := lw_g (lw_at lw_m7 4 rfl) rfl
theorem q1569 : (Jvm.Cond.code ({ cls := "SettlerColony$World", name := "surveys", desc := "(LSettlerColony$Party;)V" } : Jvm.MethodName) prog_33_method_25_code (5 : Nat) (Option.none : Option Jvm.ClassFile.FieldType)) ∈ lw_all := lw_g (lw_at lw_m7 5 rfl) rfl
theorem q1570 : (Jvm.Cond.methodLink "SettlerColony$World" (373 : Nat) ({ cls := "SettlerColony$Slot", name := "isWild", desc := "()Z" } : Jvm.MethodName)) ∈ lw_all := lw_g (lw_at lw_m7 6 rfl) rfl
theorem q1571 : (Jvm.Cond.methodLink "SettlerColony$World" (376 : Nat) ({ cls := "SettlerColony$Party", name := "passes", desc := "()V" } : Jvm.MethodName)) ∈ lw_all := lw_g (lw_at lw_m7 7 rfl) rfl
theorem q1575 : (Jvm.Cond.methodLink "SettlerColony$World" (381 : Nat) ({ cls := "SettlerColony$World", name := "distance", desc := "(II)I" } : Jvm.MethodName)) ∈ lw_all := lw_g (lw_at lw_m7 11 rfl) rfl
theorem q1576 : (Jvm.Cond.static ({ cls := "SettlerColony$World", name := "distance", desc := "(II)I" } : Jvm.MethodName)) ∈ lw_all := lw_g (lw_at lw_m7 12 rfl) rfl
theorem q1577 : (Jvm.Cond.code ({ cls := "SettlerColony$World", name := "distance", desc := "(II)I" } : Jvm.MethodName) prog_33_method_24_code (2 : Nat) (Option.some Jvm.ClassFile.FieldType.int)) ∈ lw_all := lw_g (lw_at lw_m7 13 rfl) rfl
theorem q1578 : (Jvm.Cond.methodLink "SettlerColony$World" (364 : Nat) ({ cls := "java/lang/Math", name := "abs", desc := "(I)I" } : Jvm.MethodName)) ∈ lw_all := lw_g (lw_at lw_m7 14 rfl) rfl
theorem q1581 : (Jvm.Cond.methodLink "SettlerColony$World" (384 : Nat) ({ cls := "SettlerColony$World", name := "nearer", desc := "(III)I" } : Jvm.MethodName)) ∈ lw_all := lw_g (lw_at lw_m7 17 rfl) rfl
theorem q1582 : (Jvm.Cond.static ({ cls := "SettlerColony$World", name := "nearer", desc := "(III)I" } : Jvm.MethodName)) ∈ lw_all := lw_g (lw_at lw_m7 18 rfl) rfl
theorem q1583 : (Jvm.Cond.code ({ cls := "SettlerColony$World", name := "nearer", desc := "(III)I" } : Jvm.MethodName) prog_33_method_26_code (6 : Nat) (Option.some Jvm.ClassFile.FieldType.int)) ∈ lw_all := lw_g (lw_at lw_m7 19 rfl) rfl
theorem q1637 : (Jvm.Cond.selects "SettlerColony$World" ({ cls := "java/lang/Object", name := "equals", desc := "(Ljava/lang/Object;)Z" } : Jvm.MethodName) ({ cls := "java/lang/Object", name := "equals", desc := "(Ljava/lang/Object;)Z" } : Jvm.MethodName)) ∈ lw_all := lw_g (lw_at lw_m7 73 rfl) rfl
theorem q1704 : (Jvm.Cond.instanceMethod ({ cls := "SettlerColony$World", name := "sells", desc := "(LSettlerColony$Person;I)I" } : Jvm.MethodName)) ∈ lw_all := lw_g (lw_at lw_m7 140 rfl) rfl
theorem q1705 : (Jvm.Cond.selects "SettlerColony$World" ({ cls := "SettlerColony$World", name := "sells", desc := "(LSettlerColony$Person;I)I" } : Jvm.MethodName) ({ cls := "SettlerColony$World", name := "sells", desc := "(LSettlerColony$Person;I)I" } : Jvm.MethodName)) ∈ lw_all := lw_g (lw_at lw_m7 141 rfl) rfl
theorem q1706 : (Jvm.Cond.code ({ cls := "SettlerColony$World", name := "sells", desc := "(LSettlerColony$Person;I)I" } : Jvm.MethodName) prog_33_method_18_code (6 : Nat) (Option.some Jvm.ClassFile.FieldType.int)) ∈ lw_all := lw_g (lw_at lw_m7 142 rfl) rfl
theorem q1707 : (Jvm.Cond.methodLink "SettlerColony$World" (286 : Nat) ({ cls := "SettlerColony$World", name := "means", desc := "(II)I" } : Jvm.MethodName)) ∈ lw_all := lw_g (lw_at lw_m7 143 rfl) rfl
theorem q1708 : (Jvm.Cond.instanceMethod ({ cls := "SettlerColony$World", name := "means", desc := "(II)I" } : Jvm.MethodName)) ∈ lw_all := lw_g (lw_at lw_m7 144 rfl) rfl
theorem q1709 : (Jvm.Cond.selects "SettlerColony$World" ({ cls := "SettlerColony$World", name := "means", desc := "(II)I" } : Jvm.MethodName) ({ cls := "SettlerColony$World", name := "means", desc := "(II)I" } : Jvm.MethodName)) ∈ lw_all := lw_g (lw_at lw_m7 145 rfl) rfl
theorem q1710 : (Jvm.Cond.code ({ cls := "SettlerColony$World", name := "means", desc := "(II)I" } : Jvm.MethodName) prog_33_method_14_code (4 : Nat) (Option.some Jvm.ClassFile.FieldType.int)) ∈ lw_all := lw_g (lw_at lw_m7 146 rfl) rfl
theorem q1711 : (Jvm.Cond.methodLink "SettlerColony$World" (245 : Nat) ({ cls := "SettlerColony$World", name := "why", desc := "(I)I" } : Jvm.MethodName)) ∈ lw_all := lw_g (lw_at lw_m7 147 rfl) rfl
theorem q1712 : (Jvm.Cond.instanceMethod ({ cls := "SettlerColony$World", name := "why", desc := "(I)I" } : Jvm.MethodName)) ∈ lw_all := lw_g (lw_at lw_m7 148 rfl) rfl
theorem q1713 : (Jvm.Cond.selects "SettlerColony$World" ({ cls := "SettlerColony$World", name := "why", desc := "(I)I" } : Jvm.MethodName) ({ cls := "SettlerColony$World", name := "why", desc := "(I)I" } : Jvm.MethodName)) ∈ lw_all := lw_g (lw_at lw_m7 149 rfl) rfl
theorem q1714 : (Jvm.Cond.code ({ cls := "SettlerColony$World", name := "why", desc := "(I)I" } : Jvm.MethodName) prog_33_method_13_code (3 : Nat) (Option.some Jvm.ClassFile.FieldType.int)) ∈ lw_all := lw_g (lw_at lw_m7 150 rfl) rfl
theorem q1715 : (Jvm.Cond.methodLink "SettlerColony$World" (236 : Nat) ({ cls := "SettlerColony$Law", name := "isIn", desc := "()Z" } : Jvm.MethodName)) ∈ lw_all := lw_g (lw_at lw_m7 151 rfl) rfl
theorem q1719 : (Jvm.Cond.methodLink "SettlerColony$World" (251 : Nat) ({ cls := "SettlerColony$World", name := "farms", desc := "()I" } : Jvm.MethodName)) ∈ lw_all := lw_g (lw_at lw_m7 155 rfl) rfl
theorem q1720 : (Jvm.Cond.methodLink "SettlerColony$World" (254 : Nat) ({ cls := "SettlerColony$World", name := "here", desc := "()I" } : Jvm.MethodName)) ∈ lw_all := lw_g (lw_at lw_m7 156 rfl) rfl
theorem q1721 : (Jvm.Cond.classLink "SettlerColony$World" (292 : Nat) "SettlerColony$Country") ∈ lw_all := lw_g (lw_at lw_m7 157 rfl) rfl
theorem q1723 : (Jvm.Cond.methodLink "SettlerColony$World" (294 : Nat) ({ cls := "SettlerColony$Country", name := "<init>", desc := "(III)V" } : Jvm.MethodName)) ∈ lw_all := lw_g (lw_at lw_m7 159 rfl) rfl
theorem q1737 : (Jvm.Cond.methodLink "SettlerColony$World" (295 : Nat) ({ cls := "SettlerColony$World", name := "settles", desc := "(LSettlerColony$Person;ILSettlerColony$Holding;)V" } : Jvm.MethodName)) ∈ lw_all := lw_g (lw_at lw_m7 173 rfl) rfl
theorem q1738 : (Jvm.Cond.instanceMethod ({ cls := "SettlerColony$World", name := "settles", desc := "(LSettlerColony$Person;ILSettlerColony$Holding;)V" } : Jvm.MethodName)) ∈ lw_all := lw_g (lw_at lw_m7 174 rfl) rfl
theorem q1739 : (Jvm.Cond.selects "SettlerColony$World" ({ cls := "SettlerColony$World", name := "settles", desc := "(LSettlerColony$Person;ILSettlerColony$Holding;)V" } : Jvm.MethodName) ({ cls := "SettlerColony$World", name := "settles", desc := "(LSettlerColony$Person;ILSettlerColony$Holding;)V" } : Jvm.MethodName)) ∈ lw_all := lw_g (lw_at lw_m7 175 rfl) rfl
theorem q1740 : (Jvm.Cond.code ({ cls := "SettlerColony$World", name := "settles", desc := "(LSettlerColony$Person;ILSettlerColony$Holding;)V" } : Jvm.MethodName) prog_33_method_15_code (4 : Nat) (Option.none : Option Jvm.ClassFile.FieldType)) ∈ lw_all := lw_g (lw_at lw_m7 176 rfl) rfl
theorem q1741 : (Jvm.Cond.methodLink "SettlerColony$World" (269 : Nat) ({ cls := "SettlerColony$World", name := "leaves", desc := "(LSettlerColony$Person;)V" } : Jvm.MethodName)) ∈ lw_all := lw_g (lw_at lw_m7 177 rfl) rfl
theorem q1742 : (Jvm.Cond.instanceMethod ({ cls := "SettlerColony$World", name := "leaves", desc := "(LSettlerColony$Person;)V" } : Jvm.MethodName)) ∈ lw_all := lw_g (lw_at lw_m7 178 rfl) rfl
theorem q1743 : (Jvm.Cond.selects "SettlerColony$World" ({ cls := "SettlerColony$World", name := "leaves", desc := "(LSettlerColony$Person;)V" } : Jvm.MethodName) ({ cls := "SettlerColony$World", name := "leaves", desc := "(LSettlerColony$Person;)V" } : Jvm.MethodName)) ∈ lw_all := lw_g (lw_at lw_m7 179 rfl) rfl
theorem q1744 : (Jvm.Cond.code ({ cls := "SettlerColony$World", name := "leaves", desc := "(LSettlerColony$Person;)V" } : Jvm.MethodName) prog_33_method_16_code (2 : Nat) (Option.none : Option Jvm.ClassFile.FieldType)) ∈ lw_all := lw_g (lw_at lw_m7 180 rfl) rfl
theorem q1888 : (Jvm.Cond.fieldLinkNest "SettlerColony$World" (239 : Nat) "SettlerColony$Text" "told" "[LSettlerColony$Expr;" "SettlerColony") ∈ lw_tbl := lw_at lw_m8 84 rfl
theorem q1890 : (Jvm.Cond.fieldLinkNest "SettlerColony$World" (342 : Nat) "SettlerColony$Text" "falls" "Z" "SettlerColony") ∈ lw_tbl := lw_at lw_m8 86 rfl
theorem q2350 : (Jvm.Cond.instanceMethod ({ cls := "SettlerColony$World", name := "passes", desc := "()V" } : Jvm.MethodName)) ∈ lw_all := lw_g (lw_at lw_m10 66 rfl) rfl
theorem q2351 : (Jvm.Cond.selects "SettlerColony$World" ({ cls := "SettlerColony$World", name := "passes", desc := "()V" } : Jvm.MethodName) ({ cls := "SettlerColony$World", name := "passes", desc := "()V" } : Jvm.MethodName)) ∈ lw_all := lw_g (lw_at lw_m10 67 rfl) rfl
theorem q2352 : (Jvm.Cond.code ({ cls := "SettlerColony$World", name := "passes", desc := "()V" } : Jvm.MethodName) prog_33_method_19_code (2 : Nat) (Option.none : Option Jvm.ClassFile.FieldType)) ∈ lw_all := lw_g (lw_at lw_m10 68 rfl) rfl
theorem q2353 : (Jvm.Cond.methodLink "SettlerColony$World" (299 : Nat) ({ cls := "SettlerColony$World", name := "lands", desc := "()V" } : Jvm.MethodName)) ∈ lw_all := lw_g (lw_at lw_m10 69 rfl) rfl
theorem q2354 : (Jvm.Cond.privateMethod ({ cls := "SettlerColony$World", name := "lands", desc := "()V" } : Jvm.MethodName)) ∈ lw_tbl := lw_at lw_m10 70 rfl
theorem q2355 : (Jvm.Cond.instanceMethod ({ cls := "SettlerColony$World", name := "lands", desc := "()V" } : Jvm.MethodName)) ∈ lw_all := lw_g (lw_at lw_m10 71 rfl) rfl
theorem q2356 : (Jvm.Cond.code ({ cls := "SettlerColony$World", name := "lands", desc := "()V" } : Jvm.MethodName) prog_33_method_20_code (2 : Nat) (Option.none : Option Jvm.ClassFile.FieldType)) ∈ lw_all := lw_g (lw_at lw_m10 72 rfl) rfl
theorem q2357 : (Jvm.Cond.methodLink "SettlerColony$World" (302 : Nat) ({ cls := "SettlerColony$World", name := "reads", desc := "()V" } : Jvm.MethodName)) ∈ lw_all := lw_g (lw_at lw_m10 73 rfl) rfl
theorem q2358 : (Jvm.Cond.privateMethod ({ cls := "SettlerColony$World", name := "reads", desc := "()V" } : Jvm.MethodName)) ∈ lw_tbl := lw_at lw_m10 74 rfl
theorem q2359 : (Jvm.Cond.instanceMethod ({ cls := "SettlerColony$World", name := "reads", desc := "()V" } : Jvm.MethodName)) ∈ lw_all := lw_g (lw_at lw_m10 75 rfl) rfl
theorem q2360 : (Jvm.Cond.code ({ cls := "SettlerColony$World", name := "reads", desc := "()V" } : Jvm.MethodName) prog_33_method_21_code (2 : Nat) (Option.none : Option Jvm.ClassFile.FieldType)) ∈ lw_all := lw_g (lw_at lw_m10 76 rfl) rfl
theorem q2361 : (Jvm.Cond.methodLink "SettlerColony$World" (331 : Nat) ({ cls := "SettlerColony$World", name := "reads", desc := "(I)V" } : Jvm.MethodName)) ∈ lw_all := lw_g (lw_at lw_m10 77 rfl) rfl
theorem q2362 : (Jvm.Cond.privateMethod ({ cls := "SettlerColony$World", name := "reads", desc := "(I)V" } : Jvm.MethodName)) ∈ lw_tbl := lw_at lw_m10 78 rfl
theorem q2363 : (Jvm.Cond.instanceMethod ({ cls := "SettlerColony$World", name := "reads", desc := "(I)V" } : Jvm.MethodName)) ∈ lw_all := lw_g (lw_at lw_m10 79 rfl) rfl
theorem q2364 : (Jvm.Cond.code ({ cls := "SettlerColony$World", name := "reads", desc := "(I)V" } : Jvm.MethodName) prog_33_method_22_code (5 : Nat) (Option.none : Option Jvm.ClassFile.FieldType)) ∈ lw_all := lw_g (lw_at lw_m10 80 rfl) rfl
theorem q2365 : (Jvm.Cond.methodLink "SettlerColony$World" (345 : Nat) ({ cls := "SettlerColony$Slot", name := "farm", desc := "()LSettlerColony$Country;" } : Jvm.MethodName)) ∈ lw_all := lw_g (lw_at lw_m10 81 rfl) rfl
theorem q2370 : (Jvm.Cond.methodLink "SettlerColony$World" (349 : Nat) ({ cls := "SettlerColony$Country", name := "isBy", desc := "(I)Z" } : Jvm.MethodName)) ∈ lw_all := lw_g (lw_at lw_m10 86 rfl) rfl
theorem q2378 : (Jvm.Cond.methodLink "SettlerColony$World" (353 : Nat) ({ cls := "SettlerColony$Country", name := "holder", desc := "()I" } : Jvm.MethodName)) ∈ lw_all := lw_g (lw_at lw_m10 94 rfl) rfl
theorem q2379 : (Jvm.Cond.methodLink "SettlerColony$World" (354 : Nat) ({ cls := "SettlerColony$Country", name := "paid", desc := "()I" } : Jvm.MethodName)) ∈ lw_all := lw_g (lw_at lw_m10 95 rfl) rfl
theorem q2380 : (Jvm.Cond.methodLink "SettlerColony$World" (357 : Nat) ({ cls := "SettlerColony$Person", name := "gets", desc := "(I)V" } : Jvm.MethodName)) ∈ lw_all := lw_g (lw_at lw_m10 96 rfl) rfl
theorem q2386 : (Jvm.Cond.methodLink "SettlerColony$World" (360 : Nat) ({ cls := "SettlerColony$World", name := "falls", desc := "(I)V" } : Jvm.MethodName)) ∈ lw_all := lw_g (lw_at lw_m10 102 rfl) rfl
theorem q2387 : (Jvm.Cond.instanceMethod ({ cls := "SettlerColony$World", name := "falls", desc := "(I)V" } : Jvm.MethodName)) ∈ lw_all := lw_g (lw_at lw_m10 103 rfl) rfl
theorem q2388 : (Jvm.Cond.selects "SettlerColony$World" ({ cls := "SettlerColony$World", name := "falls", desc := "(I)V" } : Jvm.MethodName) ({ cls := "SettlerColony$World", name := "falls", desc := "(I)V" } : Jvm.MethodName)) ∈ lw_all := lw_g (lw_at lw_m10 104 rfl) rfl
theorem q2389 : (Jvm.Cond.code ({ cls := "SettlerColony$World", name := "falls", desc := "(I)V" } : Jvm.MethodName) prog_33_method_17_code (4 : Nat) (Option.none : Option Jvm.ClassFile.FieldType)) ∈ lw_all := lw_g (lw_at lw_m10 105 rfl) rfl
theorem q2390 : (Jvm.Cond.methodLink "SettlerColony$World" (333 : Nat) ({ cls := "SettlerColony$World", name := "reads", desc := "(LSettlerColony$Bill;)V" } : Jvm.MethodName)) ∈ lw_all := lw_g (lw_at lw_m10 106 rfl) rfl
theorem q2391 : (Jvm.Cond.privateMethod ({ cls := "SettlerColony$World", name := "reads", desc := "(LSettlerColony$Bill;)V" } : Jvm.MethodName)) ∈ lw_tbl := lw_at lw_m10 107 rfl
theorem q2392 : (Jvm.Cond.instanceMethod ({ cls := "SettlerColony$World", name := "reads", desc := "(LSettlerColony$Bill;)V" } : Jvm.MethodName)) ∈ lw_all := lw_g (lw_at lw_m10 108 rfl) rfl
theorem q2393 : (Jvm.Cond.code ({ cls := "SettlerColony$World", name := "reads", desc := "(LSettlerColony$Bill;)V" } : Jvm.MethodName) prog_33_method_23_code (2 : Nat) (Option.none : Option Jvm.ClassFile.FieldType)) ∈ lw_all := lw_g (lw_at lw_m10 109 rfl) rfl
theorem q2394 : (Jvm.Cond.methodLink "SettlerColony$World" (305 : Nat) ({ cls := "SettlerColony$World", name := "surveys", desc := "(LSettlerColony$Party;)V" } : Jvm.MethodName)) ∈ lw_all := lw_g (lw_at lw_m10 110 rfl) rfl
theorem q2395 : (Jvm.Cond.methodLink "SettlerColony$World" (308 : Nat) ({ cls := "SettlerColony$World", name := "works", desc := "()V" } : Jvm.MethodName)) ∈ lw_all := lw_g (lw_at lw_m10 111 rfl) rfl
theorem q2396 : (Jvm.Cond.privateMethod ({ cls := "SettlerColony$World", name := "works", desc := "()V" } : Jvm.MethodName)) ∈ lw_tbl := lw_at lw_m10 112 rfl
theorem q2397 : (Jvm.Cond.instanceMethod ({ cls := "SettlerColony$World", name := "works", desc := "()V" } : Jvm.MethodName)) ∈ lw_all := lw_g (lw_at lw_m10 113 rfl) rfl
theorem q2398 : (Jvm.Cond.code ({ cls := "SettlerColony$World", name := "works", desc := "()V" } : Jvm.MethodName) prog_33_method_28_code (3 : Nat) (Option.none : Option Jvm.ClassFile.FieldType)) ∈ lw_all := lw_g (lw_at lw_m10 114 rfl) rfl
theorem q2399 : (Jvm.Cond.methodLink "SettlerColony$World" (394 : Nat) ({ cls := "SettlerColony$World", name := "isPaid", desc := "(LSettlerColony$Person;)V" } : Jvm.MethodName)) ∈ lw_all := lw_g (lw_at lw_m10 115 rfl) rfl
theorem q2400 : (Jvm.Cond.privateMethod ({ cls := "SettlerColony$World", name := "isPaid", desc := "(LSettlerColony$Person;)V" } : Jvm.MethodName)) ∈ lw_tbl := lw_at lw_m10 116 rfl
theorem q2401 : (Jvm.Cond.instanceMethod ({ cls := "SettlerColony$World", name := "isPaid", desc := "(LSettlerColony$Person;)V" } : Jvm.MethodName)) ∈ lw_all := lw_g (lw_at lw_m10 117 rfl) rfl
theorem q2402 : (Jvm.Cond.code ({ cls := "SettlerColony$World", name := "isPaid", desc := "(LSettlerColony$Person;)V" } : Jvm.MethodName) prog_33_method_29_code (4 : Nat) (Option.none : Option Jvm.ClassFile.FieldType)) ∈ lw_all := lw_g (lw_at lw_m10 118 rfl) rfl
theorem q2403 : (Jvm.Cond.methodLink "SettlerColony$World" (397 : Nat) ({ cls := "SettlerColony$World", name := "wants", desc := "(LSettlerColony$Person;)V" } : Jvm.MethodName)) ∈ lw_all := lw_g (lw_at lw_m10 119 rfl) rfl
theorem q2404 : (Jvm.Cond.privateMethod ({ cls := "SettlerColony$World", name := "wants", desc := "(LSettlerColony$Person;)V" } : Jvm.MethodName)) ∈ lw_tbl := lw_at lw_m10 120 rfl
theorem q2405 : (Jvm.Cond.instanceMethod ({ cls := "SettlerColony$World", name := "wants", desc := "(LSettlerColony$Person;)V" } : Jvm.MethodName)) ∈ lw_all := lw_g (lw_at lw_m10 121 rfl) rfl
theorem q2406 : (Jvm.Cond.code ({ cls := "SettlerColony$World", name := "wants", desc := "(LSettlerColony$Person;)V" } : Jvm.MethodName) prog_33_method_30_code (3 : Nat) (Option.none : Option Jvm.ClassFile.FieldType)) ∈ lw_all := lw_g (lw_at lw_m10 122 rfl) rfl
theorem q2407 : (Jvm.Cond.methodLink "SettlerColony$World" (404 : Nat) ({ cls := "SettlerColony$World", name := "bestLot", desc := "()I" } : Jvm.MethodName)) ∈ lw_all := lw_g (lw_at lw_m10 123 rfl) rfl
theorem q2408 : (Jvm.Cond.privateMethod ({ cls := "SettlerColony$World", name := "bestLot", desc := "()I" } : Jvm.MethodName)) ∈ lw_tbl := lw_at lw_m10 124 rfl
theorem q2409 : (Jvm.Cond.instanceMethod ({ cls := "SettlerColony$World", name := "bestLot", desc := "()I" } : Jvm.MethodName)) ∈ lw_all := lw_g (lw_at lw_m10 125 rfl) rfl
theorem q2410 : (Jvm.Cond.code ({ cls := "SettlerColony$World", name := "bestLot", desc := "()I" } : Jvm.MethodName) prog_33_method_27_code (3 : Nat) (Option.some Jvm.ClassFile.FieldType.int)) ∈ lw_all := lw_g (lw_at lw_m10 126 rfl) rfl
theorem q2411 : (Jvm.Cond.methodLink "SettlerColony$World" (388 : Nat) ({ cls := "SettlerColony$Slot", name := "isLot", desc := "()Z" } : Jvm.MethodName)) ∈ lw_all := lw_g (lw_at lw_m10 127 rfl) rfl
theorem q2412 : (Jvm.Cond.methodLink "SettlerColony$World" (391 : Nat) ({ cls := "SettlerColony$World", name := "promise", desc := "(I)I" } : Jvm.MethodName)) ∈ lw_all := lw_g (lw_at lw_m10 128 rfl) rfl
theorem q2413 : (Jvm.Cond.methodLink "SettlerColony$World" (407 : Nat) ({ cls := "SettlerColony$World", name := "sells", desc := "(LSettlerColony$Person;I)I" } : Jvm.MethodName)) ∈ lw_all := lw_g (lw_at lw_m10 129 rfl) rfl
theorem q2414 : (Jvm.Cond.methodLink "SettlerColony$World" (400 : Nat) ({ cls := "SettlerColony$World", name := "seeks", desc := "(LSettlerColony$Person;)V" } : Jvm.MethodName)) ∈ lw_all := lw_g (lw_at lw_m10 130 rfl) rfl
theorem q2415 : (Jvm.Cond.privateMethod ({ cls := "SettlerColony$World", name := "seeks", desc := "(LSettlerColony$Person;)V" } : Jvm.MethodName)) ∈ lw_tbl := lw_at lw_m10 131 rfl
theorem q2416 : (Jvm.Cond.instanceMethod ({ cls := "SettlerColony$World", name := "seeks", desc := "(LSettlerColony$Person;)V" } : Jvm.MethodName)) ∈ lw_all := lw_g (lw_at lw_m10 132 rfl) rfl
theorem q2417 : (Jvm.Cond.code ({ cls := "SettlerColony$World", name := "seeks", desc := "(LSettlerColony$Person;)V" } : Jvm.MethodName) prog_33_method_31_code (6 : Nat) (Option.none : Option Jvm.ClassFile.FieldType)) ∈ lw_all := lw_g (lw_at lw_m10 133 rfl) rfl
theorem q2418 : (Jvm.Cond.methodLink "SettlerColony$World" (311 : Nat) ({ cls := "SettlerColony$Rains", name := "fell", desc := "(II)I" } : Jvm.MethodName)) ∈ lw_all := lw_g (lw_at lw_m10 134 rfl) rfl
theorem q2419 : (Jvm.Cond.methodLink "SettlerColony$World" (314 : Nat) ({ cls := "SettlerColony$World", name := "strays", desc := "()V" } : Jvm.MethodName)) ∈ lw_all := lw_g (lw_at lw_m10 135 rfl) rfl
theorem q2420 : (Jvm.Cond.privateMethod ({ cls := "SettlerColony$World", name := "strays", desc := "()V" } : Jvm.MethodName)) ∈ lw_tbl := lw_at lw_m10 136 rfl
theorem q2421 : (Jvm.Cond.instanceMethod ({ cls := "SettlerColony$World", name := "strays", desc := "()V" } : Jvm.MethodName)) ∈ lw_all := lw_g (lw_at lw_m10 137 rfl) rfl
theorem q2422 : (Jvm.Cond.code ({ cls := "SettlerColony$World", name := "strays", desc := "()V" } : Jvm.MethodName) prog_33_method_32_code (7 : Nat) (Option.none : Option Jvm.ClassFile.FieldType)) ∈ lw_all := lw_g (lw_at lw_m10 138 rfl) rfl
theorem q2423 : (Jvm.Cond.methodLink "SettlerColony$World" (411 : Nat) ({ cls := "SettlerColony$Slot", name := "pasture", desc := "()LSettlerColony$Run;" } : Jvm.MethodName)) ∈ lw_all := lw_g (lw_at lw_m10 139 rfl) rfl
theorem q2424 : (Jvm.Cond.methodLink "SettlerColony$World" (415 : Nat) ({ cls := "SettlerColony$Run", name := "holder", desc := "()I" } : Jvm.MethodName)) ∈ lw_all := lw_g (lw_at lw_m10 140 rfl) rfl
theorem q2425 : (Jvm.Cond.methodLink "SettlerColony$World" (418 : Nat) ({ cls := "SettlerColony$World", name := "straysTo", desc := "(II)I" } : Jvm.MethodName)) ∈ lw_all := lw_g (lw_at lw_m10 141 rfl) rfl
theorem q2426 : (Jvm.Cond.privateMethod ({ cls := "SettlerColony$World", name := "straysTo", desc := "(II)I" } : Jvm.MethodName)) ∈ lw_tbl := lw_at lw_m10 142 rfl
theorem q2427 : (Jvm.Cond.instanceMethod ({ cls := "SettlerColony$World", name := "straysTo", desc := "(II)I" } : Jvm.MethodName)) ∈ lw_all := lw_g (lw_at lw_m10 143 rfl) rfl
theorem q2428 : (Jvm.Cond.code ({ cls := "SettlerColony$World", name := "straysTo", desc := "(II)I" } : Jvm.MethodName) prog_33_method_33_code (5 : Nat) (Option.some Jvm.ClassFile.FieldType.int)) ∈ lw_all := lw_g (lw_at lw_m10 144 rfl) rfl
theorem q2429 : (Jvm.Cond.methodLinkNest "SettlerColony$World" (421 : Nat) ({ cls := "SettlerColony", name := "beside", desc := "(II)I" } : Jvm.MethodName) "SettlerColony") ∈ lw_tbl := lw_at lw_m10 145 rfl
theorem q2446 : (Jvm.Cond.methodLink "SettlerColony$World" (319 : Nat) ({ cls := "SettlerColony$World", name := "harvests", desc := "()V" } : Jvm.MethodName)) ∈ lw_all := lw_g (lw_at lw_m10 162 rfl) rfl
theorem q2447 : (Jvm.Cond.privateMethod ({ cls := "SettlerColony$World", name := "harvests", desc := "()V" } : Jvm.MethodName)) ∈ lw_tbl := lw_at lw_m10 163 rfl
theorem q2448 : (Jvm.Cond.instanceMethod ({ cls := "SettlerColony$World", name := "harvests", desc := "()V" } : Jvm.MethodName)) ∈ lw_all := lw_g (lw_at lw_m10 164 rfl) rfl
theorem q2449 : (Jvm.Cond.code ({ cls := "SettlerColony$World", name := "harvests", desc := "()V" } : Jvm.MethodName) prog_33_method_34_code (5 : Nat) (Option.none : Option Jvm.ClassFile.FieldType)) ∈ lw_all := lw_g (lw_at lw_m10 165 rfl) rfl
theorem q2450 : (Jvm.Cond.methodLink "SettlerColony$World" (424 : Nat) ({ cls := "SettlerColony$World", name := "band", desc := "(I)I" } : Jvm.MethodName)) ∈ lw_all := lw_g (lw_at lw_m10 166 rfl) rfl
theorem q2451 : (Jvm.Cond.static ({ cls := "SettlerColony$World", name := "band", desc := "(I)I" } : Jvm.MethodName)) ∈ lw_all := lw_g (lw_at lw_m10 167 rfl) rfl
theorem q2452 : (Jvm.Cond.code ({ cls := "SettlerColony$World", name := "band", desc := "(I)I" } : Jvm.MethodName) prog_33_method_35_code (1 : Nat) (Option.some Jvm.ClassFile.FieldType.int)) ∈ lw_all := lw_g (lw_at lw_m10 168 rfl) rfl
theorem q2453 : (Jvm.Cond.methodLink "SettlerColony$World" (322 : Nat) ({ cls := "SettlerColony$World", name := "writes", desc := "()V" } : Jvm.MethodName)) ∈ lw_all := lw_g (lw_at lw_m10 169 rfl) rfl
theorem q2454 : (Jvm.Cond.privateMethod ({ cls := "SettlerColony$World", name := "writes", desc := "()V" } : Jvm.MethodName)) ∈ lw_tbl := lw_at lw_m10 170 rfl
theorem q2455 : (Jvm.Cond.instanceMethod ({ cls := "SettlerColony$World", name := "writes", desc := "()V" } : Jvm.MethodName)) ∈ lw_all := lw_g (lw_at lw_m10 171 rfl) rfl
theorem q2456 : (Jvm.Cond.code ({ cls := "SettlerColony$World", name := "writes", desc := "()V" } : Jvm.MethodName) prog_33_method_36_code (2 : Nat) (Option.none : Option Jvm.ClassFile.FieldType)) ∈ lw_all := lw_g (lw_at lw_m10 172 rfl) rfl
theorem q2477 : (Jvm.Cond.instanceMethod ({ cls := "SettlerColony$World", name := "hired", desc := "()I" } : Jvm.MethodName)) ∈ lw_all := lw_g (lw_at lw_m10 193 rfl) rfl
theorem q2478 : (Jvm.Cond.selects "SettlerColony$World" ({ cls := "SettlerColony$World", name := "hired", desc := "()I" } : Jvm.MethodName) ({ cls := "SettlerColony$World", name := "hired", desc := "()I" } : Jvm.MethodName)) ∈ lw_all := lw_g (lw_at lw_m10 194 rfl) rfl
theorem q2479 : (Jvm.Cond.code ({ cls := "SettlerColony$World", name := "hired", desc := "()I" } : Jvm.MethodName) prog_33_method_9_code (3 : Nat) (Option.some Jvm.ClassFile.FieldType.int)) ∈ lw_all := lw_g (lw_at lw_m10 195 rfl) rfl
theorem q3240 : (Jvm.Cond.castable "SettlerColony$World" "java/lang/Object") ∈ lw_tbl := lw_at lw_m13 236 rfl
theorem in_X2 : ∀ w ∈ wsX20, w ∈ lw_all := lw_in wsX20 [783, 785, 787, 789, 791, 793, 795, 797, 799, 801, 803, 805, 807, 809, 811, 813, 815, 817, 819, 821, 823, 825, 827, 829, 831, 833, 835, 837, 839, 841, 843, 845] (by decide +kernel) (by decide +kernel)
/-! SettlerColony$Wrong -/
def RX20 : String := "SettlerColony$Wrong"
def TX20 : u_T := fun k => match k with
  | 0 => ("java/lang/Throwable", "cause", "Ljava/lang/Throwable;", false)
  | 1 => ("java/lang/Throwable", "stackTrace", "[Ljava/lang/StackTraceElement;", false)
  | 2 => ("java/lang/Throwable", "suppressedExceptions", "Ljava/util/List;", false)
  | 3 => ("java/lang/Throwable", "detailMessage", "Ljava/lang/String;", false)
  | 4 => ("java/lang/Throwable", "backtrace", "Ljava/lang/Object;", false)
  | 5 => ("java/lang/Throwable", "depth", "I", false)
  | 6 => ("SettlerColony$Wrong", "kind", "I", true)
  | _ => ("SettlerColony$Wrong", "place", "I", true)
def tyX20 : Nat → FieldType := fun k => match k with
  | 0 => .object "java/lang/Throwable"
  | 1 => .array (.object "java/lang/StackTraceElement")
  | 2 => .object "java/util/List"
  | 3 => .object "java/lang/String"
  | 4 => .object "java/lang/Object"
  | 5 => .int
  | 6 => .int
  | _ => .int
abbrev wsX200 : List Cond := u_ws RX20 TX20 8
theorem nmX20 : ∀ a, a < 8 → ∀ b, b < 8 → a ≠ b → (TX20 a).2.1 ≠ (TX20 b).2.1 := by decide +kernel
theorem tyX20_ok : ∀ k, k < 8 → parseFieldDescriptor (TX20 k).2.2.1 = some (tyX20 k) := by decide +kernel
abbrev cX20_init : ByteArray := prog_34_method_1_code
def yX20_init : MethodName := ⟨RX20, "<init>", "(II)V"⟩
theorem q169 : (Jvm.Cond.initialized "SettlerColony$Wrong") ∈ lw_all := lw_g (lw_at lw_m1 45 rfl) rfl
theorem q244 : (Jvm.Cond.selects "SettlerColony$Wrong" ({ cls := "java/lang/Throwable", name := "fillInStackTrace", desc := "()Ljava/lang/Throwable;" } : Jvm.MethodName) ({ cls := "java/lang/Throwable", name := "fillInStackTrace", desc := "()Ljava/lang/Throwable;" } : Jvm.MethodName)) ∈ lw_all := lw_g (lw_at lw_m1 120 rfl) rfl
theorem q683 : (Jvm.Cond.selects "SettlerColony$Wrong" ({ cls := "java/lang/Object", name := "getClass", desc := "()Ljava/lang/Class;" } : Jvm.MethodName) ({ cls := "java/lang/Object", name := "getClass", desc := "()Ljava/lang/Class;" } : Jvm.MethodName)) ∈ lw_all := lw_g (lw_at lw_m3 79 rfl) rfl
theorem q1638 : (Jvm.Cond.selects "SettlerColony$Wrong" ({ cls := "java/lang/Object", name := "equals", desc := "(Ljava/lang/Object;)Z" } : Jvm.MethodName) ({ cls := "java/lang/Object", name := "equals", desc := "(Ljava/lang/Object;)Z" } : Jvm.MethodName)) ∈ lw_all := lw_g (lw_at lw_m7 74 rfl) rfl
theorem q2007 : (Jvm.Cond.instantiable "SettlerColony$Wrong" (8 : Nat)) ∈ lw_all := lw_g (lw_at lw_m8 203 rfl) rfl
theorem q2008 : (Jvm.Cond.castable "SettlerColony$Wrong" "SettlerColony$Wrong") ∈ lw_tbl := lw_at lw_m8 204 rfl
theorem q2009 : (Jvm.Cond.selects "SettlerColony$Wrong" ({ cls := "java/lang/Throwable", name := "fillInStackTrace", desc := "(I)Ljava/lang/Throwable;" } : Jvm.MethodName) ({ cls := "java/lang/Throwable", name := "fillInStackTrace", desc := "(I)Ljava/lang/Throwable;" } : Jvm.MethodName)) ∈ lw_all := lw_g (lw_at lw_m8 205 rfl) rfl
theorem q2010 : (Jvm.Cond.lays "SettlerColony$Wrong" "java/lang/Throwable" "cause" "Ljava/lang/Throwable;") ∈ lw_all := lw_g (lw_at lw_m8 206 rfl) rfl
theorem q2011 : (Jvm.Cond.lays "SettlerColony$Wrong" "java/lang/Throwable" "stackTrace" "[Ljava/lang/StackTraceElement;") ∈ lw_all := lw_g (lw_at lw_m8 207 rfl) rfl
theorem q2012 : (Jvm.Cond.lays "SettlerColony$Wrong" "java/lang/Throwable" "suppressedExceptions" "Ljava/util/List;") ∈ lw_all := lw_g (lw_at lw_m8 208 rfl) rfl
theorem q2013 : (Jvm.Cond.lays "SettlerColony$Wrong" "java/lang/Throwable" "detailMessage" "Ljava/lang/String;") ∈ lw_all := lw_g (lw_at lw_m8 209 rfl) rfl
theorem q2014 : (Jvm.Cond.lays "SettlerColony$Wrong" "java/lang/Throwable" "backtrace" "Ljava/lang/Object;") ∈ lw_all := lw_g (lw_at lw_m8 210 rfl) rfl
theorem q2016 : (Jvm.Cond.instanceMethod ({ cls := "SettlerColony$Wrong", name := "<init>", desc := "(II)V" } : Jvm.MethodName)) ∈ lw_all := lw_g (lw_at lw_m8 212 rfl) rfl
theorem q2017 : (Jvm.Cond.code ({ cls := "SettlerColony$Wrong", name := "<init>", desc := "(II)V" } : Jvm.MethodName) prog_34_method_1_code (3 : Nat) (Option.none : Option Jvm.ClassFile.FieldType)) ∈ lw_all := lw_g (lw_at lw_m8 213 rfl) rfl
theorem q2018 : (Jvm.Cond.methodLink "SettlerColony$Wrong" (1 : Nat) ({ cls := "java/lang/Exception", name := "<init>", desc := "(Ljava/lang/String;Ljava/lang/Throwable;ZZ)V" } : Jvm.MethodName)) ∈ lw_all := lw_g (lw_at lw_m8 214 rfl) rfl
theorem q2024 : (Jvm.Cond.fieldLink "SettlerColony$Wrong" (7 : Nat) "SettlerColony$Wrong" "kind" "I") ∈ lw_all := lw_g (lw_at lw_m8 220 rfl) rfl
theorem q2026 : (Jvm.Cond.fieldLink "SettlerColony$Wrong" (13 : Nat) "SettlerColony$Wrong" "place" "I") ∈ lw_all := lw_g (lw_at lw_m8 222 rfl) rfl
theorem q2028 : (Jvm.Cond.laysFinal "SettlerColony$Wrong" "SettlerColony$Wrong" "kind" "I") ∈ lw_all := lw_g (lw_at lw_m8 224 rfl) rfl
theorem q2029 : (Jvm.Cond.soleField "SettlerColony$Wrong" "kind") ∈ lw_all := lw_g (lw_at lw_m8 225 rfl) rfl
theorem q2030 : (Jvm.Cond.laysFinal "SettlerColony$Wrong" "SettlerColony$Wrong" "place" "I") ∈ lw_all := lw_g (lw_at lw_m8 226 rfl) rfl
theorem q2031 : (Jvm.Cond.soleField "SettlerColony$Wrong" "place") ∈ lw_all := lw_g (lw_at lw_m8 227 rfl) rfl
theorem q2032 : (Jvm.Cond.lays "SettlerColony$Wrong" "java/lang/Throwable" "depth" "I") ∈ lw_all := lw_g (lw_at lw_m8 228 rfl) rfl
theorem q2033 : (Jvm.Cond.superclass "SettlerColony$Wrong" "java/lang/Exception") ∈ lw_all := lw_g (lw_at lw_m8 229 rfl) rfl
theorem q3266 : (Jvm.Cond.castable "SettlerColony$Wrong" "java/lang/Object") ∈ lw_tbl := lw_at lw_m14 22 rfl
theorem in_X20 : ∀ w ∈ wsX200, w ∈ lw_all := lw_in wsX200 [2010, 2011, 2012, 2013, 2014, 2032, 2028, 2030] (by decide +kernel) (by decide +kernel)
/-! SettlerColony$Expr -/
def RX21 : String := "SettlerColony$Expr"
abbrev cX21_init : ByteArray := prog_13_method_1_code
def yX21_init : MethodName := ⟨RX21, "<init>", "()V"⟩
theorem q170 : (Jvm.Cond.initialized "SettlerColony$Expr") ∈ lw_all := lw_g (lw_at lw_m1 46 rfl) rfl
theorem q961 : (Jvm.Cond.declares ({ cls := "SettlerColony$Expr", name := "of", desc := "(LSettlerColony$Ask;)I" } : Jvm.MethodName)) ∈ lw_tbl := lw_at lw_m4 117 rfl
theorem q962 : (Jvm.Cond.sameMethod "SettlerColony$Expr" "SettlerColony$Expr" "of" "(LSettlerColony$Ask;)I") ∈ lw_all := lw_g (lw_at lw_m4 118 rfl) rfl
theorem q2072 : (Jvm.Cond.instanceMethod ({ cls := "SettlerColony$Expr", name := "<init>", desc := "()V" } : Jvm.MethodName)) ∈ lw_all := lw_g (lw_at lw_m9 28 rfl) rfl
theorem q2073 : (Jvm.Cond.code ({ cls := "SettlerColony$Expr", name := "<init>", desc := "()V" } : Jvm.MethodName) prog_13_method_1_code (1 : Nat) (Option.none : Option Jvm.ClassFile.FieldType)) ∈ lw_all := lw_g (lw_at lw_m9 29 rfl) rfl
theorem q2074 : (Jvm.Cond.methodLink "SettlerColony$Expr" (1 : Nat) ({ cls := "java/lang/Object", name := "<init>", desc := "()V" } : Jvm.MethodName)) ∈ lw_all := lw_g (lw_at lw_m9 30 rfl) rfl
theorem q3238 : (Jvm.Cond.castable "SettlerColony$Expr" "java/lang/Object") ∈ lw_tbl := lw_at lw_m13 234 rfl
/-! SettlerColony$Number -/
def RX22 : String := "SettlerColony$Number"
def TX22 : u_T := fun k => match k with
  | _ => ("SettlerColony$Number", "n", "I", true)
def tyX22 : Nat → FieldType := fun k => match k with
  | _ => .int
abbrev wsX220 : List Cond := u_ws RX22 TX22 1
theorem nmX22 : ∀ a, a < 1 → ∀ b, b < 1 → a ≠ b → (TX22 a).2.1 ≠ (TX22 b).2.1 := by decide +kernel
theorem tyX22_ok : ∀ k, k < 1 → parseFieldDescriptor (TX22 k).2.2.1 = some (tyX22 k) := by decide +kernel
abbrev cX22_of : ByteArray := prog_20_method_2_code
def yX22_of : MethodName := ⟨RX22, "of", "(LSettlerColony$Ask;)I"⟩
abbrev cX22_init : ByteArray := prog_20_method_1_code
def yX22_init : MethodName := ⟨RX22, "<init>", "(I)V"⟩
theorem q171 : (Jvm.Cond.initialized "SettlerColony$Number") ∈ lw_all := lw_g (lw_at lw_m1 47 rfl) rfl
theorem q670 : (Jvm.Cond.selects "SettlerColony$Number" ({ cls := "java/lang/Object", name := "getClass", desc := "()Ljava/lang/Class;" } : Jvm.MethodName) ({ cls := "java/lang/Object", name := "getClass", desc := "()Ljava/lang/Class;" } : Jvm.MethodName)) ∈ lw_all := lw_g (lw_at lw_m3 66 rfl) rfl
theorem q1004 : (Jvm.Cond.instanceMethod ({ cls := "SettlerColony$Number", name := "of", desc := "(LSettlerColony$Ask;)I" } : Jvm.MethodName)) ∈ lw_all := lw_g (lw_at lw_m4 160 rfl) rfl
theorem q1005 : (Jvm.Cond.code ({ cls := "SettlerColony$Number", name := "of", desc := "(LSettlerColony$Ask;)I" } : Jvm.MethodName) prog_20_method_2_code (2 : Nat) (Option.some Jvm.ClassFile.FieldType.int)) ∈ lw_all := lw_g (lw_at lw_m4 161 rfl) rfl
theorem q1028 : (Jvm.Cond.selects "SettlerColony$Number" ({ cls := "SettlerColony$Expr", name := "of", desc := "(LSettlerColony$Ask;)I" } : Jvm.MethodName) ({ cls := "SettlerColony$Number", name := "of", desc := "(LSettlerColony$Ask;)I" } : Jvm.MethodName)) ∈ lw_all := lw_g (lw_at lw_m4 184 rfl) rfl
theorem q1625 : (Jvm.Cond.selects "SettlerColony$Number" ({ cls := "java/lang/Object", name := "equals", desc := "(Ljava/lang/Object;)Z" } : Jvm.MethodName) ({ cls := "java/lang/Object", name := "equals", desc := "(Ljava/lang/Object;)Z" } : Jvm.MethodName)) ∈ lw_all := lw_g (lw_at lw_m7 61 rfl) rfl
theorem q2067 : (Jvm.Cond.instantiable "SettlerColony$Number" (1 : Nat)) ∈ lw_all := lw_g (lw_at lw_m9 23 rfl) rfl
theorem q2069 : (Jvm.Cond.instanceMethod ({ cls := "SettlerColony$Number", name := "<init>", desc := "(I)V" } : Jvm.MethodName)) ∈ lw_all := lw_g (lw_at lw_m9 25 rfl) rfl
theorem q2070 : (Jvm.Cond.code ({ cls := "SettlerColony$Number", name := "<init>", desc := "(I)V" } : Jvm.MethodName) prog_20_method_1_code (2 : Nat) (Option.none : Option Jvm.ClassFile.FieldType)) ∈ lw_all := lw_g (lw_at lw_m9 26 rfl) rfl
theorem q2071 : (Jvm.Cond.methodLinkNest "SettlerColony$Number" (1 : Nat) ({ cls := "SettlerColony$Expr", name := "<init>", desc := "()V" } : Jvm.MethodName) "SettlerColony") ∈ lw_tbl := lw_at lw_m9 27 rfl
theorem q2075 : (Jvm.Cond.fieldLink "SettlerColony$Number" (7 : Nat) "SettlerColony$Number" "n" "I") ∈ lw_all := lw_g (lw_at lw_m9 31 rfl) rfl
theorem q2076 : (Jvm.Cond.laysFinal "SettlerColony$Number" "SettlerColony$Number" "n" "I") ∈ lw_all := lw_g (lw_at lw_m9 32 rfl) rfl
theorem q2077 : (Jvm.Cond.soleField "SettlerColony$Number" "n") ∈ lw_all := lw_g (lw_at lw_m9 33 rfl) rfl
theorem q2078 : (Jvm.Cond.superclass "SettlerColony$Number" "SettlerColony$Expr") ∈ lw_all := lw_g (lw_at lw_m9 34 rfl) rfl
theorem q3267 : (Jvm.Cond.castable "SettlerColony$Number" "java/lang/Object") ∈ lw_tbl := lw_at lw_m14 23 rfl
theorem q3278 : (Jvm.Cond.castable "SettlerColony$Number" "SettlerColony$Expr") ∈ lw_tbl := lw_at lw_m14 34 rfl
theorem in_X22 : ∀ w ∈ wsX220, w ∈ lw_all := lw_in wsX220 [2076] (by decide +kernel) (by decide +kernel)
/-! SettlerColony$Name -/
def RX23 : String := "SettlerColony$Name"
def TX23 : u_T := fun k => match k with
  | _ => ("SettlerColony$Name", "which", "C", true)
def tyX23 : Nat → FieldType := fun k => match k with
  | _ => .char
abbrev wsX230 : List Cond := u_ws RX23 TX23 1
theorem nmX23 : ∀ a, a < 1 → ∀ b, b < 1 → a ≠ b → (TX23 a).2.1 ≠ (TX23 b).2.1 := by decide +kernel
theorem tyX23_ok : ∀ k, k < 1 → parseFieldDescriptor (TX23 k).2.2.1 = some (tyX23 k) := by decide +kernel
abbrev cX23_of : ByteArray := prog_18_method_2_code
def yX23_of : MethodName := ⟨RX23, "of", "(LSettlerColony$Ask;)I"⟩
abbrev cX23_init : ByteArray := prog_18_method_1_code
def yX23_init : MethodName := ⟨RX23, "<init>", "(C)V"⟩
theorem q172 : (Jvm.Cond.initialized "SettlerColony$Name") ∈ lw_all := lw_g (lw_at lw_m1 48 rfl) rfl
theorem q588 : (Jvm.Cond.fieldLinkNest "SettlerColony$Name" (15 : Nat) "SettlerColony$Ask" "week" "I" "SettlerColony") ∈ lw_tbl := lw_at lw_m2 224 rfl
theorem q590 : (Jvm.Cond.fieldLinkNest "SettlerColony$Name" (27 : Nat) "SettlerColony$Ask" "sold" "I" "SettlerColony") ∈ lw_tbl := lw_at lw_m2 226 rfl
theorem q592 : (Jvm.Cond.fieldLinkNest "SettlerColony$Name" (21 : Nat) "SettlerColony$Ask" "people" "I" "SettlerColony") ∈ lw_tbl := lw_at lw_m2 228 rfl
theorem q594 : (Jvm.Cond.fieldLinkNest "SettlerColony$Name" (24 : Nat) "SettlerColony$Ask" "soil" "I" "SettlerColony") ∈ lw_tbl := lw_at lw_m2 230 rfl
theorem q668 : (Jvm.Cond.selects "SettlerColony$Name" ({ cls := "java/lang/Object", name := "getClass", desc := "()Ljava/lang/Class;" } : Jvm.MethodName) ({ cls := "java/lang/Object", name := "getClass", desc := "()Ljava/lang/Class;" } : Jvm.MethodName)) ∈ lw_all := lw_g (lw_at lw_m3 64 rfl) rfl
theorem q1002 : (Jvm.Cond.instanceMethod ({ cls := "SettlerColony$Name", name := "of", desc := "(LSettlerColony$Ask;)I" } : Jvm.MethodName)) ∈ lw_all := lw_g (lw_at lw_m4 158 rfl) rfl
theorem q1003 : (Jvm.Cond.code ({ cls := "SettlerColony$Name", name := "of", desc := "(LSettlerColony$Ask;)I" } : Jvm.MethodName) prog_18_method_2_code (2 : Nat) (Option.some Jvm.ClassFile.FieldType.int)) ∈ lw_all := lw_g (lw_at lw_m4 159 rfl) rfl
theorem q1027 : (Jvm.Cond.selects "SettlerColony$Name" ({ cls := "SettlerColony$Expr", name := "of", desc := "(LSettlerColony$Ask;)I" } : Jvm.MethodName) ({ cls := "SettlerColony$Name", name := "of", desc := "(LSettlerColony$Ask;)I" } : Jvm.MethodName)) ∈ lw_all := lw_g (lw_at lw_m4 183 rfl) rfl
theorem q1623 : (Jvm.Cond.selects "SettlerColony$Name" ({ cls := "java/lang/Object", name := "equals", desc := "(Ljava/lang/Object;)Z" } : Jvm.MethodName) ({ cls := "java/lang/Object", name := "equals", desc := "(Ljava/lang/Object;)Z" } : Jvm.MethodName)) ∈ lw_all := lw_g (lw_at lw_m7 59 rfl) rfl
theorem q2096 : (Jvm.Cond.instantiable "SettlerColony$Name" (1 : Nat)) ∈ lw_all := lw_g (lw_at lw_m9 52 rfl) rfl
theorem q2109 : (Jvm.Cond.instanceMethod ({ cls := "SettlerColony$Name", name := "<init>", desc := "(C)V" } : Jvm.MethodName)) ∈ lw_all := lw_g (lw_at lw_m9 65 rfl) rfl
theorem q2110 : (Jvm.Cond.code ({ cls := "SettlerColony$Name", name := "<init>", desc := "(C)V" } : Jvm.MethodName) prog_18_method_1_code (2 : Nat) (Option.none : Option Jvm.ClassFile.FieldType)) ∈ lw_all := lw_g (lw_at lw_m9 66 rfl) rfl
theorem q2111 : (Jvm.Cond.methodLinkNest "SettlerColony$Name" (3 : Nat) ({ cls := "SettlerColony$Expr", name := "<init>", desc := "()V" } : Jvm.MethodName) "SettlerColony") ∈ lw_tbl := lw_at lw_m9 67 rfl
theorem q2112 : (Jvm.Cond.fieldLink "SettlerColony$Name" (9 : Nat) "SettlerColony$Name" "which" "C") ∈ lw_all := lw_g (lw_at lw_m9 68 rfl) rfl
theorem q2113 : (Jvm.Cond.laysFinal "SettlerColony$Name" "SettlerColony$Name" "which" "C") ∈ lw_all := lw_g (lw_at lw_m9 69 rfl) rfl
theorem q2114 : (Jvm.Cond.soleField "SettlerColony$Name" "which") ∈ lw_all := lw_g (lw_at lw_m9 70 rfl) rfl
theorem q2115 : (Jvm.Cond.superclass "SettlerColony$Name" "SettlerColony$Expr") ∈ lw_all := lw_g (lw_at lw_m9 71 rfl) rfl
theorem q3268 : (Jvm.Cond.castable "SettlerColony$Name" "java/lang/Object") ∈ lw_tbl := lw_at lw_m14 24 rfl
theorem q3279 : (Jvm.Cond.castable "SettlerColony$Name" "SettlerColony$Expr") ∈ lw_tbl := lw_at lw_m14 35 rfl
theorem in_X23 : ∀ w ∈ wsX230, w ∈ lw_all := lw_in wsX230 [2113] (by decide +kernel) (by decide +kernel)
/-! SettlerColony$Two -/
def RX24 : String := "SettlerColony$Two"
def TX24 : u_T := fun k => match k with
  | 0 => ("SettlerColony$Two", "one", "LSettlerColony$Expr;", true)
  | 1 => ("SettlerColony$Two", "other", "LSettlerColony$Expr;", true)
  | _ => ("SettlerColony$Two", "sign", "C", true)
def tyX24 : Nat → FieldType := fun k => match k with
  | 0 => .object "SettlerColony$Expr"
  | 1 => .object "SettlerColony$Expr"
  | _ => .char
abbrev wsX240 : List Cond := u_ws RX24 TX24 3
theorem nmX24 : ∀ a, a < 3 → ∀ b, b < 3 → a ≠ b → (TX24 a).2.1 ≠ (TX24 b).2.1 := by decide +kernel
theorem tyX24_ok : ∀ k, k < 3 → parseFieldDescriptor (TX24 k).2.2.1 = some (tyX24 k) := by decide +kernel
abbrev cX24_of : ByteArray := prog_31_method_2_code
def yX24_of : MethodName := ⟨RX24, "of", "(LSettlerColony$Ask;)I"⟩
abbrev cX24_works : ByteArray := prog_31_method_3_code
def yX24_works : MethodName := ⟨RX24, "works", "(II)I"⟩
abbrev cX24_init : ByteArray := prog_31_method_1_code
def yX24_init : MethodName := ⟨RX24, "<init>", "(LSettlerColony$Expr;CLSettlerColony$Expr;)V"⟩
theorem q173 : (Jvm.Cond.initialized "SettlerColony$Two") ∈ lw_all := lw_g (lw_at lw_m1 49 rfl) rfl
theorem q680 : (Jvm.Cond.selects "SettlerColony$Two" ({ cls := "java/lang/Object", name := "getClass", desc := "()Ljava/lang/Class;" } : Jvm.MethodName) ({ cls := "java/lang/Object", name := "getClass", desc := "()Ljava/lang/Class;" } : Jvm.MethodName)) ∈ lw_all := lw_g (lw_at lw_m3 76 rfl) rfl
theorem q964 : (Jvm.Cond.instanceMethod ({ cls := "SettlerColony$Two", name := "of", desc := "(LSettlerColony$Ask;)I" } : Jvm.MethodName)) ∈ lw_all := lw_g (lw_at lw_m4 120 rfl) rfl
theorem q965 : (Jvm.Cond.code ({ cls := "SettlerColony$Two", name := "of", desc := "(LSettlerColony$Ask;)I" } : Jvm.MethodName) prog_31_method_2_code (2 : Nat) (Option.some Jvm.ClassFile.FieldType.int)) ∈ lw_all := lw_g (lw_at lw_m4 121 rfl) rfl
theorem q966 : (Jvm.Cond.methodLink "SettlerColony$Two" (20 : Nat) ({ cls := "SettlerColony$Expr", name := "of", desc := "(LSettlerColony$Ask;)I" } : Jvm.MethodName)) ∈ lw_all := lw_g (lw_at lw_m4 122 rfl) rfl
theorem q1015 : (Jvm.Cond.methodLink "SettlerColony$Two" (24 : Nat) ({ cls := "SettlerColony$Two", name := "works", desc := "(II)I" } : Jvm.MethodName)) ∈ lw_all := lw_g (lw_at lw_m4 171 rfl) rfl
theorem q1016 : (Jvm.Cond.instanceMethod ({ cls := "SettlerColony$Two", name := "works", desc := "(II)I" } : Jvm.MethodName)) ∈ lw_all := lw_g (lw_at lw_m4 172 rfl) rfl
theorem q1017 : (Jvm.Cond.selects "SettlerColony$Two" ({ cls := "SettlerColony$Two", name := "works", desc := "(II)I" } : Jvm.MethodName) ({ cls := "SettlerColony$Two", name := "works", desc := "(II)I" } : Jvm.MethodName)) ∈ lw_all := lw_g (lw_at lw_m4 173 rfl) rfl
theorem q1018 : (Jvm.Cond.sameMethod "SettlerColony$Two" "SettlerColony$Two" "works" "(II)I") ∈ lw_all := lw_g (lw_at lw_m4 174 rfl) rfl
theorem q1025 : (Jvm.Cond.code ({ cls := "SettlerColony$Two", name := "works", desc := "(II)I" } : Jvm.MethodName) prog_31_method_3_code (3 : Nat) (Option.some Jvm.ClassFile.FieldType.int)) ∈ lw_all := lw_g (lw_at lw_m4 181 rfl) rfl
theorem q1029 : (Jvm.Cond.selects "SettlerColony$Two" ({ cls := "SettlerColony$Expr", name := "of", desc := "(LSettlerColony$Ask;)I" } : Jvm.MethodName) ({ cls := "SettlerColony$Two", name := "of", desc := "(LSettlerColony$Ask;)I" } : Jvm.MethodName)) ∈ lw_all := lw_g (lw_at lw_m4 185 rfl) rfl
theorem q1635 : (Jvm.Cond.selects "SettlerColony$Two" ({ cls := "java/lang/Object", name := "equals", desc := "(Ljava/lang/Object;)Z" } : Jvm.MethodName) ({ cls := "java/lang/Object", name := "equals", desc := "(Ljava/lang/Object;)Z" } : Jvm.MethodName)) ∈ lw_all := lw_g (lw_at lw_m7 71 rfl) rfl
theorem q2130 : (Jvm.Cond.instanceMethod ({ cls := "SettlerColony$Two", name := "<init>", desc := "(LSettlerColony$Expr;CLSettlerColony$Expr;)V" } : Jvm.MethodName)) ∈ lw_all := lw_g (lw_at lw_m9 86 rfl) rfl
theorem q2131 : (Jvm.Cond.code ({ cls := "SettlerColony$Two", name := "<init>", desc := "(LSettlerColony$Expr;CLSettlerColony$Expr;)V" } : Jvm.MethodName) prog_31_method_1_code (4 : Nat) (Option.none : Option Jvm.ClassFile.FieldType)) ∈ lw_all := lw_g (lw_at lw_m9 87 rfl) rfl
theorem q2132 : (Jvm.Cond.methodLinkNest "SettlerColony$Two" (1 : Nat) ({ cls := "SettlerColony$Expr", name := "<init>", desc := "()V" } : Jvm.MethodName) "SettlerColony") ∈ lw_tbl := lw_at lw_m9 88 rfl
theorem q2134 : (Jvm.Cond.fieldLink "SettlerColony$Two" (7 : Nat) "SettlerColony$Two" "one" "LSettlerColony$Expr;") ∈ lw_all := lw_g (lw_at lw_m9 90 rfl) rfl
theorem q2137 : (Jvm.Cond.fieldLink "SettlerColony$Two" (17 : Nat) "SettlerColony$Two" "other" "LSettlerColony$Expr;") ∈ lw_all := lw_g (lw_at lw_m9 93 rfl) rfl
theorem q2140 : (Jvm.Cond.fieldLink "SettlerColony$Two" (13 : Nat) "SettlerColony$Two" "sign" "C") ∈ lw_all := lw_g (lw_at lw_m9 96 rfl) rfl
theorem q2144 : (Jvm.Cond.soleField "SettlerColony$Two" "one") ∈ lw_all := lw_g (lw_at lw_m9 100 rfl) rfl
theorem q2146 : (Jvm.Cond.soleField "SettlerColony$Two" "other") ∈ lw_all := lw_g (lw_at lw_m9 102 rfl) rfl
theorem q2148 : (Jvm.Cond.soleField "SettlerColony$Two" "sign") ∈ lw_all := lw_g (lw_at lw_m9 104 rfl) rfl
theorem q2234 : (Jvm.Cond.instantiable "SettlerColony$Two" (3 : Nat)) ∈ lw_all := lw_g (lw_at lw_m9 190 rfl) rfl
theorem q2236 : (Jvm.Cond.laysFinal "SettlerColony$Two" "SettlerColony$Two" "one" "LSettlerColony$Expr;") ∈ lw_all := lw_g (lw_at lw_m9 192 rfl) rfl
theorem q2237 : (Jvm.Cond.laysFinal "SettlerColony$Two" "SettlerColony$Two" "other" "LSettlerColony$Expr;") ∈ lw_all := lw_g (lw_at lw_m9 193 rfl) rfl
theorem q2238 : (Jvm.Cond.laysFinal "SettlerColony$Two" "SettlerColony$Two" "sign" "C") ∈ lw_all := lw_g (lw_at lw_m9 194 rfl) rfl
theorem q2239 : (Jvm.Cond.superclass "SettlerColony$Two" "SettlerColony$Expr") ∈ lw_all := lw_g (lw_at lw_m9 195 rfl) rfl
theorem q3275 : (Jvm.Cond.castable "SettlerColony$Two" "java/lang/Object") ∈ lw_tbl := lw_at lw_m14 31 rfl
theorem q3282 : (Jvm.Cond.castable "SettlerColony$Two" "SettlerColony$Expr") ∈ lw_tbl := lw_at lw_m14 38 rfl
theorem in_X24 : ∀ w ∈ wsX240, w ∈ lw_all := lw_in wsX240 [2236, 2237, 2238] (by decide +kernel) (by decide +kernel)
/-! SettlerColony$Bound -/
def RX25 : String := "SettlerColony$Bound"
def TX25 : u_T := fun k => match k with
  | 0 => ("SettlerColony$Two", "one", "LSettlerColony$Expr;", true)
  | 1 => ("SettlerColony$Two", "other", "LSettlerColony$Expr;", true)
  | 2 => ("SettlerColony$Two", "sign", "C", true)
  | _ => ("SettlerColony$Bound", "isLeast", "Z", true)
def tyX25 : Nat → FieldType := fun k => match k with
  | 0 => .object "SettlerColony$Expr"
  | 1 => .object "SettlerColony$Expr"
  | 2 => .char
  | _ => .boolean
abbrev wsX250 : List Cond := u_ws RX25 TX25 4
theorem nmX25 : ∀ a, a < 4 → ∀ b, b < 4 → a ≠ b → (TX25 a).2.1 ≠ (TX25 b).2.1 := by decide +kernel
theorem tyX25_ok : ∀ k, k < 4 → parseFieldDescriptor (TX25 k).2.2.1 = some (tyX25 k) := by decide +kernel
abbrev cX25_works : ByteArray := prog_6_method_2_code
def yX25_works : MethodName := ⟨RX25, "works", "(II)I"⟩
abbrev cX25_init : ByteArray := prog_6_method_1_code
def yX25_init : MethodName := ⟨RX25, "<init>", "(LSettlerColony$Expr;LSettlerColony$Expr;Z)V"⟩
theorem q174 : (Jvm.Cond.initialized "SettlerColony$Bound") ∈ lw_all := lw_g (lw_at lw_m1 50 rfl) rfl
theorem q662 : (Jvm.Cond.selects "SettlerColony$Bound" ({ cls := "java/lang/Object", name := "getClass", desc := "()Ljava/lang/Class;" } : Jvm.MethodName) ({ cls := "java/lang/Object", name := "getClass", desc := "()Ljava/lang/Class;" } : Jvm.MethodName)) ∈ lw_all := lw_g (lw_at lw_m3 58 rfl) rfl
theorem q963 : (Jvm.Cond.selects "SettlerColony$Bound" ({ cls := "SettlerColony$Expr", name := "of", desc := "(LSettlerColony$Ask;)I" } : Jvm.MethodName) ({ cls := "SettlerColony$Two", name := "of", desc := "(LSettlerColony$Ask;)I" } : Jvm.MethodName)) ∈ lw_all := lw_g (lw_at lw_m4 119 rfl) rfl
theorem q1019 : (Jvm.Cond.selects "SettlerColony$Bound" ({ cls := "SettlerColony$Two", name := "works", desc := "(II)I" } : Jvm.MethodName) ({ cls := "SettlerColony$Bound", name := "works", desc := "(II)I" } : Jvm.MethodName)) ∈ lw_all := lw_g (lw_at lw_m4 175 rfl) rfl
theorem q1020 : (Jvm.Cond.instanceMethod ({ cls := "SettlerColony$Bound", name := "works", desc := "(II)I" } : Jvm.MethodName)) ∈ lw_all := lw_g (lw_at lw_m4 176 rfl) rfl
theorem q1021 : (Jvm.Cond.code ({ cls := "SettlerColony$Bound", name := "works", desc := "(II)I" } : Jvm.MethodName) prog_6_method_2_code (3 : Nat) (Option.some Jvm.ClassFile.FieldType.int)) ∈ lw_all := lw_g (lw_at lw_m4 177 rfl) rfl
theorem q1022 : (Jvm.Cond.methodLink "SettlerColony$Bound" (13 : Nat) ({ cls := "java/lang/Math", name := "min", desc := "(II)I" } : Jvm.MethodName)) ∈ lw_all := lw_g (lw_at lw_m4 178 rfl) rfl
theorem q1023 : (Jvm.Cond.methodLink "SettlerColony$Bound" (19 : Nat) ({ cls := "java/lang/Math", name := "max", desc := "(II)I" } : Jvm.MethodName)) ∈ lw_all := lw_g (lw_at lw_m4 179 rfl) rfl
theorem q1617 : (Jvm.Cond.selects "SettlerColony$Bound" ({ cls := "java/lang/Object", name := "equals", desc := "(Ljava/lang/Object;)Z" } : Jvm.MethodName) ({ cls := "java/lang/Object", name := "equals", desc := "(Ljava/lang/Object;)Z" } : Jvm.MethodName)) ∈ lw_all := lw_g (lw_at lw_m7 53 rfl) rfl
theorem q2125 : (Jvm.Cond.instantiable "SettlerColony$Bound" (4 : Nat)) ∈ lw_all := lw_g (lw_at lw_m9 81 rfl) rfl
theorem q2127 : (Jvm.Cond.instanceMethod ({ cls := "SettlerColony$Bound", name := "<init>", desc := "(LSettlerColony$Expr;LSettlerColony$Expr;Z)V" } : Jvm.MethodName)) ∈ lw_all := lw_g (lw_at lw_m9 83 rfl) rfl
theorem q2128 : (Jvm.Cond.code ({ cls := "SettlerColony$Bound", name := "<init>", desc := "(LSettlerColony$Expr;LSettlerColony$Expr;Z)V" } : Jvm.MethodName) prog_6_method_1_code (4 : Nat) (Option.none : Option Jvm.ClassFile.FieldType)) ∈ lw_all := lw_g (lw_at lw_m9 84 rfl) rfl
theorem q2129 : (Jvm.Cond.methodLink "SettlerColony$Bound" (1 : Nat) ({ cls := "SettlerColony$Two", name := "<init>", desc := "(LSettlerColony$Expr;CLSettlerColony$Expr;)V" } : Jvm.MethodName)) ∈ lw_all := lw_g (lw_at lw_m9 85 rfl) rfl
theorem q2133 : (Jvm.Cond.fieldLink "SettlerColony$Bound" (7 : Nat) "SettlerColony$Bound" "isLeast" "Z") ∈ lw_all := lw_g (lw_at lw_m9 89 rfl) rfl
theorem q2141 : (Jvm.Cond.laysFinal "SettlerColony$Bound" "SettlerColony$Bound" "isLeast" "Z") ∈ lw_all := lw_g (lw_at lw_m9 97 rfl) rfl
theorem q2142 : (Jvm.Cond.soleField "SettlerColony$Bound" "isLeast") ∈ lw_all := lw_g (lw_at lw_m9 98 rfl) rfl
theorem q2143 : (Jvm.Cond.laysFinal "SettlerColony$Bound" "SettlerColony$Two" "one" "LSettlerColony$Expr;") ∈ lw_all := lw_g (lw_at lw_m9 99 rfl) rfl
theorem q2145 : (Jvm.Cond.laysFinal "SettlerColony$Bound" "SettlerColony$Two" "other" "LSettlerColony$Expr;") ∈ lw_all := lw_g (lw_at lw_m9 101 rfl) rfl
theorem q2147 : (Jvm.Cond.laysFinal "SettlerColony$Bound" "SettlerColony$Two" "sign" "C") ∈ lw_all := lw_g (lw_at lw_m9 103 rfl) rfl
theorem q2149 : (Jvm.Cond.superclass "SettlerColony$Bound" "SettlerColony$Two") ∈ lw_all := lw_g (lw_at lw_m9 105 rfl) rfl
theorem q3269 : (Jvm.Cond.castable "SettlerColony$Bound" "java/lang/Object") ∈ lw_tbl := lw_at lw_m14 25 rfl
theorem q3280 : (Jvm.Cond.castable "SettlerColony$Bound" "SettlerColony$Expr") ∈ lw_tbl := lw_at lw_m14 36 rfl
theorem in_X25 : ∀ w ∈ wsX250, w ∈ lw_all := lw_in wsX250 [2143, 2145, 2147, 2141] (by decide +kernel) (by decide +kernel)
/-! SettlerColony$Any -/
def RX26 : String := "SettlerColony$Any"
def TX26 : u_T := fun k => match k with
  | _ => ("SettlerColony$Any", "parts", "Ljava/util/ArrayList;", true)
def tyX26 : Nat → FieldType := fun k => match k with
  | _ => .object "java/util/ArrayList"
abbrev wsX260 : List Cond := u_ws RX26 TX26 1
theorem nmX26 : ∀ a, a < 1 → ∀ b, b < 1 → a ≠ b → (TX26 a).2.1 ≠ (TX26 b).2.1 := by decide +kernel
theorem tyX26_ok : ∀ k, k < 1 → parseFieldDescriptor (TX26 k).2.2.1 = some (tyX26 k) := by decide +kernel
abbrev cX26_holds : ByteArray := prog_3_method_2_code
def yX26_holds : MethodName := ⟨RX26, "holds", "(LSettlerColony$Ask;)Z"⟩
abbrev cX26_init : ByteArray := prog_3_method_1_code
def yX26_init : MethodName := ⟨RX26, "<init>", "()V"⟩
theorem q175 : (Jvm.Cond.initialized "SettlerColony$Any") ∈ lw_all := lw_g (lw_at lw_m1 51 rfl) rfl
theorem q659 : (Jvm.Cond.selects "SettlerColony$Any" ({ cls := "java/lang/Object", name := "getClass", desc := "()Ljava/lang/Class;" } : Jvm.MethodName) ({ cls := "java/lang/Object", name := "getClass", desc := "()Ljava/lang/Class;" } : Jvm.MethodName)) ∈ lw_all := lw_g (lw_at lw_m3 55 rfl) rfl
theorem q984 : (Jvm.Cond.castable "SettlerColony$Any" "SettlerColony$Cond") ∈ lw_tbl := lw_at lw_m4 140 rfl
theorem q985 : (Jvm.Cond.selects "SettlerColony$Any" ({ cls := "SettlerColony$Cond", name := "holds", desc := "(LSettlerColony$Ask;)Z" } : Jvm.MethodName) ({ cls := "SettlerColony$Any", name := "holds", desc := "(LSettlerColony$Ask;)Z" } : Jvm.MethodName)) ∈ lw_all := lw_g (lw_at lw_m4 141 rfl) rfl
theorem q986 : (Jvm.Cond.unhidden "SettlerColony$Any" "holds" "(LSettlerColony$Ask;)Z") ∈ lw_tbl := lw_at lw_m4 142 rfl
theorem q987 : (Jvm.Cond.instanceMethod ({ cls := "SettlerColony$Any", name := "holds", desc := "(LSettlerColony$Ask;)Z" } : Jvm.MethodName)) ∈ lw_all := lw_g (lw_at lw_m4 143 rfl) rfl
theorem q988 : (Jvm.Cond.publicMethod ({ cls := "SettlerColony$Any", name := "holds", desc := "(LSettlerColony$Ask;)Z" } : Jvm.MethodName)) ∈ lw_tbl := lw_at lw_m4 144 rfl
theorem q989 : (Jvm.Cond.code ({ cls := "SettlerColony$Any", name := "holds", desc := "(LSettlerColony$Ask;)Z" } : Jvm.MethodName) prog_3_method_2_code (3 : Nat) (Option.some Jvm.ClassFile.FieldType.boolean)) ∈ lw_all := lw_g (lw_at lw_m4 145 rfl) rfl
theorem q990 : (Jvm.Cond.methodLink "SettlerColony$Any" (18 : Nat) ({ cls := "java/util/ArrayList", name := "size", desc := "()I" } : Jvm.MethodName)) ∈ lw_all := lw_g (lw_at lw_m4 146 rfl) rfl
theorem q991 : (Jvm.Cond.methodLink "SettlerColony$Any" (22 : Nat) ({ cls := "java/util/ArrayList", name := "get", desc := "(I)Ljava/lang/Object;" } : Jvm.MethodName)) ∈ lw_all := lw_g (lw_at lw_m4 147 rfl) rfl
theorem q992 : (Jvm.Cond.classLink "SettlerColony$Any" (26 : Nat) "SettlerColony$Cond") ∈ lw_all := lw_g (lw_at lw_m4 148 rfl) rfl
theorem q993 : (Jvm.Cond.interfaceEntry "SettlerColony$Any" (28 : Nat)) ∈ lw_tbl := lw_at lw_m4 149 rfl
theorem q994 : (Jvm.Cond.methodLink "SettlerColony$Any" (28 : Nat) ({ cls := "SettlerColony$Cond", name := "holds", desc := "(LSettlerColony$Ask;)Z" } : Jvm.MethodName)) ∈ lw_all := lw_g (lw_at lw_m4 150 rfl) rfl
theorem q1614 : (Jvm.Cond.selects "SettlerColony$Any" ({ cls := "java/lang/Object", name := "equals", desc := "(Ljava/lang/Object;)Z" } : Jvm.MethodName) ({ cls := "java/lang/Object", name := "equals", desc := "(Ljava/lang/Object;)Z" } : Jvm.MethodName)) ∈ lw_all := lw_g (lw_at lw_m7 50 rfl) rfl
theorem q2159 : (Jvm.Cond.instantiable "SettlerColony$Any" (1 : Nat)) ∈ lw_all := lw_g (lw_at lw_m9 115 rfl) rfl
theorem q2161 : (Jvm.Cond.instanceMethod ({ cls := "SettlerColony$Any", name := "<init>", desc := "()V" } : Jvm.MethodName)) ∈ lw_all := lw_g (lw_at lw_m9 117 rfl) rfl
theorem q2162 : (Jvm.Cond.code ({ cls := "SettlerColony$Any", name := "<init>", desc := "()V" } : Jvm.MethodName) prog_3_method_1_code (1 : Nat) (Option.none : Option Jvm.ClassFile.FieldType)) ∈ lw_all := lw_g (lw_at lw_m9 118 rfl) rfl
theorem q2163 : (Jvm.Cond.methodLink "SettlerColony$Any" (1 : Nat) ({ cls := "java/lang/Object", name := "<init>", desc := "()V" } : Jvm.MethodName)) ∈ lw_all := lw_g (lw_at lw_m9 119 rfl) rfl
theorem q2164 : (Jvm.Cond.classLink "SettlerColony$Any" (7 : Nat) "java/util/ArrayList") ∈ lw_all := lw_g (lw_at lw_m9 120 rfl) rfl
theorem q2165 : (Jvm.Cond.methodLink "SettlerColony$Any" (9 : Nat) ({ cls := "java/util/ArrayList", name := "<init>", desc := "(I)V" } : Jvm.MethodName)) ∈ lw_all := lw_g (lw_at lw_m9 121 rfl) rfl
theorem q2166 : (Jvm.Cond.fieldLink "SettlerColony$Any" (12 : Nat) "SettlerColony$Any" "parts" "Ljava/util/ArrayList;") ∈ lw_all := lw_g (lw_at lw_m9 122 rfl) rfl
theorem q2171 : (Jvm.Cond.laysFinal "SettlerColony$Any" "SettlerColony$Any" "parts" "Ljava/util/ArrayList;") ∈ lw_all := lw_g (lw_at lw_m9 127 rfl) rfl
theorem q2172 : (Jvm.Cond.soleField "SettlerColony$Any" "parts") ∈ lw_all := lw_g (lw_at lw_m9 128 rfl) rfl
theorem q2173 : (Jvm.Cond.superclass "SettlerColony$Any" "java/lang/Object") ∈ lw_all := lw_g (lw_at lw_m9 129 rfl) rfl
theorem q3270 : (Jvm.Cond.castable "SettlerColony$Any" "java/lang/Object") ∈ lw_tbl := lw_at lw_m14 26 rfl
theorem in_X26 : ∀ w ∈ wsX260, w ∈ lw_all := lw_in wsX260 [2171] (by decide +kernel) (by decide +kernel)
/-! SettlerColony$All -/
def RX27 : String := "SettlerColony$All"
def TX27 : u_T := fun k => match k with
  | _ => ("SettlerColony$Any", "parts", "Ljava/util/ArrayList;", true)
def tyX27 : Nat → FieldType := fun k => match k with
  | _ => .object "java/util/ArrayList"
abbrev wsX270 : List Cond := u_ws RX27 TX27 1
theorem nmX27 : ∀ a, a < 1 → ∀ b, b < 1 → a ≠ b → (TX27 a).2.1 ≠ (TX27 b).2.1 := by decide +kernel
theorem tyX27_ok : ∀ k, k < 1 → parseFieldDescriptor (TX27 k).2.2.1 = some (tyX27 k) := by decide +kernel
abbrev cX27_holds : ByteArray := prog_2_method_2_code
def yX27_holds : MethodName := ⟨RX27, "holds", "(LSettlerColony$Ask;)Z"⟩
abbrev cX27_init : ByteArray := prog_2_method_1_code
def yX27_init : MethodName := ⟨RX27, "<init>", "()V"⟩
theorem q176 : (Jvm.Cond.initialized "SettlerColony$All") ∈ lw_all := lw_g (lw_at lw_m1 52 rfl) rfl
theorem q658 : (Jvm.Cond.selects "SettlerColony$All" ({ cls := "java/lang/Object", name := "getClass", desc := "()Ljava/lang/Class;" } : Jvm.MethodName) ({ cls := "java/lang/Object", name := "getClass", desc := "()Ljava/lang/Class;" } : Jvm.MethodName)) ∈ lw_all := lw_g (lw_at lw_m3 54 rfl) rfl
theorem q973 : (Jvm.Cond.castable "SettlerColony$All" "SettlerColony$Cond") ∈ lw_tbl := lw_at lw_m4 129 rfl
theorem q974 : (Jvm.Cond.selects "SettlerColony$All" ({ cls := "SettlerColony$Cond", name := "holds", desc := "(LSettlerColony$Ask;)Z" } : Jvm.MethodName) ({ cls := "SettlerColony$All", name := "holds", desc := "(LSettlerColony$Ask;)Z" } : Jvm.MethodName)) ∈ lw_all := lw_g (lw_at lw_m4 130 rfl) rfl
theorem q975 : (Jvm.Cond.unhidden "SettlerColony$All" "holds" "(LSettlerColony$Ask;)Z") ∈ lw_tbl := lw_at lw_m4 131 rfl
theorem q976 : (Jvm.Cond.instanceMethod ({ cls := "SettlerColony$All", name := "holds", desc := "(LSettlerColony$Ask;)Z" } : Jvm.MethodName)) ∈ lw_all := lw_g (lw_at lw_m4 132 rfl) rfl
theorem q977 : (Jvm.Cond.publicMethod ({ cls := "SettlerColony$All", name := "holds", desc := "(LSettlerColony$Ask;)Z" } : Jvm.MethodName)) ∈ lw_tbl := lw_at lw_m4 133 rfl
theorem q978 : (Jvm.Cond.code ({ cls := "SettlerColony$All", name := "holds", desc := "(LSettlerColony$Ask;)Z" } : Jvm.MethodName) prog_2_method_2_code (3 : Nat) (Option.some Jvm.ClassFile.FieldType.boolean)) ∈ lw_all := lw_g (lw_at lw_m4 134 rfl) rfl
theorem q979 : (Jvm.Cond.methodLink "SettlerColony$All" (13 : Nat) ({ cls := "java/util/ArrayList", name := "size", desc := "()I" } : Jvm.MethodName)) ∈ lw_all := lw_g (lw_at lw_m4 135 rfl) rfl
theorem q980 : (Jvm.Cond.methodLink "SettlerColony$All" (19 : Nat) ({ cls := "java/util/ArrayList", name := "get", desc := "(I)Ljava/lang/Object;" } : Jvm.MethodName)) ∈ lw_all := lw_g (lw_at lw_m4 136 rfl) rfl
theorem q981 : (Jvm.Cond.classLink "SettlerColony$All" (23 : Nat) "SettlerColony$Cond") ∈ lw_all := lw_g (lw_at lw_m4 137 rfl) rfl
theorem q982 : (Jvm.Cond.interfaceEntry "SettlerColony$All" (25 : Nat)) ∈ lw_tbl := lw_at lw_m4 138 rfl
theorem q983 : (Jvm.Cond.methodLink "SettlerColony$All" (25 : Nat) ({ cls := "SettlerColony$Cond", name := "holds", desc := "(LSettlerColony$Ask;)Z" } : Jvm.MethodName)) ∈ lw_all := lw_g (lw_at lw_m4 139 rfl) rfl
theorem q1613 : (Jvm.Cond.selects "SettlerColony$All" ({ cls := "java/lang/Object", name := "equals", desc := "(Ljava/lang/Object;)Z" } : Jvm.MethodName) ({ cls := "java/lang/Object", name := "equals", desc := "(Ljava/lang/Object;)Z" } : Jvm.MethodName)) ∈ lw_all := lw_g (lw_at lw_m7 49 rfl) rfl
theorem q2167 : (Jvm.Cond.fieldLink "SettlerColony$All" (7 : Nat) "SettlerColony$All" "parts" "Ljava/util/ArrayList;") ∈ lw_all := lw_g (lw_at lw_m9 123 rfl) rfl
theorem q2168 : (Jvm.Cond.sameField "SettlerColony$All" "SettlerColony$Any" "parts" "Ljava/util/ArrayList;") ∈ lw_all := lw_g (lw_at lw_m9 124 rfl) rfl
theorem q2179 : (Jvm.Cond.instantiable "SettlerColony$All" (1 : Nat)) ∈ lw_all := lw_g (lw_at lw_m9 135 rfl) rfl
theorem q2181 : (Jvm.Cond.instanceMethod ({ cls := "SettlerColony$All", name := "<init>", desc := "()V" } : Jvm.MethodName)) ∈ lw_all := lw_g (lw_at lw_m9 137 rfl) rfl
theorem q2182 : (Jvm.Cond.code ({ cls := "SettlerColony$All", name := "<init>", desc := "()V" } : Jvm.MethodName) prog_2_method_1_code (1 : Nat) (Option.none : Option Jvm.ClassFile.FieldType)) ∈ lw_all := lw_g (lw_at lw_m9 138 rfl) rfl
theorem q2183 : (Jvm.Cond.methodLinkNest "SettlerColony$All" (1 : Nat) ({ cls := "SettlerColony$Any", name := "<init>", desc := "()V" } : Jvm.MethodName) "SettlerColony") ∈ lw_tbl := lw_at lw_m9 139 rfl
theorem q2184 : (Jvm.Cond.laysFinal "SettlerColony$All" "SettlerColony$Any" "parts" "Ljava/util/ArrayList;") ∈ lw_all := lw_g (lw_at lw_m9 140 rfl) rfl
theorem q2185 : (Jvm.Cond.superclass "SettlerColony$All" "SettlerColony$Any") ∈ lw_all := lw_g (lw_at lw_m9 141 rfl) rfl
theorem q3271 : (Jvm.Cond.castable "SettlerColony$All" "java/lang/Object") ∈ lw_tbl := lw_at lw_m14 27 rfl
theorem in_X27 : ∀ w ∈ wsX270, w ∈ lw_all := lw_in wsX270 [2184] (by decide +kernel) (by decide +kernel)
/-! SettlerColony$Not -/
def RX28 : String := "SettlerColony$Not"
def TX28 : u_T := fun k => match k with
  | _ => ("SettlerColony$Not", "part", "LSettlerColony$Cond;", true)
def tyX28 : Nat → FieldType := fun k => match k with
  | _ => .object "SettlerColony$Cond"
abbrev wsX280 : List Cond := u_ws RX28 TX28 1
theorem nmX28 : ∀ a, a < 1 → ∀ b, b < 1 → a ≠ b → (TX28 a).2.1 ≠ (TX28 b).2.1 := by decide +kernel
theorem tyX28_ok : ∀ k, k < 1 → parseFieldDescriptor (TX28 k).2.2.1 = some (tyX28 k) := by decide +kernel
abbrev cX28_holds : ByteArray := prog_19_method_2_code
def yX28_holds : MethodName := ⟨RX28, "holds", "(LSettlerColony$Ask;)Z"⟩
abbrev cX28_init : ByteArray := prog_19_method_1_code
def yX28_init : MethodName := ⟨RX28, "<init>", "(LSettlerColony$Cond;)V"⟩
theorem q177 : (Jvm.Cond.initialized "SettlerColony$Not") ∈ lw_all := lw_g (lw_at lw_m1 53 rfl) rfl
theorem q669 : (Jvm.Cond.selects "SettlerColony$Not" ({ cls := "java/lang/Object", name := "getClass", desc := "()Ljava/lang/Class;" } : Jvm.MethodName) ({ cls := "java/lang/Object", name := "getClass", desc := "()Ljava/lang/Class;" } : Jvm.MethodName)) ∈ lw_all := lw_g (lw_at lw_m3 65 rfl) rfl
theorem q1006 : (Jvm.Cond.castable "SettlerColony$Not" "SettlerColony$Cond") ∈ lw_tbl := lw_at lw_m4 162 rfl
theorem q1007 : (Jvm.Cond.selects "SettlerColony$Not" ({ cls := "SettlerColony$Cond", name := "holds", desc := "(LSettlerColony$Ask;)Z" } : Jvm.MethodName) ({ cls := "SettlerColony$Not", name := "holds", desc := "(LSettlerColony$Ask;)Z" } : Jvm.MethodName)) ∈ lw_all := lw_g (lw_at lw_m4 163 rfl) rfl
theorem q1008 : (Jvm.Cond.unhidden "SettlerColony$Not" "holds" "(LSettlerColony$Ask;)Z") ∈ lw_tbl := lw_at lw_m4 164 rfl
theorem q1009 : (Jvm.Cond.instanceMethod ({ cls := "SettlerColony$Not", name := "holds", desc := "(LSettlerColony$Ask;)Z" } : Jvm.MethodName)) ∈ lw_all := lw_g (lw_at lw_m4 165 rfl) rfl
theorem q1010 : (Jvm.Cond.publicMethod ({ cls := "SettlerColony$Not", name := "holds", desc := "(LSettlerColony$Ask;)Z" } : Jvm.MethodName)) ∈ lw_tbl := lw_at lw_m4 166 rfl
theorem q1011 : (Jvm.Cond.code ({ cls := "SettlerColony$Not", name := "holds", desc := "(LSettlerColony$Ask;)Z" } : Jvm.MethodName) prog_19_method_2_code (2 : Nat) (Option.some Jvm.ClassFile.FieldType.boolean)) ∈ lw_all := lw_g (lw_at lw_m4 167 rfl) rfl
theorem q1012 : (Jvm.Cond.interfaceEntry "SettlerColony$Not" (13 : Nat)) ∈ lw_tbl := lw_at lw_m4 168 rfl
theorem q1013 : (Jvm.Cond.methodLink "SettlerColony$Not" (13 : Nat) ({ cls := "SettlerColony$Cond", name := "holds", desc := "(LSettlerColony$Ask;)Z" } : Jvm.MethodName)) ∈ lw_all := lw_g (lw_at lw_m4 169 rfl) rfl
theorem q1624 : (Jvm.Cond.selects "SettlerColony$Not" ({ cls := "java/lang/Object", name := "equals", desc := "(Ljava/lang/Object;)Z" } : Jvm.MethodName) ({ cls := "java/lang/Object", name := "equals", desc := "(Ljava/lang/Object;)Z" } : Jvm.MethodName)) ∈ lw_all := lw_g (lw_at lw_m7 60 rfl) rfl
theorem q2192 : (Jvm.Cond.instantiable "SettlerColony$Not" (1 : Nat)) ∈ lw_all := lw_g (lw_at lw_m9 148 rfl) rfl
theorem q2194 : (Jvm.Cond.instanceMethod ({ cls := "SettlerColony$Not", name := "<init>", desc := "(LSettlerColony$Cond;)V" } : Jvm.MethodName)) ∈ lw_all := lw_g (lw_at lw_m9 150 rfl) rfl
theorem q2195 : (Jvm.Cond.code ({ cls := "SettlerColony$Not", name := "<init>", desc := "(LSettlerColony$Cond;)V" } : Jvm.MethodName) prog_19_method_1_code (2 : Nat) (Option.none : Option Jvm.ClassFile.FieldType)) ∈ lw_all := lw_g (lw_at lw_m9 151 rfl) rfl
theorem q2196 : (Jvm.Cond.methodLink "SettlerColony$Not" (1 : Nat) ({ cls := "java/lang/Object", name := "<init>", desc := "()V" } : Jvm.MethodName)) ∈ lw_all := lw_g (lw_at lw_m9 152 rfl) rfl
theorem q2197 : (Jvm.Cond.fieldLink "SettlerColony$Not" (7 : Nat) "SettlerColony$Not" "part" "LSettlerColony$Cond;") ∈ lw_all := lw_g (lw_at lw_m9 153 rfl) rfl
theorem q2198 : (Jvm.Cond.laysFinal "SettlerColony$Not" "SettlerColony$Not" "part" "LSettlerColony$Cond;") ∈ lw_all := lw_g (lw_at lw_m9 154 rfl) rfl
theorem q2199 : (Jvm.Cond.soleField "SettlerColony$Not" "part") ∈ lw_all := lw_g (lw_at lw_m9 155 rfl) rfl
theorem q2200 : (Jvm.Cond.superclass "SettlerColony$Not" "java/lang/Object") ∈ lw_all := lw_g (lw_at lw_m9 156 rfl) rfl
theorem q3272 : (Jvm.Cond.castable "SettlerColony$Not" "java/lang/Object") ∈ lw_tbl := lw_at lw_m14 28 rfl
theorem in_X28 : ∀ w ∈ wsX280, w ∈ lw_all := lw_in wsX280 [2198] (by decide +kernel) (by decide +kernel)
/-! SettlerColony$Compare -/
def RX29 : String := "SettlerColony$Compare"
def TX29 : u_T := fun k => match k with
  | 0 => ("SettlerColony$Compare", "one", "LSettlerColony$Expr;", true)
  | 1 => ("SettlerColony$Compare", "other", "LSettlerColony$Expr;", true)
  | _ => ("SettlerColony$Compare", "sign", "C", true)
def tyX29 : Nat → FieldType := fun k => match k with
  | 0 => .object "SettlerColony$Expr"
  | 1 => .object "SettlerColony$Expr"
  | _ => .char
abbrev wsX290 : List Cond := u_ws RX29 TX29 3
theorem nmX29 : ∀ a, a < 3 → ∀ b, b < 3 → a ≠ b → (TX29 a).2.1 ≠ (TX29 b).2.1 := by decide +kernel
theorem tyX29_ok : ∀ k, k < 3 → parseFieldDescriptor (TX29 k).2.2.1 = some (tyX29 k) := by decide +kernel
abbrev cX29_holds : ByteArray := prog_8_method_2_code
def yX29_holds : MethodName := ⟨RX29, "holds", "(LSettlerColony$Ask;)Z"⟩
abbrev cX29_init : ByteArray := prog_8_method_1_code
def yX29_init : MethodName := ⟨RX29, "<init>", "(LSettlerColony$Expr;CLSettlerColony$Expr;)V"⟩
theorem q178 : (Jvm.Cond.initialized "SettlerColony$Compare") ∈ lw_all := lw_g (lw_at lw_m1 54 rfl) rfl
theorem q664 : (Jvm.Cond.selects "SettlerColony$Compare" ({ cls := "java/lang/Object", name := "getClass", desc := "()Ljava/lang/Class;" } : Jvm.MethodName) ({ cls := "java/lang/Object", name := "getClass", desc := "()Ljava/lang/Class;" } : Jvm.MethodName)) ∈ lw_all := lw_g (lw_at lw_m3 60 rfl) rfl
theorem q995 : (Jvm.Cond.castable "SettlerColony$Compare" "SettlerColony$Cond") ∈ lw_tbl := lw_at lw_m4 151 rfl
theorem q996 : (Jvm.Cond.selects "SettlerColony$Compare" ({ cls := "SettlerColony$Cond", name := "holds", desc := "(LSettlerColony$Ask;)Z" } : Jvm.MethodName) ({ cls := "SettlerColony$Compare", name := "holds", desc := "(LSettlerColony$Ask;)Z" } : Jvm.MethodName)) ∈ lw_all := lw_g (lw_at lw_m4 152 rfl) rfl
theorem q997 : (Jvm.Cond.unhidden "SettlerColony$Compare" "holds" "(LSettlerColony$Ask;)Z") ∈ lw_tbl := lw_at lw_m4 153 rfl
theorem q998 : (Jvm.Cond.instanceMethod ({ cls := "SettlerColony$Compare", name := "holds", desc := "(LSettlerColony$Ask;)Z" } : Jvm.MethodName)) ∈ lw_all := lw_g (lw_at lw_m4 154 rfl) rfl
theorem q999 : (Jvm.Cond.publicMethod ({ cls := "SettlerColony$Compare", name := "holds", desc := "(LSettlerColony$Ask;)Z" } : Jvm.MethodName)) ∈ lw_tbl := lw_at lw_m4 155 rfl
theorem q1000 : (Jvm.Cond.code ({ cls := "SettlerColony$Compare", name := "holds", desc := "(LSettlerColony$Ask;)Z" } : Jvm.MethodName) prog_8_method_2_code (4 : Nat) (Option.some Jvm.ClassFile.FieldType.boolean)) ∈ lw_all := lw_g (lw_at lw_m4 156 rfl) rfl
theorem q1001 : (Jvm.Cond.methodLink "SettlerColony$Compare" (20 : Nat) ({ cls := "SettlerColony$Expr", name := "of", desc := "(LSettlerColony$Ask;)I" } : Jvm.MethodName)) ∈ lw_all := lw_g (lw_at lw_m4 157 rfl) rfl
theorem q1619 : (Jvm.Cond.selects "SettlerColony$Compare" ({ cls := "java/lang/Object", name := "equals", desc := "(Ljava/lang/Object;)Z" } : Jvm.MethodName) ({ cls := "java/lang/Object", name := "equals", desc := "(Ljava/lang/Object;)Z" } : Jvm.MethodName)) ∈ lw_all := lw_g (lw_at lw_m7 55 rfl) rfl
theorem q2202 : (Jvm.Cond.instantiable "SettlerColony$Compare" (3 : Nat)) ∈ lw_all := lw_g (lw_at lw_m9 158 rfl) rfl
theorem q2204 : (Jvm.Cond.instanceMethod ({ cls := "SettlerColony$Compare", name := "<init>", desc := "(LSettlerColony$Expr;CLSettlerColony$Expr;)V" } : Jvm.MethodName)) ∈ lw_all := lw_g (lw_at lw_m9 160 rfl) rfl
theorem q2205 : (Jvm.Cond.code ({ cls := "SettlerColony$Compare", name := "<init>", desc := "(LSettlerColony$Expr;CLSettlerColony$Expr;)V" } : Jvm.MethodName) prog_8_method_1_code (4 : Nat) (Option.none : Option Jvm.ClassFile.FieldType)) ∈ lw_all := lw_g (lw_at lw_m9 161 rfl) rfl
theorem q2206 : (Jvm.Cond.methodLink "SettlerColony$Compare" (1 : Nat) ({ cls := "java/lang/Object", name := "<init>", desc := "()V" } : Jvm.MethodName)) ∈ lw_all := lw_g (lw_at lw_m9 162 rfl) rfl
theorem q2207 : (Jvm.Cond.fieldLink "SettlerColony$Compare" (7 : Nat) "SettlerColony$Compare" "one" "LSettlerColony$Expr;") ∈ lw_all := lw_g (lw_at lw_m9 163 rfl) rfl
theorem q2208 : (Jvm.Cond.fieldLink "SettlerColony$Compare" (17 : Nat) "SettlerColony$Compare" "other" "LSettlerColony$Expr;") ∈ lw_all := lw_g (lw_at lw_m9 164 rfl) rfl
theorem q2209 : (Jvm.Cond.fieldLink "SettlerColony$Compare" (13 : Nat) "SettlerColony$Compare" "sign" "C") ∈ lw_all := lw_g (lw_at lw_m9 165 rfl) rfl
theorem q2210 : (Jvm.Cond.laysFinal "SettlerColony$Compare" "SettlerColony$Compare" "one" "LSettlerColony$Expr;") ∈ lw_all := lw_g (lw_at lw_m9 166 rfl) rfl
theorem q2211 : (Jvm.Cond.soleField "SettlerColony$Compare" "one") ∈ lw_all := lw_g (lw_at lw_m9 167 rfl) rfl
theorem q2212 : (Jvm.Cond.laysFinal "SettlerColony$Compare" "SettlerColony$Compare" "other" "LSettlerColony$Expr;") ∈ lw_all := lw_g (lw_at lw_m9 168 rfl) rfl
theorem q2213 : (Jvm.Cond.soleField "SettlerColony$Compare" "other") ∈ lw_all := lw_g (lw_at lw_m9 169 rfl) rfl
theorem q2214 : (Jvm.Cond.laysFinal "SettlerColony$Compare" "SettlerColony$Compare" "sign" "C") ∈ lw_all := lw_g (lw_at lw_m9 170 rfl) rfl
theorem q2215 : (Jvm.Cond.soleField "SettlerColony$Compare" "sign") ∈ lw_all := lw_g (lw_at lw_m9 171 rfl) rfl
theorem q2216 : (Jvm.Cond.superclass "SettlerColony$Compare" "java/lang/Object") ∈ lw_all := lw_g (lw_at lw_m9 172 rfl) rfl
theorem q3273 : (Jvm.Cond.castable "SettlerColony$Compare" "java/lang/Object") ∈ lw_tbl := lw_at lw_m14 29 rfl
theorem in_X29 : ∀ w ∈ wsX290, w ∈ lw_all := lw_in wsX290 [2210, 2212, 2214] (by decide +kernel) (by decide +kernel)
/-! SettlerColony$Holding -/
def RX3 : String := "SettlerColony$Holding"
abbrev cX3_init : ByteArray := prog_14_method_1_code
def yX3_init : MethodName := ⟨RX3, "<init>", "()V"⟩
theorem q147 : (Jvm.Cond.initialized "SettlerColony$Holding") ∈ lw_all := lw_g (lw_at lw_m1 23 rfl) rfl
theorem q568 : (Jvm.Cond.instanceMethod ({ cls := "SettlerColony$Holding", name := "<init>", desc := "()V" } : Jvm.MethodName)) ∈ lw_all := lw_g (lw_at lw_m2 204 rfl) rfl
theorem q569 : (Jvm.Cond.code ({ cls := "SettlerColony$Holding", name := "<init>", desc := "()V" } : Jvm.MethodName) prog_14_method_1_code (1 : Nat) (Option.none : Option Jvm.ClassFile.FieldType)) ∈ lw_all := lw_g (lw_at lw_m2 205 rfl) rfl
theorem q570 : (Jvm.Cond.methodLink "SettlerColony$Holding" (1 : Nat) ({ cls := "java/lang/Object", name := "<init>", desc := "()V" } : Jvm.MethodName)) ∈ lw_all := lw_g (lw_at lw_m2 206 rfl) rfl
theorem q1132 : (Jvm.Cond.superclass "SettlerColony$Holding" "java/lang/Object") ∈ lw_all := lw_g (lw_at lw_m5 48 rfl) rfl
/-! SettlerColony$Choice -/
def RX30 : String := "SettlerColony$Choice"
def TX30 : u_T := fun k => match k with
  | 0 => ("SettlerColony$Two", "one", "LSettlerColony$Expr;", true)
  | 1 => ("SettlerColony$Two", "other", "LSettlerColony$Expr;", true)
  | 2 => ("SettlerColony$Two", "sign", "C", true)
  | _ => ("SettlerColony$Choice", "asked", "LSettlerColony$Cond;", true)
def tyX30 : Nat → FieldType := fun k => match k with
  | 0 => .object "SettlerColony$Expr"
  | 1 => .object "SettlerColony$Expr"
  | 2 => .char
  | _ => .object "SettlerColony$Cond"
abbrev wsX300 : List Cond := u_ws RX30 TX30 4
theorem nmX30 : ∀ a, a < 4 → ∀ b, b < 4 → a ≠ b → (TX30 a).2.1 ≠ (TX30 b).2.1 := by decide +kernel
theorem tyX30_ok : ∀ k, k < 4 → parseFieldDescriptor (TX30 k).2.2.1 = some (tyX30 k) := by decide +kernel
abbrev cX30_of : ByteArray := prog_7_method_2_code
def yX30_of : MethodName := ⟨RX30, "of", "(LSettlerColony$Ask;)I"⟩
abbrev cX30_init : ByteArray := prog_7_method_1_code
def yX30_init : MethodName := ⟨RX30, "<init>", "(LSettlerColony$Cond;LSettlerColony$Expr;LSettlerColony$Expr;)V"⟩
theorem q179 : (Jvm.Cond.initialized "SettlerColony$Choice") ∈ lw_all := lw_g (lw_at lw_m1 55 rfl) rfl
theorem q663 : (Jvm.Cond.selects "SettlerColony$Choice" ({ cls := "java/lang/Object", name := "getClass", desc := "()Ljava/lang/Class;" } : Jvm.MethodName) ({ cls := "java/lang/Object", name := "getClass", desc := "()Ljava/lang/Class;" } : Jvm.MethodName)) ∈ lw_all := lw_g (lw_at lw_m3 59 rfl) rfl
theorem q967 : (Jvm.Cond.instanceMethod ({ cls := "SettlerColony$Choice", name := "of", desc := "(LSettlerColony$Ask;)I" } : Jvm.MethodName)) ∈ lw_all := lw_g (lw_at lw_m4 123 rfl) rfl
theorem q968 : (Jvm.Cond.code ({ cls := "SettlerColony$Choice", name := "of", desc := "(LSettlerColony$Ask;)I" } : Jvm.MethodName) prog_7_method_2_code (2 : Nat) (Option.some Jvm.ClassFile.FieldType.int)) ∈ lw_all := lw_g (lw_at lw_m4 124 rfl) rfl
theorem q969 : (Jvm.Cond.interfaceEntry "SettlerColony$Choice" (13 : Nat)) ∈ lw_tbl := lw_at lw_m4 125 rfl
theorem q970 : (Jvm.Cond.methodLink "SettlerColony$Choice" (13 : Nat) ({ cls := "SettlerColony$Cond", name := "holds", desc := "(LSettlerColony$Ask;)Z" } : Jvm.MethodName)) ∈ lw_all := lw_g (lw_at lw_m4 126 rfl) rfl
theorem q1014 : (Jvm.Cond.methodLink "SettlerColony$Choice" (23 : Nat) ({ cls := "SettlerColony$Expr", name := "of", desc := "(LSettlerColony$Ask;)I" } : Jvm.MethodName)) ∈ lw_all := lw_g (lw_at lw_m4 170 rfl) rfl
theorem q1024 : (Jvm.Cond.selects "SettlerColony$Choice" ({ cls := "SettlerColony$Two", name := "works", desc := "(II)I" } : Jvm.MethodName) ({ cls := "SettlerColony$Two", name := "works", desc := "(II)I" } : Jvm.MethodName)) ∈ lw_all := lw_g (lw_at lw_m4 180 rfl) rfl
theorem q1026 : (Jvm.Cond.selects "SettlerColony$Choice" ({ cls := "SettlerColony$Expr", name := "of", desc := "(LSettlerColony$Ask;)I" } : Jvm.MethodName) ({ cls := "SettlerColony$Choice", name := "of", desc := "(LSettlerColony$Ask;)I" } : Jvm.MethodName)) ∈ lw_all := lw_g (lw_at lw_m4 182 rfl) rfl
theorem q1618 : (Jvm.Cond.selects "SettlerColony$Choice" ({ cls := "java/lang/Object", name := "equals", desc := "(Ljava/lang/Object;)Z" } : Jvm.MethodName) ({ cls := "java/lang/Object", name := "equals", desc := "(Ljava/lang/Object;)Z" } : Jvm.MethodName)) ∈ lw_all := lw_g (lw_at lw_m7 54 rfl) rfl
theorem q2135 : (Jvm.Cond.fieldLink "SettlerColony$Choice" (19 : Nat) "SettlerColony$Choice" "one" "LSettlerColony$Expr;") ∈ lw_all := lw_g (lw_at lw_m9 91 rfl) rfl
theorem q2136 : (Jvm.Cond.sameField "SettlerColony$Choice" "SettlerColony$Two" "one" "LSettlerColony$Expr;") ∈ lw_all := lw_g (lw_at lw_m9 92 rfl) rfl
theorem q2138 : (Jvm.Cond.fieldLink "SettlerColony$Choice" (29 : Nat) "SettlerColony$Choice" "other" "LSettlerColony$Expr;") ∈ lw_all := lw_g (lw_at lw_m9 94 rfl) rfl
theorem q2139 : (Jvm.Cond.sameField "SettlerColony$Choice" "SettlerColony$Two" "other" "LSettlerColony$Expr;") ∈ lw_all := lw_g (lw_at lw_m9 95 rfl) rfl
theorem q2221 : (Jvm.Cond.instantiable "SettlerColony$Choice" (4 : Nat)) ∈ lw_all := lw_g (lw_at lw_m9 177 rfl) rfl
theorem q2223 : (Jvm.Cond.instanceMethod ({ cls := "SettlerColony$Choice", name := "<init>", desc := "(LSettlerColony$Cond;LSettlerColony$Expr;LSettlerColony$Expr;)V" } : Jvm.MethodName)) ∈ lw_all := lw_g (lw_at lw_m9 179 rfl) rfl
theorem q2224 : (Jvm.Cond.code ({ cls := "SettlerColony$Choice", name := "<init>", desc := "(LSettlerColony$Cond;LSettlerColony$Expr;LSettlerColony$Expr;)V" } : Jvm.MethodName) prog_7_method_1_code (4 : Nat) (Option.none : Option Jvm.ClassFile.FieldType)) ∈ lw_all := lw_g (lw_at lw_m9 180 rfl) rfl
theorem q2225 : (Jvm.Cond.methodLink "SettlerColony$Choice" (1 : Nat) ({ cls := "SettlerColony$Two", name := "<init>", desc := "(LSettlerColony$Expr;CLSettlerColony$Expr;)V" } : Jvm.MethodName)) ∈ lw_all := lw_g (lw_at lw_m9 181 rfl) rfl
theorem q2226 : (Jvm.Cond.fieldLink "SettlerColony$Choice" (7 : Nat) "SettlerColony$Choice" "asked" "LSettlerColony$Cond;") ∈ lw_all := lw_g (lw_at lw_m9 182 rfl) rfl
theorem q2227 : (Jvm.Cond.laysFinal "SettlerColony$Choice" "SettlerColony$Choice" "asked" "LSettlerColony$Cond;") ∈ lw_all := lw_g (lw_at lw_m9 183 rfl) rfl
theorem q2228 : (Jvm.Cond.soleField "SettlerColony$Choice" "asked") ∈ lw_all := lw_g (lw_at lw_m9 184 rfl) rfl
theorem q2229 : (Jvm.Cond.laysFinal "SettlerColony$Choice" "SettlerColony$Two" "one" "LSettlerColony$Expr;") ∈ lw_all := lw_g (lw_at lw_m9 185 rfl) rfl
theorem q2230 : (Jvm.Cond.laysFinal "SettlerColony$Choice" "SettlerColony$Two" "other" "LSettlerColony$Expr;") ∈ lw_all := lw_g (lw_at lw_m9 186 rfl) rfl
theorem q2231 : (Jvm.Cond.laysFinal "SettlerColony$Choice" "SettlerColony$Two" "sign" "C") ∈ lw_all := lw_g (lw_at lw_m9 187 rfl) rfl
theorem q2232 : (Jvm.Cond.superclass "SettlerColony$Choice" "SettlerColony$Two") ∈ lw_all := lw_g (lw_at lw_m9 188 rfl) rfl
theorem q3274 : (Jvm.Cond.castable "SettlerColony$Choice" "java/lang/Object") ∈ lw_tbl := lw_at lw_m14 30 rfl
theorem q3281 : (Jvm.Cond.castable "SettlerColony$Choice" "SettlerColony$Expr") ∈ lw_tbl := lw_at lw_m14 37 rfl
theorem in_X30 : ∀ w ∈ wsX300, w ∈ lw_all := lw_in wsX300 [2229, 2230, 2231, 2227] (by decide +kernel) (by decide +kernel)
/-! SettlerColony$Tells -/
def RX31 : String := "SettlerColony$Tells"
abbrev cX31_isFarm : ByteArray := prog_29_method_2_code
def yX31_isFarm : MethodName := ⟨RX31, "isFarm", "()Z"⟩
abbrev cX31_isPasture : ByteArray := prog_29_method_3_code
def yX31_isPasture : MethodName := ⟨RX31, "isPasture", "()Z"⟩
theorem q1133 : (Jvm.Cond.declares ({ cls := "SettlerColony$Tells", name := "kind", desc := "()I" } : Jvm.MethodName)) ∈ lw_tbl := lw_at lw_m5 49 rfl
theorem q1200 : (Jvm.Cond.declares ({ cls := "SettlerColony$Tells", name := "isFarm", desc := "()Z" } : Jvm.MethodName)) ∈ lw_tbl := lw_at lw_m5 116 rfl
theorem q1209 : (Jvm.Cond.instanceMethod ({ cls := "SettlerColony$Tells", name := "isFarm", desc := "()Z" } : Jvm.MethodName)) ∈ lw_all := lw_g (lw_at lw_m5 125 rfl) rfl
theorem q1210 : (Jvm.Cond.publicMethod ({ cls := "SettlerColony$Tells", name := "isFarm", desc := "()Z" } : Jvm.MethodName)) ∈ lw_tbl := lw_at lw_m5 126 rfl
theorem q1211 : (Jvm.Cond.code ({ cls := "SettlerColony$Tells", name := "isFarm", desc := "()Z" } : Jvm.MethodName) prog_29_method_2_code (1 : Nat) (Option.some Jvm.ClassFile.FieldType.boolean)) ∈ lw_all := lw_g (lw_at lw_m5 127 rfl) rfl
theorem q1384 : (Jvm.Cond.declares ({ cls := "SettlerColony$Tells", name := "isPasture", desc := "()Z" } : Jvm.MethodName)) ∈ lw_tbl := lw_at lw_m6 60 rfl
theorem q1392 : (Jvm.Cond.instanceMethod ({ cls := "SettlerColony$Tells", name := "isPasture", desc := "()Z" } : Jvm.MethodName)) ∈ lw_all := lw_g (lw_at lw_m6 68 rfl) rfl
theorem q1393 : (Jvm.Cond.publicMethod ({ cls := "SettlerColony$Tells", name := "isPasture", desc := "()Z" } : Jvm.MethodName)) ∈ lw_tbl := lw_at lw_m6 69 rfl
theorem q1394 : (Jvm.Cond.code ({ cls := "SettlerColony$Tells", name := "isPasture", desc := "()Z" } : Jvm.MethodName) prog_29_method_3_code (1 : Nat) (Option.some Jvm.ClassFile.FieldType.boolean)) ∈ lw_all := lw_g (lw_at lw_m6 70 rfl) rfl
theorem q3221 : (Jvm.Cond.initialized "SettlerColony$Tells") ∈ lw_all := lw_g (lw_at lw_m13 217 rfl) rfl
/-! SettlerColony$Holds -/
def RX32 : String := "SettlerColony$Holds"
abbrev cX32_holder : ByteArray := prog_15_method_1_code
def yX32_holder : MethodName := ⟨RX32, "holder", "()I"⟩
theorem q1152 : (Jvm.Cond.declares ({ cls := "SettlerColony$Holds", name := "holder", desc := "()I" } : Jvm.MethodName)) ∈ lw_tbl := lw_at lw_m5 68 rfl
theorem q1163 : (Jvm.Cond.instanceMethod ({ cls := "SettlerColony$Holds", name := "holder", desc := "()I" } : Jvm.MethodName)) ∈ lw_all := lw_g (lw_at lw_m5 79 rfl) rfl
theorem q1164 : (Jvm.Cond.publicMethod ({ cls := "SettlerColony$Holds", name := "holder", desc := "()I" } : Jvm.MethodName)) ∈ lw_tbl := lw_at lw_m5 80 rfl
theorem q1165 : (Jvm.Cond.code ({ cls := "SettlerColony$Holds", name := "holder", desc := "()I" } : Jvm.MethodName) prog_15_method_1_code (1 : Nat) (Option.some Jvm.ClassFile.FieldType.int)) ∈ lw_all := lw_g (lw_at lw_m5 81 rfl) rfl
theorem q3220 : (Jvm.Cond.initialized "SettlerColony$Holds") ∈ lw_all := lw_g (lw_at lw_m13 216 rfl) rfl
/-! SettlerColony$Costs -/
def RX33 : String := "SettlerColony$Costs"
abbrev cX33_paid : ByteArray := prog_10_method_1_code
def yX33_paid : MethodName := ⟨RX33, "paid", "()I"⟩
theorem q1346 : (Jvm.Cond.declares ({ cls := "SettlerColony$Costs", name := "paid", desc := "()I" } : Jvm.MethodName)) ∈ lw_tbl := lw_at lw_m6 22 rfl
theorem q1355 : (Jvm.Cond.instanceMethod ({ cls := "SettlerColony$Costs", name := "paid", desc := "()I" } : Jvm.MethodName)) ∈ lw_all := lw_g (lw_at lw_m6 31 rfl) rfl
theorem q1356 : (Jvm.Cond.publicMethod ({ cls := "SettlerColony$Costs", name := "paid", desc := "()I" } : Jvm.MethodName)) ∈ lw_tbl := lw_at lw_m6 32 rfl
theorem q1357 : (Jvm.Cond.code ({ cls := "SettlerColony$Costs", name := "paid", desc := "()I" } : Jvm.MethodName) prog_10_method_1_code (1 : Nat) (Option.some Jvm.ClassFile.FieldType.int)) ∈ lw_all := lw_g (lw_at lw_m6 33 rfl) rfl
theorem q3222 : (Jvm.Cond.initialized "SettlerColony$Costs") ∈ lw_all := lw_g (lw_at lw_m13 218 rfl) rfl
/-! SettlerColony$Ends -/
def RX34 : String := "SettlerColony$Ends"
abbrev cX34_ends : ByteArray := prog_12_method_1_code
def yX34_ends : MethodName := ⟨RX34, "ends", "()Z"⟩
theorem q2432 : (Jvm.Cond.declares ({ cls := "SettlerColony$Ends", name := "ends", desc := "()Z" } : Jvm.MethodName)) ∈ lw_tbl := lw_at lw_m10 148 rfl
theorem q2443 : (Jvm.Cond.instanceMethod ({ cls := "SettlerColony$Ends", name := "ends", desc := "()Z" } : Jvm.MethodName)) ∈ lw_all := lw_g (lw_at lw_m10 159 rfl) rfl
theorem q2444 : (Jvm.Cond.publicMethod ({ cls := "SettlerColony$Ends", name := "ends", desc := "()Z" } : Jvm.MethodName)) ∈ lw_tbl := lw_at lw_m10 160 rfl
theorem q2445 : (Jvm.Cond.code ({ cls := "SettlerColony$Ends", name := "ends", desc := "()Z" } : Jvm.MethodName) prog_12_method_1_code (1 : Nat) (Option.some Jvm.ClassFile.FieldType.boolean)) ∈ lw_all := lw_g (lw_at lw_m10 161 rfl) rfl
theorem q3223 : (Jvm.Cond.initialized "SettlerColony$Ends") ∈ lw_all := lw_g (lw_at lw_m13 219 rfl) rfl
/-! SettlerColony$Wild -/
def RX4 : String := "SettlerColony$Wild"
abbrev cX4_init : ByteArray := prog_32_method_1_code
def yX4_init : MethodName := ⟨RX4, "<init>", "()V"⟩
abbrev cX4_kind : ByteArray := prog_32_method_2_code
def yX4_kind : MethodName := ⟨RX4, "kind", "()I"⟩
theorem q148 : (Jvm.Cond.initialized "SettlerColony$Wild") ∈ lw_all := lw_g (lw_at lw_m1 24 rfl) rfl
theorem q563 : (Jvm.Cond.instantiable "SettlerColony$Wild" (0 : Nat)) ∈ lw_all := lw_g (lw_at lw_m2 199 rfl) rfl
theorem q565 : (Jvm.Cond.instanceMethod ({ cls := "SettlerColony$Wild", name := "<init>", desc := "()V" } : Jvm.MethodName)) ∈ lw_all := lw_g (lw_at lw_m2 201 rfl) rfl
theorem q566 : (Jvm.Cond.code ({ cls := "SettlerColony$Wild", name := "<init>", desc := "()V" } : Jvm.MethodName) prog_32_method_1_code (1 : Nat) (Option.none : Option Jvm.ClassFile.FieldType)) ∈ lw_all := lw_g (lw_at lw_m2 202 rfl) rfl
theorem q567 : (Jvm.Cond.methodLinkNest "SettlerColony$Wild" (1 : Nat) ({ cls := "SettlerColony$Holding", name := "<init>", desc := "()V" } : Jvm.MethodName) "SettlerColony") ∈ lw_tbl := lw_at lw_m2 203 rfl
theorem q571 : (Jvm.Cond.superclass "SettlerColony$Wild" "SettlerColony$Holding") ∈ lw_all := lw_g (lw_at lw_m2 207 rfl) rfl
theorem q681 : (Jvm.Cond.selects "SettlerColony$Wild" ({ cls := "java/lang/Object", name := "getClass", desc := "()Ljava/lang/Class;" } : Jvm.MethodName) ({ cls := "java/lang/Object", name := "getClass", desc := "()Ljava/lang/Class;" } : Jvm.MethodName)) ∈ lw_all := lw_g (lw_at lw_m3 77 rfl) rfl
theorem q1149 : (Jvm.Cond.selects "SettlerColony$Wild" ({ cls := "SettlerColony$Tells", name := "kind", desc := "()I" } : Jvm.MethodName) ({ cls := "SettlerColony$Wild", name := "kind", desc := "()I" } : Jvm.MethodName)) ∈ lw_all := lw_g (lw_at lw_m5 65 rfl) rfl
theorem q1150 : (Jvm.Cond.instanceMethod ({ cls := "SettlerColony$Wild", name := "kind", desc := "()I" } : Jvm.MethodName)) ∈ lw_all := lw_g (lw_at lw_m5 66 rfl) rfl
theorem q1151 : (Jvm.Cond.code ({ cls := "SettlerColony$Wild", name := "kind", desc := "()I" } : Jvm.MethodName) prog_32_method_2_code (1 : Nat) (Option.some Jvm.ClassFile.FieldType.int)) ∈ lw_all := lw_g (lw_at lw_m5 67 rfl) rfl
theorem q1162 : (Jvm.Cond.unhidden "SettlerColony$Wild" "holder" "()I") ∈ lw_tbl := lw_at lw_m5 78 rfl
theorem q1208 : (Jvm.Cond.unhidden "SettlerColony$Wild" "isFarm" "()Z") ∈ lw_tbl := lw_at lw_m5 124 rfl
theorem q1354 : (Jvm.Cond.unhidden "SettlerColony$Wild" "paid" "()I") ∈ lw_tbl := lw_at lw_m6 30 rfl
theorem q1636 : (Jvm.Cond.selects "SettlerColony$Wild" ({ cls := "java/lang/Object", name := "equals", desc := "(Ljava/lang/Object;)Z" } : Jvm.MethodName) ({ cls := "java/lang/Object", name := "equals", desc := "(Ljava/lang/Object;)Z" } : Jvm.MethodName)) ∈ lw_all := lw_g (lw_at lw_m7 72 rfl) rfl
theorem q2442 : (Jvm.Cond.unhidden "SettlerColony$Wild" "ends" "()Z") ∈ lw_tbl := lw_at lw_m10 158 rfl
theorem q3230 : (Jvm.Cond.castable "SettlerColony$Wild" "SettlerColony$Holding") ∈ lw_tbl := lw_at lw_m13 226 rfl
theorem q3246 : (Jvm.Cond.castable "SettlerColony$Wild" "java/lang/Object") ∈ lw_tbl := lw_at lw_m14 2 rfl
/-! SettlerColony$Lot -/
def RX5 : String := "SettlerColony$Lot"
abbrev cX5_init : ByteArray := prog_17_method_1_code
def yX5_init : MethodName := ⟨RX5, "<init>", "()V"⟩
abbrev cX5_kind : ByteArray := prog_17_method_2_code
def yX5_kind : MethodName := ⟨RX5, "kind", "()I"⟩
theorem q149 : (Jvm.Cond.initialized "SettlerColony$Lot") ∈ lw_all := lw_g (lw_at lw_m1 25 rfl) rfl
theorem q575 : (Jvm.Cond.instantiable "SettlerColony$Lot" (0 : Nat)) ∈ lw_all := lw_g (lw_at lw_m2 211 rfl) rfl
theorem q577 : (Jvm.Cond.instanceMethod ({ cls := "SettlerColony$Lot", name := "<init>", desc := "()V" } : Jvm.MethodName)) ∈ lw_all := lw_g (lw_at lw_m2 213 rfl) rfl
theorem q578 : (Jvm.Cond.code ({ cls := "SettlerColony$Lot", name := "<init>", desc := "()V" } : Jvm.MethodName) prog_17_method_1_code (1 : Nat) (Option.none : Option Jvm.ClassFile.FieldType)) ∈ lw_all := lw_g (lw_at lw_m2 214 rfl) rfl
theorem q579 : (Jvm.Cond.methodLinkNest "SettlerColony$Lot" (1 : Nat) ({ cls := "SettlerColony$Holding", name := "<init>", desc := "()V" } : Jvm.MethodName) "SettlerColony") ∈ lw_tbl := lw_at lw_m2 215 rfl
theorem q580 : (Jvm.Cond.superclass "SettlerColony$Lot" "SettlerColony$Holding") ∈ lw_all := lw_g (lw_at lw_m2 216 rfl) rfl
theorem q667 : (Jvm.Cond.selects "SettlerColony$Lot" ({ cls := "java/lang/Object", name := "getClass", desc := "()Ljava/lang/Class;" } : Jvm.MethodName) ({ cls := "java/lang/Object", name := "getClass", desc := "()Ljava/lang/Class;" } : Jvm.MethodName)) ∈ lw_all := lw_g (lw_at lw_m3 63 rfl) rfl
theorem q1137 : (Jvm.Cond.selects "SettlerColony$Lot" ({ cls := "SettlerColony$Tells", name := "kind", desc := "()I" } : Jvm.MethodName) ({ cls := "SettlerColony$Lot", name := "kind", desc := "()I" } : Jvm.MethodName)) ∈ lw_all := lw_g (lw_at lw_m5 53 rfl) rfl
theorem q1138 : (Jvm.Cond.instanceMethod ({ cls := "SettlerColony$Lot", name := "kind", desc := "()I" } : Jvm.MethodName)) ∈ lw_all := lw_g (lw_at lw_m5 54 rfl) rfl
theorem q1139 : (Jvm.Cond.code ({ cls := "SettlerColony$Lot", name := "kind", desc := "()I" } : Jvm.MethodName) prog_17_method_2_code (1 : Nat) (Option.some Jvm.ClassFile.FieldType.int)) ∈ lw_all := lw_g (lw_at lw_m5 55 rfl) rfl
theorem q1156 : (Jvm.Cond.unhidden "SettlerColony$Lot" "holder" "()I") ∈ lw_tbl := lw_at lw_m5 72 rfl
theorem q1204 : (Jvm.Cond.unhidden "SettlerColony$Lot" "isFarm" "()Z") ∈ lw_tbl := lw_at lw_m5 120 rfl
theorem q1350 : (Jvm.Cond.unhidden "SettlerColony$Lot" "paid" "()I") ∈ lw_tbl := lw_at lw_m6 26 rfl
theorem q1386 : (Jvm.Cond.unhidden "SettlerColony$Lot" "isPasture" "()Z") ∈ lw_tbl := lw_at lw_m6 62 rfl
theorem q1622 : (Jvm.Cond.selects "SettlerColony$Lot" ({ cls := "java/lang/Object", name := "equals", desc := "(Ljava/lang/Object;)Z" } : Jvm.MethodName) ({ cls := "java/lang/Object", name := "equals", desc := "(Ljava/lang/Object;)Z" } : Jvm.MethodName)) ∈ lw_all := lw_g (lw_at lw_m7 58 rfl) rfl
theorem q2434 : (Jvm.Cond.unhidden "SettlerColony$Lot" "ends" "()Z") ∈ lw_tbl := lw_at lw_m10 150 rfl
theorem q3226 : (Jvm.Cond.castable "SettlerColony$Lot" "SettlerColony$Holding") ∈ lw_tbl := lw_at lw_m13 222 rfl
theorem q3247 : (Jvm.Cond.castable "SettlerColony$Lot" "java/lang/Object") ∈ lw_tbl := lw_at lw_m14 3 rfl
/-! SettlerColony$Ask -/
def RX6 : String := "SettlerColony$Ask"
def TX6 : u_T := fun k => match k with
  | 0 => ("SettlerColony$Ask", "week", "I", false)
  | 1 => ("SettlerColony$Ask", "sold", "I", false)
  | 2 => ("SettlerColony$Ask", "people", "I", false)
  | _ => ("SettlerColony$Ask", "soil", "I", false)
def tyX6 : Nat → FieldType := fun k => match k with
  | 0 => .int
  | 1 => .int
  | 2 => .int
  | _ => .int
abbrev wsX60 : List Cond := u_ws RX6 TX6 4
theorem nmX6 : ∀ a, a < 4 → ∀ b, b < 4 → a ≠ b → (TX6 a).2.1 ≠ (TX6 b).2.1 := by decide +kernel
theorem tyX6_ok : ∀ k, k < 4 → parseFieldDescriptor (TX6 k).2.2.1 = some (tyX6 k) := by decide +kernel
abbrev cX6_init : ByteArray := prog_4_method_1_code
def yX6_init : MethodName := ⟨RX6, "<init>", "()V"⟩
abbrev cX6_of : ByteArray := prog_4_method_2_code
def yX6_of : MethodName := ⟨RX6, "of", "(IIII)LSettlerColony$Ask;"⟩
theorem q150 : (Jvm.Cond.initialized "SettlerColony$Ask") ∈ lw_all := lw_g (lw_at lw_m1 26 rfl) rfl
theorem q582 : (Jvm.Cond.instantiable "SettlerColony$Ask" (4 : Nat)) ∈ lw_all := lw_g (lw_at lw_m2 218 rfl) rfl
theorem q584 : (Jvm.Cond.instanceMethod ({ cls := "SettlerColony$Ask", name := "<init>", desc := "()V" } : Jvm.MethodName)) ∈ lw_all := lw_g (lw_at lw_m2 220 rfl) rfl
theorem q585 : (Jvm.Cond.code ({ cls := "SettlerColony$Ask", name := "<init>", desc := "()V" } : Jvm.MethodName) prog_4_method_1_code (1 : Nat) (Option.none : Option Jvm.ClassFile.FieldType)) ∈ lw_all := lw_g (lw_at lw_m2 221 rfl) rfl
theorem q586 : (Jvm.Cond.methodLink "SettlerColony$Ask" (1 : Nat) ({ cls := "java/lang/Object", name := "<init>", desc := "()V" } : Jvm.MethodName)) ∈ lw_all := lw_g (lw_at lw_m2 222 rfl) rfl
theorem q587 : (Jvm.Cond.fieldLink "SettlerColony$Ask" (7 : Nat) "SettlerColony$Ask" "week" "I") ∈ lw_all := lw_g (lw_at lw_m2 223 rfl) rfl
theorem q589 : (Jvm.Cond.fieldLink "SettlerColony$Ask" (13 : Nat) "SettlerColony$Ask" "sold" "I") ∈ lw_all := lw_g (lw_at lw_m2 225 rfl) rfl
theorem q591 : (Jvm.Cond.fieldLink "SettlerColony$Ask" (16 : Nat) "SettlerColony$Ask" "people" "I") ∈ lw_all := lw_g (lw_at lw_m2 227 rfl) rfl
theorem q593 : (Jvm.Cond.fieldLink "SettlerColony$Ask" (19 : Nat) "SettlerColony$Ask" "soil" "I") ∈ lw_all := lw_g (lw_at lw_m2 229 rfl) rfl
theorem q595 : (Jvm.Cond.lays "SettlerColony$Ask" "SettlerColony$Ask" "week" "I") ∈ lw_all := lw_g (lw_at lw_m2 231 rfl) rfl
theorem q596 : (Jvm.Cond.soleField "SettlerColony$Ask" "week") ∈ lw_all := lw_g (lw_at lw_m2 232 rfl) rfl
theorem q597 : (Jvm.Cond.lays "SettlerColony$Ask" "SettlerColony$Ask" "sold" "I") ∈ lw_all := lw_g (lw_at lw_m2 233 rfl) rfl
theorem q598 : (Jvm.Cond.soleField "SettlerColony$Ask" "sold") ∈ lw_all := lw_g (lw_at lw_m2 234 rfl) rfl
theorem q599 : (Jvm.Cond.lays "SettlerColony$Ask" "SettlerColony$Ask" "people" "I") ∈ lw_all := lw_g (lw_at lw_m2 235 rfl) rfl
theorem q600 : (Jvm.Cond.soleField "SettlerColony$Ask" "people") ∈ lw_all := lw_g (lw_at lw_m2 236 rfl) rfl
theorem q601 : (Jvm.Cond.lays "SettlerColony$Ask" "SettlerColony$Ask" "soil" "I") ∈ lw_all := lw_g (lw_at lw_m2 237 rfl) rfl
theorem q602 : (Jvm.Cond.soleField "SettlerColony$Ask" "soil") ∈ lw_all := lw_g (lw_at lw_m2 238 rfl) rfl
theorem q603 : (Jvm.Cond.superclass "SettlerColony$Ask" "java/lang/Object") ∈ lw_all := lw_g (lw_at lw_m2 239 rfl) rfl
theorem q660 : (Jvm.Cond.selects "SettlerColony$Ask" ({ cls := "java/lang/Object", name := "getClass", desc := "()Ljava/lang/Class;" } : Jvm.MethodName) ({ cls := "java/lang/Object", name := "getClass", desc := "()Ljava/lang/Class;" } : Jvm.MethodName)) ∈ lw_all := lw_g (lw_at lw_m3 56 rfl) rfl
theorem q957 : (Jvm.Cond.instanceMethod ({ cls := "SettlerColony$Ask", name := "of", desc := "(IIII)LSettlerColony$Ask;" } : Jvm.MethodName)) ∈ lw_all := lw_g (lw_at lw_m4 113 rfl) rfl
theorem q958 : (Jvm.Cond.selects "SettlerColony$Ask" ({ cls := "SettlerColony$Ask", name := "of", desc := "(IIII)LSettlerColony$Ask;" } : Jvm.MethodName) ({ cls := "SettlerColony$Ask", name := "of", desc := "(IIII)LSettlerColony$Ask;" } : Jvm.MethodName)) ∈ lw_all := lw_g (lw_at lw_m4 114 rfl) rfl
theorem q959 : (Jvm.Cond.code ({ cls := "SettlerColony$Ask", name := "of", desc := "(IIII)LSettlerColony$Ask;" } : Jvm.MethodName) prog_4_method_2_code (5 : Nat) (Option.some (Jvm.ClassFile.FieldType.object "SettlerColony$Ask"))) ∈ lw_all := lw_g (lw_at lw_m4 115 rfl) rfl
theorem q1615 : (Jvm.Cond.selects "SettlerColony$Ask" ({ cls := "java/lang/Object", name := "equals", desc := "(Ljava/lang/Object;)Z" } : Jvm.MethodName) ({ cls := "java/lang/Object", name := "equals", desc := "(Ljava/lang/Object;)Z" } : Jvm.MethodName)) ∈ lw_all := lw_g (lw_at lw_m7 51 rfl) rfl
theorem q3248 : (Jvm.Cond.castable "SettlerColony$Ask" "java/lang/Object") ∈ lw_tbl := lw_at lw_m14 4 rfl
theorem in_X6 : ∀ w ∈ wsX60, w ∈ lw_all := lw_in wsX60 [595, 597, 599, 601] (by decide +kernel) (by decide +kernel)
/-! SettlerColony$Rains -/
def RX7 : String := "SettlerColony$Rains"
def TX7 : u_T := fun k => match k with
  | 0 => ("SettlerColony$Rains", "rows", "[[F", true)
  | _ => ("SettlerColony$Rains", "many", "[I", true)
def tyX7 : Nat → FieldType := fun k => match k with
  | 0 => .array (.array .float)
  | _ => .array .int
abbrev wsX70 : List Cond := u_ws RX7 TX7 2
theorem nmX7 : ∀ a, a < 2 → ∀ b, b < 2 → a ≠ b → (TX7 a).2.1 ≠ (TX7 b).2.1 := by decide +kernel
theorem tyX7_ok : ∀ k, k < 2 → parseFieldDescriptor (TX7 k).2.2.1 = some (tyX7 k) := by decide +kernel
abbrev cX7_init : ByteArray := prog_24_method_1_code
def yX7_init : MethodName := ⟨RX7, "<init>", "()V"⟩
abbrev cX7_add : ByteArray := prog_24_method_2_code
def yX7_add : MethodName := ⟨RX7, "add", "(IF)V"⟩
abbrev cX7_fell : ByteArray := prog_24_method_4_code
def yX7_fell : MethodName := ⟨RX7, "fell", "(II)I"⟩
abbrev cX7_told : ByteArray := prog_24_method_3_code
def yX7_told : MethodName := ⟨RX7, "told", "(II)F"⟩
theorem q151 : (Jvm.Cond.initialized "SettlerColony$Rains") ∈ lw_all := lw_g (lw_at lw_m1 27 rfl) rfl
theorem q605 : (Jvm.Cond.instantiable "SettlerColony$Rains" (2 : Nat)) ∈ lw_all := lw_g (lw_at lw_m3 1 rfl) rfl
theorem q607 : (Jvm.Cond.instanceMethod ({ cls := "SettlerColony$Rains", name := "<init>", desc := "()V" } : Jvm.MethodName)) ∈ lw_all := lw_g (lw_at lw_m3 3 rfl) rfl
theorem q608 : (Jvm.Cond.code ({ cls := "SettlerColony$Rains", name := "<init>", desc := "()V" } : Jvm.MethodName) prog_24_method_1_code (1 : Nat) (Option.none : Option Jvm.ClassFile.FieldType)) ∈ lw_all := lw_g (lw_at lw_m3 4 rfl) rfl
theorem q609 : (Jvm.Cond.methodLink "SettlerColony$Rains" (3 : Nat) ({ cls := "java/lang/Object", name := "<init>", desc := "()V" } : Jvm.MethodName)) ∈ lw_all := lw_g (lw_at lw_m3 5 rfl) rfl
theorem q610 : (Jvm.Cond.classLink "SettlerColony$Rains" (9 : Nat) "[F") ∈ lw_all := lw_g (lw_at lw_m3 6 rfl) rfl
theorem q612 : (Jvm.Cond.fieldLink "SettlerColony$Rains" (11 : Nat) "SettlerColony$Rains" "rows" "[[F") ∈ lw_all := lw_g (lw_at lw_m3 8 rfl) rfl
theorem q613 : (Jvm.Cond.fieldLink "SettlerColony$Rains" (17 : Nat) "SettlerColony$Rains" "many" "[I") ∈ lw_all := lw_g (lw_at lw_m3 9 rfl) rfl
theorem q615 : (Jvm.Cond.laysFinal "SettlerColony$Rains" "SettlerColony$Rains" "rows" "[[F") ∈ lw_all := lw_g (lw_at lw_m3 11 rfl) rfl
theorem q616 : (Jvm.Cond.soleField "SettlerColony$Rains" "rows") ∈ lw_all := lw_g (lw_at lw_m3 12 rfl) rfl
theorem q617 : (Jvm.Cond.laysFinal "SettlerColony$Rains" "SettlerColony$Rains" "many" "[I") ∈ lw_all := lw_g (lw_at lw_m3 13 rfl) rfl
theorem q618 : (Jvm.Cond.soleField "SettlerColony$Rains" "many") ∈ lw_all := lw_g (lw_at lw_m3 14 rfl) rfl
theorem q619 : (Jvm.Cond.superclass "SettlerColony$Rains" "java/lang/Object") ∈ lw_all := lw_g (lw_at lw_m3 15 rfl) rfl
theorem q674 : (Jvm.Cond.selects "SettlerColony$Rains" ({ cls := "java/lang/Object", name := "getClass", desc := "()Ljava/lang/Class;" } : Jvm.MethodName) ({ cls := "java/lang/Object", name := "getClass", desc := "()Ljava/lang/Class;" } : Jvm.MethodName)) ∈ lw_all := lw_g (lw_at lw_m3 70 rfl) rfl
theorem q1285 : (Jvm.Cond.instanceMethod ({ cls := "SettlerColony$Rains", name := "add", desc := "(IF)V" } : Jvm.MethodName)) ∈ lw_all := lw_g (lw_at lw_m5 201 rfl) rfl
theorem q1286 : (Jvm.Cond.selects "SettlerColony$Rains" ({ cls := "SettlerColony$Rains", name := "add", desc := "(IF)V" } : Jvm.MethodName) ({ cls := "SettlerColony$Rains", name := "add", desc := "(IF)V" } : Jvm.MethodName)) ∈ lw_all := lw_g (lw_at lw_m5 202 rfl) rfl
theorem q1287 : (Jvm.Cond.code ({ cls := "SettlerColony$Rains", name := "add", desc := "(IF)V" } : Jvm.MethodName) prog_24_method_2_code (3 : Nat) (Option.none : Option Jvm.ClassFile.FieldType)) ∈ lw_all := lw_g (lw_at lw_m5 203 rfl) rfl
theorem q1304 : (Jvm.Cond.instanceMethod ({ cls := "SettlerColony$Rains", name := "fell", desc := "(II)I" } : Jvm.MethodName)) ∈ lw_all := lw_g (lw_at lw_m5 220 rfl) rfl
theorem q1305 : (Jvm.Cond.selects "SettlerColony$Rains" ({ cls := "SettlerColony$Rains", name := "fell", desc := "(II)I" } : Jvm.MethodName) ({ cls := "SettlerColony$Rains", name := "fell", desc := "(II)I" } : Jvm.MethodName)) ∈ lw_all := lw_g (lw_at lw_m5 221 rfl) rfl
theorem q1306 : (Jvm.Cond.code ({ cls := "SettlerColony$Rains", name := "fell", desc := "(II)I" } : Jvm.MethodName) prog_24_method_4_code (8 : Nat) (Option.some Jvm.ClassFile.FieldType.int)) ∈ lw_all := lw_g (lw_at lw_m5 222 rfl) rfl
theorem q1307 : (Jvm.Cond.methodLink "SettlerColony$Rains" (22 : Nat) ({ cls := "SettlerColony$Rains", name := "told", desc := "(II)F" } : Jvm.MethodName)) ∈ lw_all := lw_g (lw_at lw_m5 223 rfl) rfl
theorem q1308 : (Jvm.Cond.privateMethod ({ cls := "SettlerColony$Rains", name := "told", desc := "(II)F" } : Jvm.MethodName)) ∈ lw_tbl := lw_at lw_m5 224 rfl
theorem q1309 : (Jvm.Cond.instanceMethod ({ cls := "SettlerColony$Rains", name := "told", desc := "(II)F" } : Jvm.MethodName)) ∈ lw_all := lw_g (lw_at lw_m5 225 rfl) rfl
theorem q1310 : (Jvm.Cond.code ({ cls := "SettlerColony$Rains", name := "told", desc := "(II)F" } : Jvm.MethodName) prog_24_method_3_code (3 : Nat) (Option.some Jvm.ClassFile.FieldType.float)) ∈ lw_all := lw_g (lw_at lw_m5 226 rfl) rfl
theorem q1311 : (Jvm.Cond.constantFloat "SettlerColony$Rains" (21 : Nat) (3212836864 : UInt32)) ∈ lw_all := lw_g (lw_at lw_m5 227 rfl) rfl
theorem q1629 : (Jvm.Cond.selects "SettlerColony$Rains" ({ cls := "java/lang/Object", name := "equals", desc := "(Ljava/lang/Object;)Z" } : Jvm.MethodName) ({ cls := "java/lang/Object", name := "equals", desc := "(Ljava/lang/Object;)Z" } : Jvm.MethodName)) ∈ lw_all := lw_g (lw_at lw_m7 65 rfl) rfl
theorem q3249 : (Jvm.Cond.castable "SettlerColony$Rains" "java/lang/Object") ∈ lw_tbl := lw_at lw_m14 5 rfl
theorem in_X7 : ∀ w ∈ wsX70, w ∈ lw_all := lw_in wsX70 [615, 617] (by decide +kernel) (by decide +kernel)
/-! SettlerColony$Slot -/
def RX8 : String := "SettlerColony$Slot"
def TX8 : u_T := fun k => match k with
  | _ => ("SettlerColony$Slot", "held", "Ljava/lang/Object;", false)
def tyX8 : Nat → FieldType := fun k => match k with
  | _ => .object "java/lang/Object"
abbrev wsX80 : List Cond := u_ws RX8 TX8 1
theorem nmX8 : ∀ a, a < 1 → ∀ b, b < 1 → a ≠ b → (TX8 a).2.1 ≠ (TX8 b).2.1 := by decide +kernel
theorem tyX8_ok : ∀ k, k < 1 → parseFieldDescriptor (TX8 k).2.2.1 = some (tyX8 k) := by decide +kernel
abbrev cX8_init : ByteArray := prog_27_method_1_code
def yX8_init : MethodName := ⟨RX8, "<init>", "()V"⟩
abbrev cX8_holding : ByteArray := prog_27_method_2_code
def yX8_holding : MethodName := ⟨RX8, "holding", "()LSettlerColony$Holding;"⟩
abbrev cX8_isWild : ByteArray := prog_27_method_4_code
def yX8_isWild : MethodName := ⟨RX8, "isWild", "()Z"⟩
abbrev cX8_pasture : ByteArray := prog_27_method_5_code
def yX8_pasture : MethodName := ⟨RX8, "pasture", "()LSettlerColony$Run;"⟩
abbrev cX8_lot : ByteArray := prog_27_method_3_code
def yX8_lot : MethodName := ⟨RX8, "lot", "()LSettlerColony$Lot;"⟩
abbrev cX8_isLot : ByteArray := prog_27_method_7_code
def yX8_isLot : MethodName := ⟨RX8, "isLot", "()Z"⟩
abbrev cX8_farm : ByteArray := prog_27_method_6_code
def yX8_farm : MethodName := ⟨RX8, "farm", "()LSettlerColony$Country;"⟩
theorem q152 : (Jvm.Cond.initialized "SettlerColony$Slot") ∈ lw_all := lw_g (lw_at lw_m1 28 rfl) rfl
theorem q621 : (Jvm.Cond.instantiable "SettlerColony$Slot" (1 : Nat)) ∈ lw_all := lw_g (lw_at lw_m3 17 rfl) rfl
theorem q623 : (Jvm.Cond.instanceMethod ({ cls := "SettlerColony$Slot", name := "<init>", desc := "()V" } : Jvm.MethodName)) ∈ lw_all := lw_g (lw_at lw_m3 19 rfl) rfl
theorem q624 : (Jvm.Cond.code ({ cls := "SettlerColony$Slot", name := "<init>", desc := "()V" } : Jvm.MethodName) prog_27_method_1_code (1 : Nat) (Option.none : Option Jvm.ClassFile.FieldType)) ∈ lw_all := lw_g (lw_at lw_m3 20 rfl) rfl
theorem q625 : (Jvm.Cond.methodLink "SettlerColony$Slot" (1 : Nat) ({ cls := "java/lang/Object", name := "<init>", desc := "()V" } : Jvm.MethodName)) ∈ lw_all := lw_g (lw_at lw_m3 21 rfl) rfl
theorem q626 : (Jvm.Cond.fieldLink "SettlerColony$Slot" (7 : Nat) "SettlerColony$Slot" "held" "Ljava/lang/Object;") ∈ lw_all := lw_g (lw_at lw_m3 22 rfl) rfl
theorem q629 : (Jvm.Cond.lays "SettlerColony$Slot" "SettlerColony$Slot" "held" "Ljava/lang/Object;") ∈ lw_all := lw_g (lw_at lw_m3 25 rfl) rfl
theorem q630 : (Jvm.Cond.soleField "SettlerColony$Slot" "held") ∈ lw_all := lw_g (lw_at lw_m3 26 rfl) rfl
theorem q631 : (Jvm.Cond.superclass "SettlerColony$Slot" "java/lang/Object") ∈ lw_all := lw_g (lw_at lw_m3 27 rfl) rfl
theorem q677 : (Jvm.Cond.selects "SettlerColony$Slot" ({ cls := "java/lang/Object", name := "getClass", desc := "()Ljava/lang/Class;" } : Jvm.MethodName) ({ cls := "java/lang/Object", name := "getClass", desc := "()Ljava/lang/Class;" } : Jvm.MethodName)) ∈ lw_all := lw_g (lw_at lw_m3 73 rfl) rfl
theorem q1128 : (Jvm.Cond.instanceMethod ({ cls := "SettlerColony$Slot", name := "holding", desc := "()LSettlerColony$Holding;" } : Jvm.MethodName)) ∈ lw_all := lw_g (lw_at lw_m5 44 rfl) rfl
theorem q1129 : (Jvm.Cond.selects "SettlerColony$Slot" ({ cls := "SettlerColony$Slot", name := "holding", desc := "()LSettlerColony$Holding;" } : Jvm.MethodName) ({ cls := "SettlerColony$Slot", name := "holding", desc := "()LSettlerColony$Holding;" } : Jvm.MethodName)) ∈ lw_all := lw_g (lw_at lw_m5 45 rfl) rfl
theorem q1130 : (Jvm.Cond.code ({ cls := "SettlerColony$Slot", name := "holding", desc := "()LSettlerColony$Holding;" } : Jvm.MethodName) prog_27_method_2_code (1 : Nat) (Option.some (Jvm.ClassFile.FieldType.object "SettlerColony$Holding"))) ∈ lw_all := lw_g (lw_at lw_m5 46 rfl) rfl
theorem q1131 : (Jvm.Cond.classLink "SettlerColony$Slot" (13 : Nat) "SettlerColony$Holding") ∈ lw_all := lw_g (lw_at lw_m5 47 rfl) rfl
theorem q1271 : (Jvm.Cond.instanceMethod ({ cls := "SettlerColony$Slot", name := "isWild", desc := "()Z" } : Jvm.MethodName)) ∈ lw_all := lw_g (lw_at lw_m5 187 rfl) rfl
theorem q1272 : (Jvm.Cond.selects "SettlerColony$Slot" ({ cls := "SettlerColony$Slot", name := "isWild", desc := "()Z" } : Jvm.MethodName) ({ cls := "SettlerColony$Slot", name := "isWild", desc := "()Z" } : Jvm.MethodName)) ∈ lw_all := lw_g (lw_at lw_m5 188 rfl) rfl
theorem q1273 : (Jvm.Cond.code ({ cls := "SettlerColony$Slot", name := "isWild", desc := "()Z" } : Jvm.MethodName) prog_27_method_4_code (1 : Nat) (Option.some Jvm.ClassFile.FieldType.boolean)) ∈ lw_all := lw_g (lw_at lw_m5 189 rfl) rfl
theorem q1274 : (Jvm.Cond.classLink "SettlerColony$Slot" (19 : Nat) "SettlerColony$Wild") ∈ lw_all := lw_g (lw_at lw_m5 190 rfl) rfl
theorem q1342 : (Jvm.Cond.instanceMethod ({ cls := "SettlerColony$Slot", name := "pasture", desc := "()LSettlerColony$Run;" } : Jvm.MethodName)) ∈ lw_all := lw_g (lw_at lw_m6 18 rfl) rfl
theorem q1343 : (Jvm.Cond.selects "SettlerColony$Slot" ({ cls := "SettlerColony$Slot", name := "pasture", desc := "()LSettlerColony$Run;" } : Jvm.MethodName) ({ cls := "SettlerColony$Slot", name := "pasture", desc := "()LSettlerColony$Run;" } : Jvm.MethodName)) ∈ lw_all := lw_g (lw_at lw_m6 19 rfl) rfl
theorem q1344 : (Jvm.Cond.code ({ cls := "SettlerColony$Slot", name := "pasture", desc := "()LSettlerColony$Run;" } : Jvm.MethodName) prog_27_method_5_code (1 : Nat) (Option.some (Jvm.ClassFile.FieldType.object "SettlerColony$Run"))) ∈ lw_all := lw_g (lw_at lw_m6 20 rfl) rfl
theorem q1345 : (Jvm.Cond.classLink "SettlerColony$Slot" (21 : Nat) "SettlerColony$Run") ∈ lw_all := lw_g (lw_at lw_m6 21 rfl) rfl
theorem q1366 : (Jvm.Cond.instanceMethod ({ cls := "SettlerColony$Slot", name := "lot", desc := "()LSettlerColony$Lot;" } : Jvm.MethodName)) ∈ lw_all := lw_g (lw_at lw_m6 42 rfl) rfl
theorem q1367 : (Jvm.Cond.selects "SettlerColony$Slot" ({ cls := "SettlerColony$Slot", name := "lot", desc := "()LSettlerColony$Lot;" } : Jvm.MethodName) ({ cls := "SettlerColony$Slot", name := "lot", desc := "()LSettlerColony$Lot;" } : Jvm.MethodName)) ∈ lw_all := lw_g (lw_at lw_m6 43 rfl) rfl
theorem q1368 : (Jvm.Cond.codeWith ({ cls := "SettlerColony$Slot", name := "lot", desc := "()LSettlerColony$Lot;" } : Jvm.MethodName) prog_27_method_3_code (2 : Nat) (Option.some (Jvm.ClassFile.FieldType.object "SettlerColony$Lot")) [((0 : Nat), (7 : Nat), (8 : Nat), (17 : Nat))]) ∈ lw_all := lw_g (lw_at lw_m6 44 rfl) rfl
theorem q1369 : (Jvm.Cond.classLink "SettlerColony$Slot" (17 : Nat) "java/lang/ClassCastException") ∈ lw_all := lw_g (lw_at lw_m6 45 rfl) rfl
theorem q1383 : (Jvm.Cond.classLink "SettlerColony$Slot" (15 : Nat) "SettlerColony$Lot") ∈ lw_all := lw_g (lw_at lw_m6 59 rfl) rfl
theorem q1632 : (Jvm.Cond.selects "SettlerColony$Slot" ({ cls := "java/lang/Object", name := "equals", desc := "(Ljava/lang/Object;)Z" } : Jvm.MethodName) ({ cls := "java/lang/Object", name := "equals", desc := "(Ljava/lang/Object;)Z" } : Jvm.MethodName)) ∈ lw_all := lw_g (lw_at lw_m7 68 rfl) rfl
theorem q1699 : (Jvm.Cond.instanceMethod ({ cls := "SettlerColony$Slot", name := "isLot", desc := "()Z" } : Jvm.MethodName)) ∈ lw_all := lw_g (lw_at lw_m7 135 rfl) rfl
theorem q1700 : (Jvm.Cond.selects "SettlerColony$Slot" ({ cls := "SettlerColony$Slot", name := "isLot", desc := "()Z" } : Jvm.MethodName) ({ cls := "SettlerColony$Slot", name := "isLot", desc := "()Z" } : Jvm.MethodName)) ∈ lw_all := lw_g (lw_at lw_m7 136 rfl) rfl
theorem q1701 : (Jvm.Cond.code ({ cls := "SettlerColony$Slot", name := "isLot", desc := "()Z" } : Jvm.MethodName) prog_27_method_7_code (1 : Nat) (Option.some Jvm.ClassFile.FieldType.boolean)) ∈ lw_all := lw_g (lw_at lw_m7 137 rfl) rfl
theorem q1702 : (Jvm.Cond.methodLink "SettlerColony$Slot" (25 : Nat) ({ cls := "SettlerColony$Slot", name := "holding", desc := "()LSettlerColony$Holding;" } : Jvm.MethodName)) ∈ lw_all := lw_g (lw_at lw_m7 138 rfl) rfl
theorem q2366 : (Jvm.Cond.instanceMethod ({ cls := "SettlerColony$Slot", name := "farm", desc := "()LSettlerColony$Country;" } : Jvm.MethodName)) ∈ lw_all := lw_g (lw_at lw_m10 82 rfl) rfl
theorem q2367 : (Jvm.Cond.selects "SettlerColony$Slot" ({ cls := "SettlerColony$Slot", name := "farm", desc := "()LSettlerColony$Country;" } : Jvm.MethodName) ({ cls := "SettlerColony$Slot", name := "farm", desc := "()LSettlerColony$Country;" } : Jvm.MethodName)) ∈ lw_all := lw_g (lw_at lw_m10 83 rfl) rfl
theorem q2368 : (Jvm.Cond.code ({ cls := "SettlerColony$Slot", name := "farm", desc := "()LSettlerColony$Country;" } : Jvm.MethodName) prog_27_method_6_code (1 : Nat) (Option.some (Jvm.ClassFile.FieldType.object "SettlerColony$Country"))) ∈ lw_all := lw_g (lw_at lw_m10 84 rfl) rfl
theorem q2369 : (Jvm.Cond.classLink "SettlerColony$Slot" (23 : Nat) "SettlerColony$Country") ∈ lw_all := lw_g (lw_at lw_m10 85 rfl) rfl
theorem q3250 : (Jvm.Cond.castable "SettlerColony$Slot" "java/lang/Object") ∈ lw_tbl := lw_at lw_m14 6 rfl
theorem in_X8 : ∀ w ∈ wsX80, w ∈ lw_all := lw_in wsX80 [629] (by decide +kernel) (by decide +kernel)
/-! SettlerColonyModel -/
def RX9 : String := "SettlerColonyModel"
def TX9 : u_T := fun k => match k with
  | 0 => ("SettlerColonyModel", "thrown", "I", false)
  | 1 => ("SettlerColonyModel", "s", "[I", true)
  | 2 => ("SettlerColonyModel", "saved", "[I", true)
  | 3 => ("SettlerColonyModel", "soil", "[I", true)
  | 4 => ("SettlerColonyModel", "isWet", "[Z", true)
  | 5 => ("SettlerColonyModel", "rains", "[I", true)
  | 6 => ("SettlerColonyModel", "rainMany", "[I", true)
  | 7 => ("SettlerColonyModel", "oneRain", "I", false)
  | 8 => ("SettlerColonyModel", "tape", "[B", true)
  | 9 => ("SettlerColonyModel", "taped", "I", false)
  | 10 => ("SettlerColonyModel", "size", "I", false)
  | 11 => ("SettlerColonyModel", "at", "I", false)
  | 12 => ("SettlerColonyModel", "fault", "I", false)
  | 13 => ("SettlerColonyModel", "place", "I", false)
  | 14 => ("SettlerColonyModel", "open", "I", false)
  | 15 => ("SettlerColonyModel", "codes", "I", false)
  | 16 => ("SettlerColonyModel", "lawNow", "I", false)
  | 17 => ("SettlerColonyModel", "code", "[I", true)
  | 18 => ("SettlerColonyModel", "number", "[I", true)
  | 19 => ("SettlerColonyModel", "codeAt", "[I", true)
  | 20 => ("SettlerColonyModel", "isFall", "[Z", true)
  | 21 => ("SettlerColonyModel", "hasVoted", "[Z", true)
  | 22 => ("SettlerColonyModel", "pile", "[I", true)
  | 23 => ("SettlerColonyModel", "triedPrice", "I", false)
  | 24 => ("SettlerColonyModel", "triedShare", "I", false)
  | 25 => ("SettlerColonyModel", "rows", "[I", true)
  | 26 => ("SettlerColonyModel", "prices", "[I", true)
  | 27 => ("SettlerColonyModel", "worsts", "[I", true)
  | 28 => ("SettlerColonyModel", "hasPrices", "Z", false)
  | 29 => ("SettlerColonyModel", "worstMany", "I", false)
  | 30 => ("SettlerColonyModel", "image", "[I", true)
  | 31 => ("SettlerColonyModel", "imageMany", "I", false)
  | 32 => ("SettlerColonyModel", "imageSum", "J", false)
  | _ => ("SettlerColonyModel", "imagePlaces", "J", false)
def tyX9 : Nat → FieldType := fun k => match k with
  | 0 => .int
  | 1 => .array .int
  | 2 => .array .int
  | 3 => .array .int
  | 4 => .array .boolean
  | 5 => .array .int
  | 6 => .array .int
  | 7 => .int
  | 8 => .array .byte
  | 9 => .int
  | 10 => .int
  | 11 => .int
  | 12 => .int
  | 13 => .int
  | 14 => .int
  | 15 => .int
  | 16 => .int
  | 17 => .array .int
  | 18 => .array .int
  | 19 => .array .int
  | 20 => .array .boolean
  | 21 => .array .boolean
  | 22 => .array .int
  | 23 => .int
  | 24 => .int
  | 25 => .array .int
  | 26 => .array .int
  | 27 => .array .int
  | 28 => .boolean
  | 29 => .int
  | 30 => .array .int
  | 31 => .int
  | 32 => .long
  | _ => .long
abbrev wsX90 : List Cond := u_ws RX9 TX9 34
theorem nmX9 : ∀ a, a < 34 → ∀ b, b < 34 → a ≠ b → (TX9 a).2.1 ≠ (TX9 b).2.1 := by decide +kernel
theorem tyX9_ok : ∀ k, k < 34 → parseFieldDescriptor (TX9 k).2.2.1 = some (tyX9 k) := by decide +kernel
abbrev cX9_init : ByteArray := prog_36_method_1_code
def yX9_init : MethodName := ⟨RX9, "<init>", "()V"⟩
abbrev cX9_thrown : ByteArray := prog_36_method_2_code
def yX9_thrown : MethodName := ⟨RX9, "thrown", "()I"⟩
abbrev cX9_land : ByteArray := prog_36_method_14_code
def yX9_land : MethodName := ⟨RX9, "land", "(IIZ)I"⟩
abbrev cX9_isSection : ByteArray := prog_36_method_10_code
def yX9_isSection : MethodName := ⟨RX9, "isSection", "(I)Z"⟩
abbrev cX9_bad : ByteArray := prog_36_method_3_code
def yX9_bad : MethodName := ⟨RX9, "bad", "(ZI)Z"⟩
abbrev cX9_sec : ByteArray := prog_36_method_6_code
def yX9_sec : MethodName := ⟨RX9, "sec", "(II)I"⟩
abbrev cX9_rain : ByteArray := prog_36_method_16_code
def yX9_rain : MethodName := ⟨RX9, "rain", "(II)I"⟩
abbrev cX9_isZone : ByteArray := prog_36_method_15_code
def yX9_isZone : MethodName := ⟨RX9, "isZone", "(I)Z"⟩
abbrev cX9_rains : ByteArray := prog_36_method_17_code
def yX9_rains : MethodName := ⟨RX9, "rains", "(III)I"⟩
abbrev cX9_fell : ByteArray := prog_36_method_19_code
def yX9_fell : MethodName := ⟨RX9, "fell", "(II)I"⟩
abbrev cX9_fallen : ByteArray := prog_36_method_18_code
def yX9_fallen : MethodName := ⟨RX9, "fallen", "(II)I"⟩
abbrev cX9_seen : ByteArray := prog_36_method_20_code
def yX9_seen : MethodName := ⟨RX9, "seen", "(I)I"⟩
abbrev cX9_promise : ByteArray := prog_36_method_22_code
def yX9_promise : MethodName := ⟨RX9, "promise", "(I)I"⟩
abbrev cX9_promiseOf : ByteArray := prog_36_method_21_code
def yX9_promiseOf : MethodName := ⟨RX9, "promiseOf", "(I)I"⟩
abbrev cX9_zoneOf : ByteArray := prog_36_method_13_code
def yX9_zoneOf : MethodName := ⟨RX9, "zoneOf", "(I)I"⟩
abbrev cX9_section : ByteArray := prog_36_method_26_code
def yX9_section : MethodName := ⟨RX9, "section", "(II)I"⟩
abbrev cX9_isPasture : ByteArray := prog_36_method_24_code
def yX9_isPasture : MethodName := ⟨RX9, "isPasture", "(I)Z"⟩
abbrev cX9_isFarm : ByteArray := prog_36_method_23_code
def yX9_isFarm : MethodName := ⟨RX9, "isFarm", "(I)Z"⟩
abbrev cX9_miles : ByteArray := prog_36_method_25_code
def yX9_miles : MethodName := ⟨RX9, "miles", "(I)I"⟩
abbrev cX9_is : ByteArray := prog_36_method_27_code
def yX9_is : MethodName := ⟨RX9, "is", "(II)Z"⟩
abbrev cX9_people : ByteArray := prog_36_method_30_code
def yX9_people : MethodName := ⟨RX9, "people", "(III)I"⟩
abbrev cX9_adds : ByteArray := prog_36_method_29_code
def yX9_adds : MethodName := ⟨RX9, "adds", "(IIII)V"⟩
abbrev cX9_setPer : ByteArray := prog_36_method_8_code
def yX9_setPer : MethodName := ⟨RX9, "setPer", "(III)V"⟩
abbrev cX9_person : ByteArray := prog_36_method_36_code
def yX9_person : MethodName := ⟨RX9, "person", "(II)I"⟩
abbrev cX9_isPerson : ByteArray := prog_36_method_11_code
def yX9_isPerson : MethodName := ⟨RX9, "isPerson", "(I)Z"⟩
abbrev cX9_per : ByteArray := prog_36_method_7_code
def yX9_per : MethodName := ⟨RX9, "per", "(II)I"⟩
abbrev cX9_hiredBy : ByteArray := prog_36_method_32_code
def yX9_hiredBy : MethodName := ⟨RX9, "hiredBy", "(I)I"⟩
abbrev cX9_farmsOf : ByteArray := prog_36_method_33_code
def yX9_farmsOf : MethodName := ⟨RX9, "farmsOf", "(I)I"⟩
abbrev cX9_party : ByteArray := prog_36_method_39_code
def yX9_party : MethodName := ⟨RX9, "party", "(I)I"⟩
abbrev cX9_queue : ByteArray := prog_36_method_41_code
def yX9_queue : MethodName := ⟨RX9, "queue", "(II)I"⟩
abbrev cX9_isParty : ByteArray := prog_36_method_40_code
def yX9_isParty : MethodName := ⟨RX9, "isParty", "(I)Z"⟩
abbrev cX9_where : ByteArray := prog_36_method_42_code
def yX9_where : MethodName := ⟨RX9, "where", "(II)I"⟩
abbrev cX9_lot : ByteArray := prog_36_method_49_code
def yX9_lot : MethodName := ⟨RX9, "lot", "(I)I"⟩
abbrev cX9_saves : ByteArray := prog_36_method_4_code
def yX9_saves : MethodName := ⟨RX9, "saves", "()V"⟩
abbrev cX9_isQueued : ByteArray := prog_36_method_48_code
def yX9_isQueued : MethodName := ⟨RX9, "isQueued", "()Z"⟩
abbrev cX9_surveysAll : ByteArray := prog_36_method_47_code
def yX9_surveysAll : MethodName := ⟨RX9, "surveysAll", "()V"⟩
abbrev cX9_surveys : ByteArray := prog_36_method_46_code
def yX9_surveys : MethodName := ⟨RX9, "surveys", "(I)V"⟩
abbrev cX9_passes : ByteArray := prog_36_method_44_code
def yX9_passes : MethodName := ⟨RX9, "passes", "(I)V"⟩
abbrev cX9_dequeues : ByteArray := prog_36_method_43_code
def yX9_dequeues : MethodName := ⟨RX9, "dequeues", "(I)V"⟩
abbrev cX9_nearer : ByteArray := prog_36_method_45_code
def yX9_nearer : MethodName := ⟨RX9, "nearer", "(II)I"⟩
abbrev cX9_holds : ByteArray := prog_36_method_28_code
def yX9_holds : MethodName := ⟨RX9, "holds", "(III)V"⟩
abbrev cX9_back : ByteArray := prog_36_method_5_code
def yX9_back : MethodName := ⟨RX9, "back", "()V"⟩
abbrev cX9_ask : ByteArray := prog_36_method_50_code
def yX9_ask : MethodName := ⟨RX9, "ask", "(I)I"⟩
abbrev cX9_isHere : ByteArray := prog_36_method_12_code
def yX9_isHere : MethodName := ⟨RX9, "isHere", "(I)Z"⟩
abbrev cX9_draw : ByteArray := prog_36_method_51_code
def yX9_draw : MethodName := ⟨RX9, "draw", "(I)I"⟩
abbrev cX9_acre : ByteArray := prog_36_method_52_code
def yX9_acre : MethodName := ⟨RX9, "acre", "(I)I"⟩
abbrev cX9_feed : ByteArray := prog_36_method_54_code
def yX9_feed : MethodName := ⟨RX9, "feed", "(IIIII)I"⟩
abbrev cX9_law : ByteArray := prog_36_method_78_code
def yX9_law : MethodName := ⟨RX9, "law", "(I)I"⟩
abbrev cX9_blanks : ByteArray := prog_36_method_56_code
def yX9_blanks : MethodName := ⟨RX9, "blanks", "()V"⟩
abbrev cX9_byteAt : ByteArray := prog_36_method_55_code
def yX9_byteAt : MethodName := ⟨RX9, "byteAt", "(I)I"⟩
abbrev cX9_isClause : ByteArray := prog_36_method_76_code
def yX9_isClause : MethodName := ⟨RX9, "isClause", "()Z"⟩
abbrev cX9_nameHere : ByteArray := prog_36_method_63_code
def yX9_nameHere : MethodName := ⟨RX9, "nameHere", "()I"⟩
abbrev cX9_nameOf : ByteArray := prog_36_method_61_code
def yX9_nameOf : MethodName := ⟨RX9, "nameOf", "(I)Ljava/lang/String;"⟩
abbrev cX9_isWord : ByteArray := prog_36_method_59_code
def yX9_isWord : MethodName := ⟨RX9, "isWord", "(Ljava/lang/String;)Z"⟩
abbrev cX9_wrong : ByteArray := prog_36_method_58_code
def yX9_wrong : MethodName := ⟨RX9, "wrong", "(II)V"⟩
abbrev cX9_clause : ByteArray := prog_36_method_77_code
def yX9_clause : MethodName := ⟨RX9, "clause", "()V"⟩
abbrev cX9_sign : ByteArray := prog_36_method_64_code
def yX9_sign : MethodName := ⟨RX9, "sign", "(I)V"⟩
abbrev cX9_sum : ByteArray := prog_36_method_69_code
def yX9_sum : MethodName := ⟨RX9, "sum", "()V"⟩
abbrev cX9_product : ByteArray := prog_36_method_70_code
def yX9_product : MethodName := ⟨RX9, "product", "()V"⟩
abbrev cX9_one : ByteArray := prog_36_method_71_code
def yX9_one : MethodName := ⟨RX9, "one", "()V"⟩
abbrev cX9_isDigit : ByteArray := prog_36_method_57_code
def yX9_isDigit : MethodName := ⟨RX9, "isDigit", "(I)Z"⟩
abbrev cX9_figures : ByteArray := prog_36_method_72_code
def yX9_figures : MethodName := ⟨RX9, "figures", "()V"⟩
abbrev cX9_emits : ByteArray := prog_36_method_65_code
def yX9_emits : MethodName := ⟨RX9, "emits", "(II)V"⟩
abbrev cX9_toldOf : ByteArray := prog_36_method_62_code
def yX9_toldOf : MethodName := ⟨RX9, "toldOf", "(I)Ljava/lang/String;"⟩
abbrev cX9_eat : ByteArray := prog_36_method_60_code
def yX9_eat : MethodName := ⟨RX9, "eat", "(Ljava/lang/String;)Z"⟩
abbrev cX9_opens : ByteArray := prog_36_method_66_code
def yX9_opens : MethodName := ⟨RX9, "opens", "(I)V"⟩
abbrev cX9_closes : ByteArray := prog_36_method_68_code
def yX9_closes : MethodName := ⟨RX9, "closes", "(I)V"⟩
abbrev cX9_bracket : ByteArray := prog_36_method_67_code
def yX9_bracket : MethodName := ⟨RX9, "bracket", "()V"⟩
abbrev cX9_ors : ByteArray := prog_36_method_73_code
def yX9_ors : MethodName := ⟨RX9, "ors", "()V"⟩
abbrev cX9_ands : ByteArray := prog_36_method_74_code
def yX9_ands : MethodName := ⟨RX9, "ands", "()V"⟩
abbrev cX9_test : ByteArray := prog_36_method_75_code
def yX9_test : MethodName := ⟨RX9, "test", "()V"⟩
abbrev cX9_fault : ByteArray := prog_36_method_79_code
def yX9_fault : MethodName := ⟨RX9, "fault", "()I"⟩
abbrev cX9_means : ByteArray := prog_36_method_88_code
def yX9_means : MethodName := ⟨RX9, "means", "(II)I"⟩
abbrev cX9_meaning : ByteArray := prog_36_method_87_code
def yX9_meaning : MethodName := ⟨RX9, "meaning", "(II)I"⟩
abbrev cX9_forces : ByteArray := prog_36_method_85_code
def yX9_forces : MethodName := ⟨RX9, "forces", "()I"⟩
abbrev cX9_ofLaw : ByteArray := prog_36_method_9_code
def yX9_ofLaw : MethodName := ⟨RX9, "ofLaw", "(II)I"⟩
abbrev cX9_isForce : ByteArray := prog_36_method_84_code
def yX9_isForce : MethodName := ⟨RX9, "isForce", "(I)Z"⟩
abbrev cX9_teller : ByteArray := prog_36_method_86_code
def yX9_teller : MethodName := ⟨RX9, "teller", "(II)I"⟩
abbrev cX9_without : ByteArray := prog_36_method_83_code
def yX9_without : MethodName := ⟨RX9, "without", "(I)I"⟩
abbrev cX9_farms : ByteArray := prog_36_method_34_code
def yX9_farms : MethodName := ⟨RX9, "farms", "()I"⟩
abbrev cX9_here : ByteArray := prog_36_method_35_code
def yX9_here : MethodName := ⟨RX9, "here", "()I"⟩
abbrev cX9_value : ByteArray := prog_36_method_81_code
def yX9_value : MethodName := ⟨RX9, "value", "(IIIIII)I"⟩
abbrev cX9_worked : ByteArray := prog_36_method_80_code
def yX9_worked : MethodName := ⟨RX9, "worked", "(III)I"⟩
abbrev cX9_bounded : ByteArray := prog_36_method_82_code
def yX9_bounded : MethodName := ⟨RX9, "bounded", "(II)I"⟩
abbrev cX9_why : ByteArray := prog_36_method_89_code
def yX9_why : MethodName := ⟨RX9, "why", "(I)I"⟩
abbrev cX9_vote : ByteArray := prog_36_method_91_code
def yX9_vote : MethodName := ⟨RX9, "vote", "(IIZ)I"⟩
abbrev cX9_isLaw : ByteArray := prog_36_method_90_code
def yX9_isLaw : MethodName := ⟨RX9, "isLaw", "(I)Z"⟩
abbrev cX9_hasAcre : ByteArray := prog_36_method_53_code
def yX9_hasAcre : MethodName := ⟨RX9, "hasAcre", "(I)Z"⟩
abbrev cX9_close : ByteArray := prog_36_method_92_code
def yX9_close : MethodName := ⟨RX9, "close", "(I)I"⟩
abbrev cX9_assent : ByteArray := prog_36_method_93_code
def yX9_assent : MethodName := ⟨RX9, "assent", "(IZ)I"⟩
abbrev cX9_force : ByteArray := prog_36_method_94_code
def yX9_force : MethodName := ⟨RX9, "force", "(I)I"⟩
abbrev cX9_buy : ByteArray := prog_36_method_98_code
def yX9_buy : MethodName := ⟨RX9, "buy", "(II)I"⟩
abbrev cX9_isAsked : ByteArray := prog_36_method_97_code
def yX9_isAsked : MethodName := ⟨RX9, "isAsked", "(II)Z"⟩
abbrev cX9_sells : ByteArray := prog_36_method_96_code
def yX9_sells : MethodName := ⟨RX9, "sells", "(II)I"⟩
abbrev cX9_pays : ByteArray := prog_36_method_31_code
def yX9_pays : MethodName := ⟨RX9, "pays", "(II)V"⟩
abbrev cX9_owns : ByteArray := prog_36_method_37_code
def yX9_owns : MethodName := ⟨RX9, "owns", "(I)V"⟩
abbrev cX9_quoted : ByteArray := prog_36_method_101_code
def yX9_quoted : MethodName := ⟨RX9, "quoted", "()I"⟩
abbrev cX9_homePrice : ByteArray := prog_36_method_100_code
def yX9_homePrice : MethodName := ⟨RX9, "homePrice", "()I"⟩
abbrev cX9_row : ByteArray := prog_36_method_119_code
def yX9_row : MethodName := ⟨RX9, "row", "(II)I"⟩
abbrev cX9_order : ByteArray := prog_36_method_102_code
def yX9_order : MethodName := ⟨RX9, "order", "(I)I"⟩
abbrev cX9_choose : ByteArray := prog_36_method_104_code
def yX9_choose : MethodName := ⟨RX9, "choose", "(II)I"⟩
abbrev cX9_isTurn : ByteArray := prog_36_method_103_code
def yX9_isTurn : MethodName := ⟨RX9, "isTurn", "(I)Z"⟩
abbrev cX9_run : ByteArray := prog_36_method_105_code
def yX9_run : MethodName := ⟨RX9, "run", "(II)I"⟩
abbrev cX9_squat : ByteArray := prog_36_method_106_code
def yX9_squat : MethodName := ⟨RX9, "squat", "(II)I"⟩
abbrev cX9_stock : ByteArray := prog_36_method_108_code
def yX9_stock : MethodName := ⟨RX9, "stock", "(III)I"⟩
abbrev cX9_isOwnPasture : ByteArray := prog_36_method_107_code
def yX9_isOwnPasture : MethodName := ⟨RX9, "isOwnPasture", "(II)Z"⟩
abbrev cX9_fence : ByteArray := prog_36_method_109_code
def yX9_fence : MethodName := ⟨RX9, "fence", "(II)I"⟩
abbrev cX9_passages : ByteArray := prog_36_method_111_code
def yX9_passages : MethodName := ⟨RX9, "passages", "()I"⟩
abbrev cX9_homePassages : ByteArray := prog_36_method_110_code
def yX9_homePassages : MethodName := ⟨RX9, "homePassages", "()I"⟩
abbrev cX9_ship : ByteArray := prog_36_method_112_code
def yX9_ship : MethodName := ⟨RX9, "ship", "(IIII)I"⟩
abbrev cX9_fund : ByteArray := prog_36_method_113_code
def yX9_fund : MethodName := ⟨RX9, "fund", "(I)I"⟩
abbrev cX9_bill : ByteArray := prog_36_method_114_code
def yX9_bill : MethodName := ⟨RX9, "bill", "(I)I"⟩
abbrev cX9_pass : ByteArray := prog_36_method_116_code
def yX9_pass : MethodName := ⟨RX9, "pass", "(I)I"⟩
abbrev cX9_isBill : ByteArray := prog_36_method_115_code
def yX9_isBill : MethodName := ⟨RX9, "isBill", "(I)Z"⟩
abbrev cX9_billed : ByteArray := prog_36_method_117_code
def yX9_billed : MethodName := ⟨RX9, "billed", "(I)I"⟩
abbrev cX9_week : ByteArray := prog_36_method_130_code
def yX9_week : MethodName := ⟨RX9, "week", "(I)I"⟩
abbrev cX9_goes : ByteArray := prog_36_method_129_code
def yX9_goes : MethodName := ⟨RX9, "goes", "()V"⟩
abbrev cX9_lands : ByteArray := prog_36_method_120_code
def yX9_lands : MethodName := ⟨RX9, "lands", "()V"⟩
abbrev cX9_letters : ByteArray := prog_36_method_121_code
def yX9_letters : MethodName := ⟨RX9, "letters", "()V"⟩
abbrev cX9_undoes : ByteArray := prog_36_method_95_code
def yX9_undoes : MethodName := ⟨RX9, "undoes", "(I)V"⟩
abbrev cX9_loses : ByteArray := prog_36_method_38_code
def yX9_loses : MethodName := ⟨RX9, "loses", "(I)V"⟩
abbrev cX9_reads : ByteArray := prog_36_method_118_code
def yX9_reads : MethodName := ⟨RX9, "reads", "(I)V"⟩
abbrev cX9_lives : ByteArray := prog_36_method_123_code
def yX9_lives : MethodName := ⟨RX9, "lives", "(I)V"⟩
abbrev cX9_bestLot : ByteArray := prog_36_method_122_code
def yX9_bestLot : MethodName := ⟨RX9, "bestLot", "()I"⟩
abbrev cX9_seeks : ByteArray := prog_36_method_124_code
def yX9_seeks : MethodName := ⟨RX9, "seeks", "(II)V"⟩
abbrev cX9_strays : ByteArray := prog_36_method_126_code
def yX9_strays : MethodName := ⟨RX9, "strays", "(I)V"⟩
abbrev cX9_beside : ByteArray := prog_36_method_125_code
def yX9_beside : MethodName := ⟨RX9, "beside", "(II)I"⟩
abbrev cX9_yearEnds : ByteArray := prog_36_method_128_code
def yX9_yearEnds : MethodName := ⟨RX9, "yearEnds", "()V"⟩
abbrev cX9_bandOf : ByteArray := prog_36_method_127_code
def yX9_bandOf : MethodName := ⟨RX9, "bandOf", "(I)I"⟩
abbrev cX9_as : ByteArray := prog_36_method_131_code
def yX9_as : MethodName := ⟨RX9, "as", "(III)I"⟩
abbrev cX9_isKnown : ByteArray := prog_36_method_99_code
def yX9_isKnown : MethodName := ⟨RX9, "isKnown", "(I)Z"⟩
abbrev cX9_tried : ByteArray := prog_36_method_133_code
def yX9_tried : MethodName := ⟨RX9, "tried", "(IIII)I"⟩
abbrev cX9_told : ByteArray := prog_36_method_132_code
def yX9_told : MethodName := ⟨RX9, "told", "(I)I"⟩
abbrev cX9_prices : ByteArray := prog_36_method_134_code
def yX9_prices : MethodName := ⟨RX9, "prices", "(III)V"⟩
abbrev cX9_worst : ByteArray := prog_36_method_136_code
def yX9_worst : MethodName := ⟨RX9, "worst", "(IIII)V"⟩
abbrev cX9_isRain : ByteArray := prog_36_method_135_code
def yX9_isRain : MethodName := ⟨RX9, "isRain", "(I)Z"⟩
abbrev cX9_planned : ByteArray := prog_36_method_137_code
def yX9_planned : MethodName := ⟨RX9, "planned", "(II)I"⟩
abbrev cX9_image : ByteArray := prog_36_method_138_code
def yX9_image : MethodName := ⟨RX9, "image", "()I"⟩
abbrev cX9_number : ByteArray := prog_36_method_139_code
def yX9_number : MethodName := ⟨RX9, "number", "(I)I"⟩
abbrev cX9_tear : ByteArray := prog_36_method_140_code
def yX9_tear : MethodName := ⟨RX9, "tear", "(II)I"⟩
abbrev cX9_check : ByteArray := prog_36_method_141_code
def yX9_check : MethodName := ⟨RX9, "check", "()I"⟩
abbrev cX9_count : ByteArray := prog_36_method_142_code
def yX9_count : MethodName := ⟨RX9, "count", "(I)I"⟩
theorem q154 : (Jvm.Cond.initialized "SettlerColonyModel") ∈ lw_all := lw_g (lw_at lw_m1 30 rfl) rfl
theorem q684 : (Jvm.Cond.selects "SettlerColonyModel" ({ cls := "java/lang/Object", name := "getClass", desc := "()Ljava/lang/Class;" } : Jvm.MethodName) ({ cls := "java/lang/Object", name := "getClass", desc := "()Ljava/lang/Class;" } : Jvm.MethodName)) ∈ lw_all := lw_g (lw_at lw_m3 80 rfl) rfl
theorem q1639 : (Jvm.Cond.selects "SettlerColonyModel" ({ cls := "java/lang/Object", name := "equals", desc := "(Ljava/lang/Object;)Z" } : Jvm.MethodName) ({ cls := "java/lang/Object", name := "equals", desc := "(Ljava/lang/Object;)Z" } : Jvm.MethodName)) ∈ lw_all := lw_g (lw_at lw_m7 75 rfl) rfl
theorem q2511 : (Jvm.Cond.instantiable "SettlerColonyModel" (34 : Nat)) ∈ lw_all := lw_g (lw_at lw_m10 227 rfl) rfl
theorem q2513 : (Jvm.Cond.instanceMethod ({ cls := "SettlerColonyModel", name := "<init>", desc := "()V" } : Jvm.MethodName)) ∈ lw_all := lw_g (lw_at lw_m10 229 rfl) rfl
theorem q2514 : (Jvm.Cond.code ({ cls := "SettlerColonyModel", name := "<init>", desc := "()V" } : Jvm.MethodName) prog_36_method_1_code (2 : Nat) (Option.none : Option Jvm.ClassFile.FieldType)) ∈ lw_all := lw_g (lw_at lw_m10 230 rfl) rfl
theorem q2515 : (Jvm.Cond.methodLink "SettlerColonyModel" (3 : Nat) ({ cls := "java/lang/Object", name := "<init>", desc := "()V" } : Jvm.MethodName)) ∈ lw_all := lw_g (lw_at lw_m10 231 rfl) rfl
theorem q2516 : (Jvm.Cond.fieldLink "SettlerColonyModel" (73 : Nat) "SettlerColonyModel" "thrown" "I") ∈ lw_all := lw_g (lw_at lw_m10 232 rfl) rfl
theorem q2517 : (Jvm.Cond.fieldLink "SettlerColonyModel" (9 : Nat) "SettlerColonyModel" "s" "[I") ∈ lw_all := lw_g (lw_at lw_m10 233 rfl) rfl
theorem q2518 : (Jvm.Cond.fieldLink "SettlerColonyModel" (13 : Nat) "SettlerColonyModel" "saved" "[I") ∈ lw_all := lw_g (lw_at lw_m10 234 rfl) rfl
theorem q2519 : (Jvm.Cond.fieldLink "SettlerColonyModel" (16 : Nat) "SettlerColonyModel" "soil" "[I") ∈ lw_all := lw_g (lw_at lw_m10 235 rfl) rfl
theorem q2520 : (Jvm.Cond.fieldLink "SettlerColonyModel" (19 : Nat) "SettlerColonyModel" "isWet" "[Z") ∈ lw_all := lw_g (lw_at lw_m10 236 rfl) rfl
theorem q2521 : (Jvm.Cond.fieldLink "SettlerColonyModel" (23 : Nat) "SettlerColonyModel" "rains" "[I") ∈ lw_all := lw_g (lw_at lw_m10 237 rfl) rfl
theorem q2522 : (Jvm.Cond.fieldLink "SettlerColonyModel" (26 : Nat) "SettlerColonyModel" "rainMany" "[I") ∈ lw_all := lw_g (lw_at lw_m10 238 rfl) rfl
theorem q2523 : (Jvm.Cond.fieldLink "SettlerColonyModel" (29 : Nat) "SettlerColonyModel" "oneRain" "I") ∈ lw_all := lw_g (lw_at lw_m10 239 rfl) rfl
theorem q2524 : (Jvm.Cond.fieldLink "SettlerColonyModel" (33 : Nat) "SettlerColonyModel" "tape" "[B") ∈ lw_all := lw_g (lw_at lw_m11 0 rfl) rfl
theorem q2525 : (Jvm.Cond.fieldLink "SettlerColonyModel" (166 : Nat) "SettlerColonyModel" "taped" "I") ∈ lw_all := lw_g (lw_at lw_m11 1 rfl) rfl
theorem q2526 : (Jvm.Cond.fieldLink "SettlerColonyModel" (169 : Nat) "SettlerColonyModel" "size" "I") ∈ lw_all := lw_g (lw_at lw_m11 2 rfl) rfl
theorem q2527 : (Jvm.Cond.fieldLink "SettlerColonyModel" (172 : Nat) "SettlerColonyModel" "at" "I") ∈ lw_all := lw_g (lw_at lw_m11 3 rfl) rfl
theorem q2528 : (Jvm.Cond.fieldLink "SettlerColonyModel" (178 : Nat) "SettlerColonyModel" "fault" "I") ∈ lw_all := lw_g (lw_at lw_m11 4 rfl) rfl
theorem q2529 : (Jvm.Cond.fieldLink "SettlerColonyModel" (37 : Nat) "SettlerColonyModel" "place" "I") ∈ lw_all := lw_g (lw_at lw_m11 5 rfl) rfl
theorem q2530 : (Jvm.Cond.fieldLink "SettlerColonyModel" (237 : Nat) "SettlerColonyModel" "open" "I") ∈ lw_all := lw_g (lw_at lw_m11 6 rfl) rfl
theorem q2531 : (Jvm.Cond.fieldLink "SettlerColonyModel" (234 : Nat) "SettlerColonyModel" "codes" "I") ∈ lw_all := lw_g (lw_at lw_m11 7 rfl) rfl
theorem q2532 : (Jvm.Cond.fieldLink "SettlerColonyModel" (231 : Nat) "SettlerColonyModel" "lawNow" "I") ∈ lw_all := lw_g (lw_at lw_m11 8 rfl) rfl
theorem q2533 : (Jvm.Cond.fieldLink "SettlerColonyModel" (40 : Nat) "SettlerColonyModel" "code" "[I") ∈ lw_all := lw_g (lw_at lw_m11 9 rfl) rfl
theorem q2534 : (Jvm.Cond.fieldLink "SettlerColonyModel" (43 : Nat) "SettlerColonyModel" "number" "[I") ∈ lw_all := lw_g (lw_at lw_m11 10 rfl) rfl
theorem q2535 : (Jvm.Cond.fieldLink "SettlerColonyModel" (46 : Nat) "SettlerColonyModel" "codeAt" "[I") ∈ lw_all := lw_g (lw_at lw_m11 11 rfl) rfl
theorem q2536 : (Jvm.Cond.fieldLink "SettlerColonyModel" (49 : Nat) "SettlerColonyModel" "isFall" "[Z") ∈ lw_all := lw_g (lw_at lw_m11 12 rfl) rfl
theorem q2537 : (Jvm.Cond.fieldLink "SettlerColonyModel" (52 : Nat) "SettlerColonyModel" "hasVoted" "[Z") ∈ lw_all := lw_g (lw_at lw_m11 13 rfl) rfl
theorem q2538 : (Jvm.Cond.fieldLink "SettlerColonyModel" (55 : Nat) "SettlerColonyModel" "pile" "[I") ∈ lw_all := lw_g (lw_at lw_m11 14 rfl) rfl
theorem q2539 : (Jvm.Cond.fieldLink "SettlerColonyModel" (323 : Nat) "SettlerColonyModel" "triedPrice" "I") ∈ lw_all := lw_g (lw_at lw_m11 15 rfl) rfl
theorem q2540 : (Jvm.Cond.fieldLink "SettlerColonyModel" (58 : Nat) "SettlerColonyModel" "triedShare" "I") ∈ lw_all := lw_g (lw_at lw_m11 16 rfl) rfl
theorem q2541 : (Jvm.Cond.fieldLink "SettlerColonyModel" (61 : Nat) "SettlerColonyModel" "rows" "[I") ∈ lw_all := lw_g (lw_at lw_m11 17 rfl) rfl
theorem q2542 : (Jvm.Cond.fieldLink "SettlerColonyModel" (64 : Nat) "SettlerColonyModel" "prices" "[I") ∈ lw_all := lw_g (lw_at lw_m11 18 rfl) rfl
theorem q2543 : (Jvm.Cond.fieldLink "SettlerColonyModel" (67 : Nat) "SettlerColonyModel" "worsts" "[I") ∈ lw_all := lw_g (lw_at lw_m11 19 rfl) rfl
theorem q2544 : (Jvm.Cond.fieldLink "SettlerColonyModel" (436 : Nat) "SettlerColonyModel" "hasPrices" "Z") ∈ lw_all := lw_g (lw_at lw_m11 20 rfl) rfl
theorem q2545 : (Jvm.Cond.fieldLink "SettlerColonyModel" (443 : Nat) "SettlerColonyModel" "worstMany" "I") ∈ lw_all := lw_g (lw_at lw_m11 21 rfl) rfl
theorem q2546 : (Jvm.Cond.fieldLink "SettlerColonyModel" (70 : Nat) "SettlerColonyModel" "image" "[I") ∈ lw_all := lw_g (lw_at lw_m11 22 rfl) rfl
theorem q2547 : (Jvm.Cond.fieldLink "SettlerColonyModel" (446 : Nat) "SettlerColonyModel" "imageMany" "I") ∈ lw_all := lw_g (lw_at lw_m11 23 rfl) rfl
theorem q2548 : (Jvm.Cond.fieldLink "SettlerColonyModel" (449 : Nat) "SettlerColonyModel" "imageSum" "J") ∈ lw_all := lw_g (lw_at lw_m11 24 rfl) rfl
theorem q2549 : (Jvm.Cond.fieldLink "SettlerColonyModel" (453 : Nat) "SettlerColonyModel" "imagePlaces" "J") ∈ lw_all := lw_g (lw_at lw_m11 25 rfl) rfl
theorem q2550 : (Jvm.Cond.lays "SettlerColonyModel" "SettlerColonyModel" "thrown" "I") ∈ lw_all := lw_g (lw_at lw_m11 26 rfl) rfl
theorem q2551 : (Jvm.Cond.soleField "SettlerColonyModel" "thrown") ∈ lw_all := lw_g (lw_at lw_m11 27 rfl) rfl
theorem q2552 : (Jvm.Cond.laysFinal "SettlerColonyModel" "SettlerColonyModel" "s" "[I") ∈ lw_all := lw_g (lw_at lw_m11 28 rfl) rfl
theorem q2553 : (Jvm.Cond.soleField "SettlerColonyModel" "s") ∈ lw_all := lw_g (lw_at lw_m11 29 rfl) rfl
theorem q2554 : (Jvm.Cond.laysFinal "SettlerColonyModel" "SettlerColonyModel" "saved" "[I") ∈ lw_all := lw_g (lw_at lw_m11 30 rfl) rfl
theorem q2555 : (Jvm.Cond.soleField "SettlerColonyModel" "saved") ∈ lw_all := lw_g (lw_at lw_m11 31 rfl) rfl
theorem q2556 : (Jvm.Cond.laysFinal "SettlerColonyModel" "SettlerColonyModel" "soil" "[I") ∈ lw_all := lw_g (lw_at lw_m11 32 rfl) rfl
theorem q2557 : (Jvm.Cond.soleField "SettlerColonyModel" "soil") ∈ lw_all := lw_g (lw_at lw_m11 33 rfl) rfl
theorem q2558 : (Jvm.Cond.laysFinal "SettlerColonyModel" "SettlerColonyModel" "isWet" "[Z") ∈ lw_all := lw_g (lw_at lw_m11 34 rfl) rfl
theorem q2559 : (Jvm.Cond.soleField "SettlerColonyModel" "isWet") ∈ lw_all := lw_g (lw_at lw_m11 35 rfl) rfl
theorem q2560 : (Jvm.Cond.laysFinal "SettlerColonyModel" "SettlerColonyModel" "rains" "[I") ∈ lw_all := lw_g (lw_at lw_m11 36 rfl) rfl
theorem q2561 : (Jvm.Cond.soleField "SettlerColonyModel" "rains") ∈ lw_all := lw_g (lw_at lw_m11 37 rfl) rfl
theorem q2562 : (Jvm.Cond.laysFinal "SettlerColonyModel" "SettlerColonyModel" "rainMany" "[I") ∈ lw_all := lw_g (lw_at lw_m11 38 rfl) rfl
theorem q2563 : (Jvm.Cond.soleField "SettlerColonyModel" "rainMany") ∈ lw_all := lw_g (lw_at lw_m11 39 rfl) rfl
theorem q2564 : (Jvm.Cond.lays "SettlerColonyModel" "SettlerColonyModel" "oneRain" "I") ∈ lw_all := lw_g (lw_at lw_m11 40 rfl) rfl
theorem q2565 : (Jvm.Cond.soleField "SettlerColonyModel" "oneRain") ∈ lw_all := lw_g (lw_at lw_m11 41 rfl) rfl
theorem q2566 : (Jvm.Cond.laysFinal "SettlerColonyModel" "SettlerColonyModel" "tape" "[B") ∈ lw_all := lw_g (lw_at lw_m11 42 rfl) rfl
theorem q2567 : (Jvm.Cond.soleField "SettlerColonyModel" "tape") ∈ lw_all := lw_g (lw_at lw_m11 43 rfl) rfl
theorem q2568 : (Jvm.Cond.lays "SettlerColonyModel" "SettlerColonyModel" "taped" "I") ∈ lw_all := lw_g (lw_at lw_m11 44 rfl) rfl
theorem q2569 : (Jvm.Cond.soleField "SettlerColonyModel" "taped") ∈ lw_all := lw_g (lw_at lw_m11 45 rfl) rfl
theorem q2570 : (Jvm.Cond.lays "SettlerColonyModel" "SettlerColonyModel" "size" "I") ∈ lw_all := lw_g (lw_at lw_m11 46 rfl) rfl
theorem q2571 : (Jvm.Cond.soleField "SettlerColonyModel" "size") ∈ lw_all := lw_g (lw_at lw_m11 47 rfl) rfl
theorem q2572 : (Jvm.Cond.lays "SettlerColonyModel" "SettlerColonyModel" "at" "I") ∈ lw_all := lw_g (lw_at lw_m11 48 rfl) rfl
theorem q2573 : (Jvm.Cond.soleField "SettlerColonyModel" "at") ∈ lw_all := lw_g (lw_at lw_m11 49 rfl) rfl
theorem q2574 : (Jvm.Cond.lays "SettlerColonyModel" "SettlerColonyModel" "fault" "I") ∈ lw_all := lw_g (lw_at lw_m11 50 rfl) rfl
theorem q2575 : (Jvm.Cond.soleField "SettlerColonyModel" "fault") ∈ lw_all := lw_g (lw_at lw_m11 51 rfl) rfl
theorem q2576 : (Jvm.Cond.lays "SettlerColonyModel" "SettlerColonyModel" "place" "I") ∈ lw_all := lw_g (lw_at lw_m11 52 rfl) rfl
theorem q2577 : (Jvm.Cond.soleField "SettlerColonyModel" "place") ∈ lw_all := lw_g (lw_at lw_m11 53 rfl) rfl
theorem q2578 : (Jvm.Cond.lays "SettlerColonyModel" "SettlerColonyModel" "open" "I") ∈ lw_all := lw_g (lw_at lw_m11 54 rfl) rfl
theorem q2579 : (Jvm.Cond.soleField "SettlerColonyModel" "open") ∈ lw_all := lw_g (lw_at lw_m11 55 rfl) rfl
theorem q2580 : (Jvm.Cond.lays "SettlerColonyModel" "SettlerColonyModel" "codes" "I") ∈ lw_all := lw_g (lw_at lw_m11 56 rfl) rfl
theorem q2581 : (Jvm.Cond.soleField "SettlerColonyModel" "codes") ∈ lw_all := lw_g (lw_at lw_m11 57 rfl) rfl
theorem q2582 : (Jvm.Cond.lays "SettlerColonyModel" "SettlerColonyModel" "lawNow" "I") ∈ lw_all := lw_g (lw_at lw_m11 58 rfl) rfl
theorem q2583 : (Jvm.Cond.soleField "SettlerColonyModel" "lawNow") ∈ lw_all := lw_g (lw_at lw_m11 59 rfl) rfl
theorem q2584 : (Jvm.Cond.laysFinal "SettlerColonyModel" "SettlerColonyModel" "code" "[I") ∈ lw_all := lw_g (lw_at lw_m11 60 rfl) rfl
theorem q2585 : (Jvm.Cond.soleField "SettlerColonyModel" "code") ∈ lw_all := lw_g (lw_at lw_m11 61 rfl) rfl
theorem q2586 : (Jvm.Cond.laysFinal "SettlerColonyModel" "SettlerColonyModel" "number" "[I") ∈ lw_all := lw_g (lw_at lw_m11 62 rfl) rfl
theorem q2587 : (Jvm.Cond.soleField "SettlerColonyModel" "number") ∈ lw_all := lw_g (lw_at lw_m11 63 rfl) rfl
theorem q2588 : (Jvm.Cond.laysFinal "SettlerColonyModel" "SettlerColonyModel" "codeAt" "[I") ∈ lw_all := lw_g (lw_at lw_m11 64 rfl) rfl
theorem q2589 : (Jvm.Cond.soleField "SettlerColonyModel" "codeAt") ∈ lw_all := lw_g (lw_at lw_m11 65 rfl) rfl
theorem q2590 : (Jvm.Cond.laysFinal "SettlerColonyModel" "SettlerColonyModel" "isFall" "[Z") ∈ lw_all := lw_g (lw_at lw_m11 66 rfl) rfl
theorem q2591 : (Jvm.Cond.soleField "SettlerColonyModel" "isFall") ∈ lw_all := lw_g (lw_at lw_m11 67 rfl) rfl
theorem q2592 : (Jvm.Cond.laysFinal "SettlerColonyModel" "SettlerColonyModel" "hasVoted" "[Z") ∈ lw_all := lw_g (lw_at lw_m11 68 rfl) rfl
theorem q2593 : (Jvm.Cond.soleField "SettlerColonyModel" "hasVoted") ∈ lw_all := lw_g (lw_at lw_m11 69 rfl) rfl
theorem q2594 : (Jvm.Cond.laysFinal "SettlerColonyModel" "SettlerColonyModel" "pile" "[I") ∈ lw_all := lw_g (lw_at lw_m11 70 rfl) rfl
theorem q2595 : (Jvm.Cond.soleField "SettlerColonyModel" "pile") ∈ lw_all := lw_g (lw_at lw_m11 71 rfl) rfl
theorem q2596 : (Jvm.Cond.lays "SettlerColonyModel" "SettlerColonyModel" "triedPrice" "I") ∈ lw_all := lw_g (lw_at lw_m11 72 rfl) rfl
theorem q2597 : (Jvm.Cond.soleField "SettlerColonyModel" "triedPrice") ∈ lw_all := lw_g (lw_at lw_m11 73 rfl) rfl
theorem q2598 : (Jvm.Cond.lays "SettlerColonyModel" "SettlerColonyModel" "triedShare" "I") ∈ lw_all := lw_g (lw_at lw_m11 74 rfl) rfl
theorem q2599 : (Jvm.Cond.soleField "SettlerColonyModel" "triedShare") ∈ lw_all := lw_g (lw_at lw_m11 75 rfl) rfl
theorem q2600 : (Jvm.Cond.laysFinal "SettlerColonyModel" "SettlerColonyModel" "rows" "[I") ∈ lw_all := lw_g (lw_at lw_m11 76 rfl) rfl
theorem q2601 : (Jvm.Cond.soleField "SettlerColonyModel" "rows") ∈ lw_all := lw_g (lw_at lw_m11 77 rfl) rfl
theorem q2602 : (Jvm.Cond.laysFinal "SettlerColonyModel" "SettlerColonyModel" "prices" "[I") ∈ lw_all := lw_g (lw_at lw_m11 78 rfl) rfl
theorem q2603 : (Jvm.Cond.soleField "SettlerColonyModel" "prices") ∈ lw_all := lw_g (lw_at lw_m11 79 rfl) rfl
theorem q2604 : (Jvm.Cond.laysFinal "SettlerColonyModel" "SettlerColonyModel" "worsts" "[I") ∈ lw_all := lw_g (lw_at lw_m11 80 rfl) rfl
theorem q2605 : (Jvm.Cond.soleField "SettlerColonyModel" "worsts") ∈ lw_all := lw_g (lw_at lw_m11 81 rfl) rfl
theorem q2606 : (Jvm.Cond.lays "SettlerColonyModel" "SettlerColonyModel" "hasPrices" "Z") ∈ lw_all := lw_g (lw_at lw_m11 82 rfl) rfl
theorem q2607 : (Jvm.Cond.soleField "SettlerColonyModel" "hasPrices") ∈ lw_all := lw_g (lw_at lw_m11 83 rfl) rfl
theorem q2608 : (Jvm.Cond.lays "SettlerColonyModel" "SettlerColonyModel" "worstMany" "I") ∈ lw_all := lw_g (lw_at lw_m11 84 rfl) rfl
theorem q2609 : (Jvm.Cond.soleField "SettlerColonyModel" "worstMany") ∈ lw_all := lw_g (lw_at lw_m11 85 rfl) rfl
theorem q2610 : (Jvm.Cond.laysFinal "SettlerColonyModel" "SettlerColonyModel" "image" "[I") ∈ lw_all := lw_g (lw_at lw_m11 86 rfl) rfl
theorem q2611 : (Jvm.Cond.soleField "SettlerColonyModel" "image") ∈ lw_all := lw_g (lw_at lw_m11 87 rfl) rfl
theorem q2612 : (Jvm.Cond.lays "SettlerColonyModel" "SettlerColonyModel" "imageMany" "I") ∈ lw_all := lw_g (lw_at lw_m11 88 rfl) rfl
theorem q2613 : (Jvm.Cond.soleField "SettlerColonyModel" "imageMany") ∈ lw_all := lw_g (lw_at lw_m11 89 rfl) rfl
theorem q2614 : (Jvm.Cond.lays "SettlerColonyModel" "SettlerColonyModel" "imageSum" "J") ∈ lw_all := lw_g (lw_at lw_m11 90 rfl) rfl
theorem q2615 : (Jvm.Cond.soleField "SettlerColonyModel" "imageSum") ∈ lw_all := lw_g (lw_at lw_m11 91 rfl) rfl
theorem q2616 : (Jvm.Cond.lays "SettlerColonyModel" "SettlerColonyModel" "imagePlaces" "J") ∈ lw_all := lw_g (lw_at lw_m11 92 rfl) rfl
theorem q2617 : (Jvm.Cond.soleField "SettlerColonyModel" "imagePlaces") ∈ lw_all := lw_g (lw_at lw_m11 93 rfl) rfl
theorem q2618 : (Jvm.Cond.superclass "SettlerColonyModel" "java/lang/Object") ∈ lw_all := lw_g (lw_at lw_m11 94 rfl) rfl
theorem q2620 : (Jvm.Cond.instanceMethod ({ cls := "SettlerColonyModel", name := "thrown", desc := "()I" } : Jvm.MethodName)) ∈ lw_all := lw_g (lw_at lw_m11 96 rfl) rfl
theorem q2621 : (Jvm.Cond.selects "SettlerColonyModel" ({ cls := "SettlerColonyModel", name := "thrown", desc := "()I" } : Jvm.MethodName) ({ cls := "SettlerColonyModel", name := "thrown", desc := "()I" } : Jvm.MethodName)) ∈ lw_all := lw_g (lw_at lw_m11 97 rfl) rfl
theorem q2622 : (Jvm.Cond.code ({ cls := "SettlerColonyModel", name := "thrown", desc := "()I" } : Jvm.MethodName) prog_36_method_2_code (1 : Nat) (Option.some Jvm.ClassFile.FieldType.int)) ∈ lw_all := lw_g (lw_at lw_m11 98 rfl) rfl
theorem q2624 : (Jvm.Cond.instanceMethod ({ cls := "SettlerColonyModel", name := "land", desc := "(IIZ)I" } : Jvm.MethodName)) ∈ lw_all := lw_g (lw_at lw_m11 100 rfl) rfl
theorem q2625 : (Jvm.Cond.selects "SettlerColonyModel" ({ cls := "SettlerColonyModel", name := "land", desc := "(IIZ)I" } : Jvm.MethodName) ({ cls := "SettlerColonyModel", name := "land", desc := "(IIZ)I" } : Jvm.MethodName)) ∈ lw_all := lw_g (lw_at lw_m11 101 rfl) rfl
theorem q2626 : (Jvm.Cond.code ({ cls := "SettlerColonyModel", name := "land", desc := "(IIZ)I" } : Jvm.MethodName) prog_36_method_14_code (4 : Nat) (Option.some Jvm.ClassFile.FieldType.int)) ∈ lw_all := lw_g (lw_at lw_m11 102 rfl) rfl
theorem q2627 : (Jvm.Cond.methodLink "SettlerColonyModel" (80 : Nat) ({ cls := "SettlerColonyModel", name := "isSection", desc := "(I)Z" } : Jvm.MethodName)) ∈ lw_all := lw_g (lw_at lw_m11 103 rfl) rfl
theorem q2628 : (Jvm.Cond.privateMethod ({ cls := "SettlerColonyModel", name := "isSection", desc := "(I)Z" } : Jvm.MethodName)) ∈ lw_tbl := lw_at lw_m11 104 rfl
theorem q2629 : (Jvm.Cond.instanceMethod ({ cls := "SettlerColonyModel", name := "isSection", desc := "(I)Z" } : Jvm.MethodName)) ∈ lw_all := lw_g (lw_at lw_m11 105 rfl) rfl
theorem q2630 : (Jvm.Cond.code ({ cls := "SettlerColonyModel", name := "isSection", desc := "(I)Z" } : Jvm.MethodName) prog_36_method_10_code (2 : Nat) (Option.some Jvm.ClassFile.FieldType.boolean)) ∈ lw_all := lw_g (lw_at lw_m11 106 rfl) rfl
theorem q2631 : (Jvm.Cond.methodLink "SettlerColonyModel" (84 : Nat) ({ cls := "SettlerColonyModel", name := "bad", desc := "(ZI)Z" } : Jvm.MethodName)) ∈ lw_all := lw_g (lw_at lw_m11 107 rfl) rfl
theorem q2632 : (Jvm.Cond.privateMethod ({ cls := "SettlerColonyModel", name := "bad", desc := "(ZI)Z" } : Jvm.MethodName)) ∈ lw_tbl := lw_at lw_m11 108 rfl
theorem q2633 : (Jvm.Cond.instanceMethod ({ cls := "SettlerColonyModel", name := "bad", desc := "(ZI)Z" } : Jvm.MethodName)) ∈ lw_all := lw_g (lw_at lw_m11 109 rfl) rfl
theorem q2634 : (Jvm.Cond.code ({ cls := "SettlerColonyModel", name := "bad", desc := "(ZI)Z" } : Jvm.MethodName) prog_36_method_3_code (3 : Nat) (Option.some Jvm.ClassFile.FieldType.boolean)) ∈ lw_all := lw_g (lw_at lw_m11 110 rfl) rfl
theorem q2635 : (Jvm.Cond.methodLink "SettlerColonyModel" (88 : Nat) ({ cls := "SettlerColonyModel", name := "sec", desc := "(II)I" } : Jvm.MethodName)) ∈ lw_all := lw_g (lw_at lw_m11 111 rfl) rfl
theorem q2636 : (Jvm.Cond.privateMethod ({ cls := "SettlerColonyModel", name := "sec", desc := "(II)I" } : Jvm.MethodName)) ∈ lw_tbl := lw_at lw_m11 112 rfl
theorem q2637 : (Jvm.Cond.instanceMethod ({ cls := "SettlerColonyModel", name := "sec", desc := "(II)I" } : Jvm.MethodName)) ∈ lw_all := lw_g (lw_at lw_m11 113 rfl) rfl
theorem q2638 : (Jvm.Cond.code ({ cls := "SettlerColonyModel", name := "sec", desc := "(II)I" } : Jvm.MethodName) prog_36_method_6_code (3 : Nat) (Option.some Jvm.ClassFile.FieldType.int)) ∈ lw_all := lw_g (lw_at lw_m11 114 rfl) rfl
theorem q2640 : (Jvm.Cond.instanceMethod ({ cls := "SettlerColonyModel", name := "rain", desc := "(II)I" } : Jvm.MethodName)) ∈ lw_all := lw_g (lw_at lw_m11 116 rfl) rfl
theorem q2641 : (Jvm.Cond.selects "SettlerColonyModel" ({ cls := "SettlerColonyModel", name := "rain", desc := "(II)I" } : Jvm.MethodName) ({ cls := "SettlerColonyModel", name := "rain", desc := "(II)I" } : Jvm.MethodName)) ∈ lw_all := lw_g (lw_at lw_m11 117 rfl) rfl
theorem q2642 : (Jvm.Cond.code ({ cls := "SettlerColonyModel", name := "rain", desc := "(II)I" } : Jvm.MethodName) prog_36_method_16_code (3 : Nat) (Option.some Jvm.ClassFile.FieldType.int)) ∈ lw_all := lw_g (lw_at lw_m11 118 rfl) rfl
theorem q2643 : (Jvm.Cond.methodLink "SettlerColonyModel" (91 : Nat) ({ cls := "SettlerColonyModel", name := "isZone", desc := "(I)Z" } : Jvm.MethodName)) ∈ lw_all := lw_g (lw_at lw_m11 119 rfl) rfl
theorem q2644 : (Jvm.Cond.privateMethod ({ cls := "SettlerColonyModel", name := "isZone", desc := "(I)Z" } : Jvm.MethodName)) ∈ lw_tbl := lw_at lw_m11 120 rfl
theorem q2645 : (Jvm.Cond.instanceMethod ({ cls := "SettlerColonyModel", name := "isZone", desc := "(I)Z" } : Jvm.MethodName)) ∈ lw_all := lw_g (lw_at lw_m11 121 rfl) rfl
theorem q2646 : (Jvm.Cond.code ({ cls := "SettlerColonyModel", name := "isZone", desc := "(I)Z" } : Jvm.MethodName) prog_36_method_15_code (2 : Nat) (Option.some Jvm.ClassFile.FieldType.boolean)) ∈ lw_all := lw_g (lw_at lw_m11 122 rfl) rfl
theorem q2648 : (Jvm.Cond.instanceMethod ({ cls := "SettlerColonyModel", name := "rains", desc := "(III)I" } : Jvm.MethodName)) ∈ lw_all := lw_g (lw_at lw_m11 124 rfl) rfl
theorem q2649 : (Jvm.Cond.selects "SettlerColonyModel" ({ cls := "SettlerColonyModel", name := "rains", desc := "(III)I" } : Jvm.MethodName) ({ cls := "SettlerColonyModel", name := "rains", desc := "(III)I" } : Jvm.MethodName)) ∈ lw_all := lw_g (lw_at lw_m11 125 rfl) rfl
theorem q2650 : (Jvm.Cond.code ({ cls := "SettlerColonyModel", name := "rains", desc := "(III)I" } : Jvm.MethodName) prog_36_method_17_code (5 : Nat) (Option.some Jvm.ClassFile.FieldType.int)) ∈ lw_all := lw_g (lw_at lw_m11 126 rfl) rfl
theorem q2652 : (Jvm.Cond.instanceMethod ({ cls := "SettlerColonyModel", name := "fell", desc := "(II)I" } : Jvm.MethodName)) ∈ lw_all := lw_g (lw_at lw_m11 128 rfl) rfl
theorem q2653 : (Jvm.Cond.selects "SettlerColonyModel" ({ cls := "SettlerColonyModel", name := "fell", desc := "(II)I" } : Jvm.MethodName) ({ cls := "SettlerColonyModel", name := "fell", desc := "(II)I" } : Jvm.MethodName)) ∈ lw_all := lw_g (lw_at lw_m11 129 rfl) rfl
theorem q2654 : (Jvm.Cond.code ({ cls := "SettlerColonyModel", name := "fell", desc := "(II)I" } : Jvm.MethodName) prog_36_method_19_code (3 : Nat) (Option.some Jvm.ClassFile.FieldType.int)) ∈ lw_all := lw_g (lw_at lw_m11 130 rfl) rfl
theorem q2655 : (Jvm.Cond.methodLink "SettlerColonyModel" (94 : Nat) ({ cls := "SettlerColonyModel", name := "fallen", desc := "(II)I" } : Jvm.MethodName)) ∈ lw_all := lw_g (lw_at lw_m11 131 rfl) rfl
theorem q2656 : (Jvm.Cond.privateMethod ({ cls := "SettlerColonyModel", name := "fallen", desc := "(II)I" } : Jvm.MethodName)) ∈ lw_tbl := lw_at lw_m11 132 rfl
theorem q2657 : (Jvm.Cond.instanceMethod ({ cls := "SettlerColonyModel", name := "fallen", desc := "(II)I" } : Jvm.MethodName)) ∈ lw_all := lw_g (lw_at lw_m11 133 rfl) rfl
theorem q2658 : (Jvm.Cond.code ({ cls := "SettlerColonyModel", name := "fallen", desc := "(II)I" } : Jvm.MethodName) prog_36_method_18_code (6 : Nat) (Option.some Jvm.ClassFile.FieldType.int)) ∈ lw_all := lw_g (lw_at lw_m11 134 rfl) rfl
theorem q2660 : (Jvm.Cond.instanceMethod ({ cls := "SettlerColonyModel", name := "seen", desc := "(I)I" } : Jvm.MethodName)) ∈ lw_all := lw_g (lw_at lw_m11 136 rfl) rfl
theorem q2661 : (Jvm.Cond.selects "SettlerColonyModel" ({ cls := "SettlerColonyModel", name := "seen", desc := "(I)I" } : Jvm.MethodName) ({ cls := "SettlerColonyModel", name := "seen", desc := "(I)I" } : Jvm.MethodName)) ∈ lw_all := lw_g (lw_at lw_m11 137 rfl) rfl
theorem q2662 : (Jvm.Cond.code ({ cls := "SettlerColonyModel", name := "seen", desc := "(I)I" } : Jvm.MethodName) prog_36_method_20_code (2 : Nat) (Option.some Jvm.ClassFile.FieldType.int)) ∈ lw_all := lw_g (lw_at lw_m11 138 rfl) rfl
theorem q2664 : (Jvm.Cond.instanceMethod ({ cls := "SettlerColonyModel", name := "promise", desc := "(I)I" } : Jvm.MethodName)) ∈ lw_all := lw_g (lw_at lw_m11 140 rfl) rfl
theorem q2665 : (Jvm.Cond.selects "SettlerColonyModel" ({ cls := "SettlerColonyModel", name := "promise", desc := "(I)I" } : Jvm.MethodName) ({ cls := "SettlerColonyModel", name := "promise", desc := "(I)I" } : Jvm.MethodName)) ∈ lw_all := lw_g (lw_at lw_m11 141 rfl) rfl
theorem q2666 : (Jvm.Cond.code ({ cls := "SettlerColonyModel", name := "promise", desc := "(I)I" } : Jvm.MethodName) prog_36_method_22_code (2 : Nat) (Option.some Jvm.ClassFile.FieldType.int)) ∈ lw_all := lw_g (lw_at lw_m11 142 rfl) rfl
theorem q2667 : (Jvm.Cond.methodLink "SettlerColonyModel" (101 : Nat) ({ cls := "SettlerColonyModel", name := "promiseOf", desc := "(I)I" } : Jvm.MethodName)) ∈ lw_all := lw_g (lw_at lw_m11 143 rfl) rfl
theorem q2668 : (Jvm.Cond.privateMethod ({ cls := "SettlerColonyModel", name := "promiseOf", desc := "(I)I" } : Jvm.MethodName)) ∈ lw_tbl := lw_at lw_m11 144 rfl
theorem q2669 : (Jvm.Cond.instanceMethod ({ cls := "SettlerColonyModel", name := "promiseOf", desc := "(I)I" } : Jvm.MethodName)) ∈ lw_all := lw_g (lw_at lw_m11 145 rfl) rfl
theorem q2670 : (Jvm.Cond.code ({ cls := "SettlerColonyModel", name := "promiseOf", desc := "(I)I" } : Jvm.MethodName) prog_36_method_21_code (3 : Nat) (Option.some Jvm.ClassFile.FieldType.int)) ∈ lw_all := lw_g (lw_at lw_m11 146 rfl) rfl
theorem q2671 : (Jvm.Cond.methodLink "SettlerColonyModel" (97 : Nat) ({ cls := "SettlerColonyModel", name := "zoneOf", desc := "(I)I" } : Jvm.MethodName)) ∈ lw_all := lw_g (lw_at lw_m11 147 rfl) rfl
theorem q2672 : (Jvm.Cond.static ({ cls := "SettlerColonyModel", name := "zoneOf", desc := "(I)I" } : Jvm.MethodName)) ∈ lw_all := lw_g (lw_at lw_m11 148 rfl) rfl
theorem q2673 : (Jvm.Cond.code ({ cls := "SettlerColonyModel", name := "zoneOf", desc := "(I)I" } : Jvm.MethodName) prog_36_method_13_code (1 : Nat) (Option.some Jvm.ClassFile.FieldType.int)) ∈ lw_all := lw_g (lw_at lw_m11 149 rfl) rfl
theorem q2675 : (Jvm.Cond.instanceMethod ({ cls := "SettlerColonyModel", name := "section", desc := "(II)I" } : Jvm.MethodName)) ∈ lw_all := lw_g (lw_at lw_m11 151 rfl) rfl
theorem q2676 : (Jvm.Cond.selects "SettlerColonyModel" ({ cls := "SettlerColonyModel", name := "section", desc := "(II)I" } : Jvm.MethodName) ({ cls := "SettlerColonyModel", name := "section", desc := "(II)I" } : Jvm.MethodName)) ∈ lw_all := lw_g (lw_at lw_m11 152 rfl) rfl
theorem q2677 : (Jvm.Cond.code ({ cls := "SettlerColonyModel", name := "section", desc := "(II)I" } : Jvm.MethodName) prog_36_method_26_code (4 : Nat) (Option.some Jvm.ClassFile.FieldType.int)) ∈ lw_all := lw_g (lw_at lw_m11 153 rfl) rfl
theorem q2678 : (Jvm.Cond.methodLink "SettlerColonyModel" (104 : Nat) ({ cls := "SettlerColonyModel", name := "isPasture", desc := "(I)Z" } : Jvm.MethodName)) ∈ lw_all := lw_g (lw_at lw_m11 154 rfl) rfl
theorem q2679 : (Jvm.Cond.static ({ cls := "SettlerColonyModel", name := "isPasture", desc := "(I)Z" } : Jvm.MethodName)) ∈ lw_all := lw_g (lw_at lw_m11 155 rfl) rfl
theorem q2680 : (Jvm.Cond.code ({ cls := "SettlerColonyModel", name := "isPasture", desc := "(I)Z" } : Jvm.MethodName) prog_36_method_24_code (1 : Nat) (Option.some Jvm.ClassFile.FieldType.boolean)) ∈ lw_all := lw_g (lw_at lw_m11 156 rfl) rfl
theorem q2681 : (Jvm.Cond.methodLink "SettlerColonyModel" (107 : Nat) ({ cls := "SettlerColonyModel", name := "isFarm", desc := "(I)Z" } : Jvm.MethodName)) ∈ lw_all := lw_g (lw_at lw_m11 157 rfl) rfl
theorem q2682 : (Jvm.Cond.static ({ cls := "SettlerColonyModel", name := "isFarm", desc := "(I)Z" } : Jvm.MethodName)) ∈ lw_all := lw_g (lw_at lw_m11 158 rfl) rfl
theorem q2683 : (Jvm.Cond.code ({ cls := "SettlerColonyModel", name := "isFarm", desc := "(I)Z" } : Jvm.MethodName) prog_36_method_23_code (1 : Nat) (Option.some Jvm.ClassFile.FieldType.boolean)) ∈ lw_all := lw_g (lw_at lw_m11 159 rfl) rfl
theorem q2684 : (Jvm.Cond.methodLink "SettlerColonyModel" (110 : Nat) ({ cls := "SettlerColonyModel", name := "miles", desc := "(I)I" } : Jvm.MethodName)) ∈ lw_all := lw_g (lw_at lw_m11 160 rfl) rfl
theorem q2685 : (Jvm.Cond.privateMethod ({ cls := "SettlerColonyModel", name := "miles", desc := "(I)I" } : Jvm.MethodName)) ∈ lw_tbl := lw_at lw_m11 161 rfl
theorem q2686 : (Jvm.Cond.instanceMethod ({ cls := "SettlerColonyModel", name := "miles", desc := "(I)I" } : Jvm.MethodName)) ∈ lw_all := lw_g (lw_at lw_m11 162 rfl) rfl
theorem q2687 : (Jvm.Cond.code ({ cls := "SettlerColonyModel", name := "miles", desc := "(I)I" } : Jvm.MethodName) prog_36_method_25_code (2 : Nat) (Option.some Jvm.ClassFile.FieldType.int)) ∈ lw_all := lw_g (lw_at lw_m11 163 rfl) rfl
theorem q2689 : (Jvm.Cond.instanceMethod ({ cls := "SettlerColonyModel", name := "is", desc := "(II)Z" } : Jvm.MethodName)) ∈ lw_all := lw_g (lw_at lw_m11 165 rfl) rfl
theorem q2690 : (Jvm.Cond.selects "SettlerColonyModel" ({ cls := "SettlerColonyModel", name := "is", desc := "(II)Z" } : Jvm.MethodName) ({ cls := "SettlerColonyModel", name := "is", desc := "(II)Z" } : Jvm.MethodName)) ∈ lw_all := lw_g (lw_at lw_m11 166 rfl) rfl
theorem q2691 : (Jvm.Cond.code ({ cls := "SettlerColonyModel", name := "is", desc := "(II)Z" } : Jvm.MethodName) prog_36_method_27_code (4 : Nat) (Option.some Jvm.ClassFile.FieldType.boolean)) ∈ lw_all := lw_g (lw_at lw_m11 167 rfl) rfl
theorem q2693 : (Jvm.Cond.instanceMethod ({ cls := "SettlerColonyModel", name := "people", desc := "(III)I" } : Jvm.MethodName)) ∈ lw_all := lw_g (lw_at lw_m11 169 rfl) rfl
theorem q2694 : (Jvm.Cond.selects "SettlerColonyModel" ({ cls := "SettlerColonyModel", name := "people", desc := "(III)I" } : Jvm.MethodName) ({ cls := "SettlerColonyModel", name := "people", desc := "(III)I" } : Jvm.MethodName)) ∈ lw_all := lw_g (lw_at lw_m11 170 rfl) rfl
theorem q2695 : (Jvm.Cond.code ({ cls := "SettlerColonyModel", name := "people", desc := "(III)I" } : Jvm.MethodName) prog_36_method_30_code (6 : Nat) (Option.some Jvm.ClassFile.FieldType.int)) ∈ lw_all := lw_g (lw_at lw_m11 171 rfl) rfl
theorem q2696 : (Jvm.Cond.constant "SettlerColonyModel" (117 : Nat) (1000000 : Int32)) ∈ lw_all := lw_g (lw_at lw_m11 172 rfl) rfl
theorem q2697 : (Jvm.Cond.methodLink "SettlerColonyModel" (118 : Nat) ({ cls := "SettlerColonyModel", name := "adds", desc := "(IIII)V" } : Jvm.MethodName)) ∈ lw_all := lw_g (lw_at lw_m11 173 rfl) rfl
theorem q2698 : (Jvm.Cond.privateMethod ({ cls := "SettlerColonyModel", name := "adds", desc := "(IIII)V" } : Jvm.MethodName)) ∈ lw_tbl := lw_at lw_m11 174 rfl
theorem q2699 : (Jvm.Cond.instanceMethod ({ cls := "SettlerColonyModel", name := "adds", desc := "(IIII)V" } : Jvm.MethodName)) ∈ lw_all := lw_g (lw_at lw_m11 175 rfl) rfl
theorem q2700 : (Jvm.Cond.code ({ cls := "SettlerColonyModel", name := "adds", desc := "(IIII)V" } : Jvm.MethodName) prog_36_method_29_code (6 : Nat) (Option.none : Option Jvm.ClassFile.FieldType)) ∈ lw_all := lw_g (lw_at lw_m11 176 rfl) rfl
theorem q2701 : (Jvm.Cond.methodLink "SettlerColonyModel" (113 : Nat) ({ cls := "SettlerColonyModel", name := "setPer", desc := "(III)V" } : Jvm.MethodName)) ∈ lw_all := lw_g (lw_at lw_m11 177 rfl) rfl
theorem q2702 : (Jvm.Cond.privateMethod ({ cls := "SettlerColonyModel", name := "setPer", desc := "(III)V" } : Jvm.MethodName)) ∈ lw_tbl := lw_at lw_m11 178 rfl
theorem q2703 : (Jvm.Cond.instanceMethod ({ cls := "SettlerColonyModel", name := "setPer", desc := "(III)V" } : Jvm.MethodName)) ∈ lw_all := lw_g (lw_at lw_m11 179 rfl) rfl
theorem q2704 : (Jvm.Cond.code ({ cls := "SettlerColonyModel", name := "setPer", desc := "(III)V" } : Jvm.MethodName) prog_36_method_8_code (4 : Nat) (Option.none : Option Jvm.ClassFile.FieldType)) ∈ lw_all := lw_g (lw_at lw_m11 180 rfl) rfl
theorem q2706 : (Jvm.Cond.instanceMethod ({ cls := "SettlerColonyModel", name := "person", desc := "(II)I" } : Jvm.MethodName)) ∈ lw_all := lw_g (lw_at lw_m11 182 rfl) rfl
theorem q2707 : (Jvm.Cond.selects "SettlerColonyModel" ({ cls := "SettlerColonyModel", name := "person", desc := "(II)I" } : Jvm.MethodName) ({ cls := "SettlerColonyModel", name := "person", desc := "(II)I" } : Jvm.MethodName)) ∈ lw_all := lw_g (lw_at lw_m11 183 rfl) rfl
theorem q2708 : (Jvm.Cond.code ({ cls := "SettlerColonyModel", name := "person", desc := "(II)I" } : Jvm.MethodName) prog_36_method_36_code (3 : Nat) (Option.some Jvm.ClassFile.FieldType.int)) ∈ lw_all := lw_g (lw_at lw_m11 184 rfl) rfl
theorem q2709 : (Jvm.Cond.methodLink "SettlerColonyModel" (125 : Nat) ({ cls := "SettlerColonyModel", name := "isPerson", desc := "(I)Z" } : Jvm.MethodName)) ∈ lw_all := lw_g (lw_at lw_m11 185 rfl) rfl
theorem q2710 : (Jvm.Cond.privateMethod ({ cls := "SettlerColonyModel", name := "isPerson", desc := "(I)Z" } : Jvm.MethodName)) ∈ lw_tbl := lw_at lw_m11 186 rfl
theorem q2711 : (Jvm.Cond.instanceMethod ({ cls := "SettlerColonyModel", name := "isPerson", desc := "(I)Z" } : Jvm.MethodName)) ∈ lw_all := lw_g (lw_at lw_m11 187 rfl) rfl
theorem q2712 : (Jvm.Cond.code ({ cls := "SettlerColonyModel", name := "isPerson", desc := "(I)Z" } : Jvm.MethodName) prog_36_method_11_code (2 : Nat) (Option.some Jvm.ClassFile.FieldType.boolean)) ∈ lw_all := lw_g (lw_at lw_m11 188 rfl) rfl
theorem q2713 : (Jvm.Cond.methodLink "SettlerColonyModel" (76 : Nat) ({ cls := "SettlerColonyModel", name := "per", desc := "(II)I" } : Jvm.MethodName)) ∈ lw_all := lw_g (lw_at lw_m11 189 rfl) rfl
theorem q2714 : (Jvm.Cond.privateMethod ({ cls := "SettlerColonyModel", name := "per", desc := "(II)I" } : Jvm.MethodName)) ∈ lw_tbl := lw_at lw_m11 190 rfl
theorem q2715 : (Jvm.Cond.instanceMethod ({ cls := "SettlerColonyModel", name := "per", desc := "(II)I" } : Jvm.MethodName)) ∈ lw_all := lw_g (lw_at lw_m11 191 rfl) rfl
theorem q2716 : (Jvm.Cond.code ({ cls := "SettlerColonyModel", name := "per", desc := "(II)I" } : Jvm.MethodName) prog_36_method_7_code (3 : Nat) (Option.some Jvm.ClassFile.FieldType.int)) ∈ lw_all := lw_g (lw_at lw_m11 192 rfl) rfl
theorem q2717 : (Jvm.Cond.methodLink "SettlerColonyModel" (128 : Nat) ({ cls := "SettlerColonyModel", name := "hiredBy", desc := "(I)I" } : Jvm.MethodName)) ∈ lw_all := lw_g (lw_at lw_m11 193 rfl) rfl
theorem q2718 : (Jvm.Cond.privateMethod ({ cls := "SettlerColonyModel", name := "hiredBy", desc := "(I)I" } : Jvm.MethodName)) ∈ lw_tbl := lw_at lw_m11 194 rfl
theorem q2719 : (Jvm.Cond.instanceMethod ({ cls := "SettlerColonyModel", name := "hiredBy", desc := "(I)I" } : Jvm.MethodName)) ∈ lw_all := lw_g (lw_at lw_m11 195 rfl) rfl
theorem q2720 : (Jvm.Cond.code ({ cls := "SettlerColonyModel", name := "hiredBy", desc := "(I)I" } : Jvm.MethodName) prog_36_method_32_code (4 : Nat) (Option.some Jvm.ClassFile.FieldType.int)) ∈ lw_all := lw_g (lw_at lw_m11 196 rfl) rfl
theorem q2721 : (Jvm.Cond.methodLink "SettlerColonyModel" (131 : Nat) ({ cls := "SettlerColonyModel", name := "farmsOf", desc := "(I)I" } : Jvm.MethodName)) ∈ lw_all := lw_g (lw_at lw_m11 197 rfl) rfl
theorem q2722 : (Jvm.Cond.privateMethod ({ cls := "SettlerColonyModel", name := "farmsOf", desc := "(I)I" } : Jvm.MethodName)) ∈ lw_tbl := lw_at lw_m11 198 rfl
theorem q2723 : (Jvm.Cond.instanceMethod ({ cls := "SettlerColonyModel", name := "farmsOf", desc := "(I)I" } : Jvm.MethodName)) ∈ lw_all := lw_g (lw_at lw_m11 199 rfl) rfl
theorem q2724 : (Jvm.Cond.code ({ cls := "SettlerColonyModel", name := "farmsOf", desc := "(I)I" } : Jvm.MethodName) prog_36_method_33_code (4 : Nat) (Option.some Jvm.ClassFile.FieldType.int)) ∈ lw_all := lw_g (lw_at lw_m11 200 rfl) rfl
theorem q2726 : (Jvm.Cond.instanceMethod ({ cls := "SettlerColonyModel", name := "party", desc := "(I)I" } : Jvm.MethodName)) ∈ lw_all := lw_g (lw_at lw_m11 202 rfl) rfl
theorem q2727 : (Jvm.Cond.selects "SettlerColonyModel" ({ cls := "SettlerColonyModel", name := "party", desc := "(I)I" } : Jvm.MethodName) ({ cls := "SettlerColonyModel", name := "party", desc := "(I)I" } : Jvm.MethodName)) ∈ lw_all := lw_g (lw_at lw_m11 203 rfl) rfl
theorem q2728 : (Jvm.Cond.code ({ cls := "SettlerColonyModel", name := "party", desc := "(I)I" } : Jvm.MethodName) prog_36_method_39_code (2 : Nat) (Option.some Jvm.ClassFile.FieldType.int)) ∈ lw_all := lw_g (lw_at lw_m11 204 rfl) rfl
theorem q2730 : (Jvm.Cond.instanceMethod ({ cls := "SettlerColonyModel", name := "queue", desc := "(II)I" } : Jvm.MethodName)) ∈ lw_all := lw_g (lw_at lw_m11 206 rfl) rfl
theorem q2731 : (Jvm.Cond.selects "SettlerColonyModel" ({ cls := "SettlerColonyModel", name := "queue", desc := "(II)I" } : Jvm.MethodName) ({ cls := "SettlerColonyModel", name := "queue", desc := "(II)I" } : Jvm.MethodName)) ∈ lw_all := lw_g (lw_at lw_m11 207 rfl) rfl
theorem q2732 : (Jvm.Cond.code ({ cls := "SettlerColonyModel", name := "queue", desc := "(II)I" } : Jvm.MethodName) prog_36_method_41_code (4 : Nat) (Option.some Jvm.ClassFile.FieldType.int)) ∈ lw_all := lw_g (lw_at lw_m11 208 rfl) rfl
theorem q2733 : (Jvm.Cond.methodLink "SettlerColonyModel" (134 : Nat) ({ cls := "SettlerColonyModel", name := "isParty", desc := "(I)Z" } : Jvm.MethodName)) ∈ lw_all := lw_g (lw_at lw_m11 209 rfl) rfl
theorem q2734 : (Jvm.Cond.privateMethod ({ cls := "SettlerColonyModel", name := "isParty", desc := "(I)Z" } : Jvm.MethodName)) ∈ lw_tbl := lw_at lw_m11 210 rfl
theorem q2735 : (Jvm.Cond.instanceMethod ({ cls := "SettlerColonyModel", name := "isParty", desc := "(I)Z" } : Jvm.MethodName)) ∈ lw_all := lw_g (lw_at lw_m11 211 rfl) rfl
theorem q2736 : (Jvm.Cond.code ({ cls := "SettlerColonyModel", name := "isParty", desc := "(I)Z" } : Jvm.MethodName) prog_36_method_40_code (2 : Nat) (Option.some Jvm.ClassFile.FieldType.boolean)) ∈ lw_all := lw_g (lw_at lw_m11 212 rfl) rfl
theorem q2738 : (Jvm.Cond.instanceMethod ({ cls := "SettlerColonyModel", name := "where", desc := "(II)I" } : Jvm.MethodName)) ∈ lw_all := lw_g (lw_at lw_m11 214 rfl) rfl
theorem q2739 : (Jvm.Cond.selects "SettlerColonyModel" ({ cls := "SettlerColonyModel", name := "where", desc := "(II)I" } : Jvm.MethodName) ({ cls := "SettlerColonyModel", name := "where", desc := "(II)I" } : Jvm.MethodName)) ∈ lw_all := lw_g (lw_at lw_m11 215 rfl) rfl
theorem q2740 : (Jvm.Cond.code ({ cls := "SettlerColonyModel", name := "where", desc := "(II)I" } : Jvm.MethodName) prog_36_method_42_code (4 : Nat) (Option.some Jvm.ClassFile.FieldType.int)) ∈ lw_all := lw_g (lw_at lw_m11 216 rfl) rfl
theorem q2742 : (Jvm.Cond.instanceMethod ({ cls := "SettlerColonyModel", name := "lot", desc := "(I)I" } : Jvm.MethodName)) ∈ lw_all := lw_g (lw_at lw_m11 218 rfl) rfl
theorem q2743 : (Jvm.Cond.selects "SettlerColonyModel" ({ cls := "SettlerColonyModel", name := "lot", desc := "(I)I" } : Jvm.MethodName) ({ cls := "SettlerColonyModel", name := "lot", desc := "(I)I" } : Jvm.MethodName)) ∈ lw_all := lw_g (lw_at lw_m11 219 rfl) rfl
theorem q2744 : (Jvm.Cond.code ({ cls := "SettlerColonyModel", name := "lot", desc := "(I)I" } : Jvm.MethodName) prog_36_method_49_code (4 : Nat) (Option.some Jvm.ClassFile.FieldType.int)) ∈ lw_all := lw_g (lw_at lw_m11 220 rfl) rfl
theorem q2745 : (Jvm.Cond.methodLink "SettlerColonyModel" (153 : Nat) ({ cls := "SettlerColonyModel", name := "saves", desc := "()V" } : Jvm.MethodName)) ∈ lw_all := lw_g (lw_at lw_m11 221 rfl) rfl
theorem q2746 : (Jvm.Cond.privateMethod ({ cls := "SettlerColonyModel", name := "saves", desc := "()V" } : Jvm.MethodName)) ∈ lw_tbl := lw_at lw_m11 222 rfl
theorem q2747 : (Jvm.Cond.instanceMethod ({ cls := "SettlerColonyModel", name := "saves", desc := "()V" } : Jvm.MethodName)) ∈ lw_all := lw_g (lw_at lw_m11 223 rfl) rfl
theorem q2748 : (Jvm.Cond.code ({ cls := "SettlerColonyModel", name := "saves", desc := "()V" } : Jvm.MethodName) prog_36_method_4_code (2 : Nat) (Option.none : Option Jvm.ClassFile.FieldType)) ∈ lw_all := lw_g (lw_at lw_m11 224 rfl) rfl
theorem q2749 : (Jvm.Cond.methodLink "SettlerColonyModel" (156 : Nat) ({ cls := "SettlerColonyModel", name := "isQueued", desc := "()Z" } : Jvm.MethodName)) ∈ lw_all := lw_g (lw_at lw_m11 225 rfl) rfl
theorem q2750 : (Jvm.Cond.privateMethod ({ cls := "SettlerColonyModel", name := "isQueued", desc := "()Z" } : Jvm.MethodName)) ∈ lw_tbl := lw_at lw_m11 226 rfl
theorem q2751 : (Jvm.Cond.instanceMethod ({ cls := "SettlerColonyModel", name := "isQueued", desc := "()Z" } : Jvm.MethodName)) ∈ lw_all := lw_g (lw_at lw_m11 227 rfl) rfl
theorem q2752 : (Jvm.Cond.code ({ cls := "SettlerColonyModel", name := "isQueued", desc := "()Z" } : Jvm.MethodName) prog_36_method_48_code (2 : Nat) (Option.some Jvm.ClassFile.FieldType.boolean)) ∈ lw_all := lw_g (lw_at lw_m11 228 rfl) rfl
theorem q2753 : (Jvm.Cond.methodLink "SettlerColonyModel" (160 : Nat) ({ cls := "SettlerColonyModel", name := "surveysAll", desc := "()V" } : Jvm.MethodName)) ∈ lw_all := lw_g (lw_at lw_m11 229 rfl) rfl
theorem q2754 : (Jvm.Cond.privateMethod ({ cls := "SettlerColonyModel", name := "surveysAll", desc := "()V" } : Jvm.MethodName)) ∈ lw_tbl := lw_at lw_m11 230 rfl
theorem q2755 : (Jvm.Cond.instanceMethod ({ cls := "SettlerColonyModel", name := "surveysAll", desc := "()V" } : Jvm.MethodName)) ∈ lw_all := lw_g (lw_at lw_m11 231 rfl) rfl
theorem q2756 : (Jvm.Cond.code ({ cls := "SettlerColonyModel", name := "surveysAll", desc := "()V" } : Jvm.MethodName) prog_36_method_47_code (2 : Nat) (Option.none : Option Jvm.ClassFile.FieldType)) ∈ lw_all := lw_g (lw_at lw_m11 232 rfl) rfl
theorem q2757 : (Jvm.Cond.methodLink "SettlerColonyModel" (150 : Nat) ({ cls := "SettlerColonyModel", name := "surveys", desc := "(I)V" } : Jvm.MethodName)) ∈ lw_all := lw_g (lw_at lw_m11 233 rfl) rfl
theorem q2758 : (Jvm.Cond.privateMethod ({ cls := "SettlerColonyModel", name := "surveys", desc := "(I)V" } : Jvm.MethodName)) ∈ lw_tbl := lw_at lw_m11 234 rfl
theorem q2759 : (Jvm.Cond.instanceMethod ({ cls := "SettlerColonyModel", name := "surveys", desc := "(I)V" } : Jvm.MethodName)) ∈ lw_all := lw_g (lw_at lw_m11 235 rfl) rfl
theorem q2760 : (Jvm.Cond.code ({ cls := "SettlerColonyModel", name := "surveys", desc := "(I)V" } : Jvm.MethodName) prog_36_method_46_code (5 : Nat) (Option.none : Option Jvm.ClassFile.FieldType)) ∈ lw_all := lw_g (lw_at lw_m11 236 rfl) rfl
theorem q2761 : (Jvm.Cond.methodLink "SettlerColonyModel" (141 : Nat) ({ cls := "SettlerColonyModel", name := "passes", desc := "(I)V" } : Jvm.MethodName)) ∈ lw_all := lw_g (lw_at lw_m11 237 rfl) rfl
theorem q2762 : (Jvm.Cond.privateMethod ({ cls := "SettlerColonyModel", name := "passes", desc := "(I)V" } : Jvm.MethodName)) ∈ lw_tbl := lw_at lw_m11 238 rfl
theorem q2763 : (Jvm.Cond.instanceMethod ({ cls := "SettlerColonyModel", name := "passes", desc := "(I)V" } : Jvm.MethodName)) ∈ lw_all := lw_g (lw_at lw_m11 239 rfl) rfl
theorem q2764 : (Jvm.Cond.code ({ cls := "SettlerColonyModel", name := "passes", desc := "(I)V" } : Jvm.MethodName) prog_36_method_44_code (2 : Nat) (Option.none : Option Jvm.ClassFile.FieldType)) ∈ lw_all := lw_g (lw_at lw_m12 0 rfl) rfl
theorem q2765 : (Jvm.Cond.methodLink "SettlerColonyModel" (137 : Nat) ({ cls := "SettlerColonyModel", name := "dequeues", desc := "(I)V" } : Jvm.MethodName)) ∈ lw_all := lw_g (lw_at lw_m12 1 rfl) rfl
theorem q2766 : (Jvm.Cond.privateMethod ({ cls := "SettlerColonyModel", name := "dequeues", desc := "(I)V" } : Jvm.MethodName)) ∈ lw_tbl := lw_at lw_m12 2 rfl
theorem q2767 : (Jvm.Cond.instanceMethod ({ cls := "SettlerColonyModel", name := "dequeues", desc := "(I)V" } : Jvm.MethodName)) ∈ lw_all := lw_g (lw_at lw_m12 3 rfl) rfl
theorem q2768 : (Jvm.Cond.code ({ cls := "SettlerColonyModel", name := "dequeues", desc := "(I)V" } : Jvm.MethodName) prog_36_method_43_code (3 : Nat) (Option.none : Option Jvm.ClassFile.FieldType)) ∈ lw_all := lw_g (lw_at lw_m12 4 rfl) rfl
theorem q2769 : (Jvm.Cond.methodLink "SettlerColonyModel" (144 : Nat) ({ cls := "SettlerColonyModel", name := "nearer", desc := "(II)I" } : Jvm.MethodName)) ∈ lw_all := lw_g (lw_at lw_m12 5 rfl) rfl
theorem q2770 : (Jvm.Cond.static ({ cls := "SettlerColonyModel", name := "nearer", desc := "(II)I" } : Jvm.MethodName)) ∈ lw_all := lw_g (lw_at lw_m12 6 rfl) rfl
theorem q2771 : (Jvm.Cond.code ({ cls := "SettlerColonyModel", name := "nearer", desc := "(II)I" } : Jvm.MethodName) prog_36_method_45_code (4 : Nat) (Option.some Jvm.ClassFile.FieldType.int)) ∈ lw_all := lw_g (lw_at lw_m12 7 rfl) rfl
theorem q2772 : (Jvm.Cond.methodLink "SettlerColonyModel" (147 : Nat) ({ cls := "SettlerColonyModel", name := "holds", desc := "(III)V" } : Jvm.MethodName)) ∈ lw_all := lw_g (lw_at lw_m12 8 rfl) rfl
theorem q2773 : (Jvm.Cond.privateMethod ({ cls := "SettlerColonyModel", name := "holds", desc := "(III)V" } : Jvm.MethodName)) ∈ lw_tbl := lw_at lw_m12 9 rfl
theorem q2774 : (Jvm.Cond.instanceMethod ({ cls := "SettlerColonyModel", name := "holds", desc := "(III)V" } : Jvm.MethodName)) ∈ lw_all := lw_g (lw_at lw_m12 10 rfl) rfl
theorem q2775 : (Jvm.Cond.code ({ cls := "SettlerColonyModel", name := "holds", desc := "(III)V" } : Jvm.MethodName) prog_36_method_28_code (4 : Nat) (Option.none : Option Jvm.ClassFile.FieldType)) ∈ lw_all := lw_g (lw_at lw_m12 11 rfl) rfl
theorem q2776 : (Jvm.Cond.methodLink "SettlerColonyModel" (163 : Nat) ({ cls := "SettlerColonyModel", name := "back", desc := "()V" } : Jvm.MethodName)) ∈ lw_all := lw_g (lw_at lw_m12 12 rfl) rfl
theorem q2777 : (Jvm.Cond.privateMethod ({ cls := "SettlerColonyModel", name := "back", desc := "()V" } : Jvm.MethodName)) ∈ lw_tbl := lw_at lw_m12 13 rfl
theorem q2778 : (Jvm.Cond.instanceMethod ({ cls := "SettlerColonyModel", name := "back", desc := "()V" } : Jvm.MethodName)) ∈ lw_all := lw_g (lw_at lw_m12 14 rfl) rfl
theorem q2779 : (Jvm.Cond.code ({ cls := "SettlerColonyModel", name := "back", desc := "()V" } : Jvm.MethodName) prog_36_method_5_code (2 : Nat) (Option.none : Option Jvm.ClassFile.FieldType)) ∈ lw_all := lw_g (lw_at lw_m12 15 rfl) rfl
theorem q2781 : (Jvm.Cond.instanceMethod ({ cls := "SettlerColonyModel", name := "ask", desc := "(I)I" } : Jvm.MethodName)) ∈ lw_all := lw_g (lw_at lw_m12 17 rfl) rfl
theorem q2782 : (Jvm.Cond.selects "SettlerColonyModel" ({ cls := "SettlerColonyModel", name := "ask", desc := "(I)I" } : Jvm.MethodName) ({ cls := "SettlerColonyModel", name := "ask", desc := "(I)I" } : Jvm.MethodName)) ∈ lw_all := lw_g (lw_at lw_m12 18 rfl) rfl
theorem q2783 : (Jvm.Cond.code ({ cls := "SettlerColonyModel", name := "ask", desc := "(I)I" } : Jvm.MethodName) prog_36_method_50_code (3 : Nat) (Option.some Jvm.ClassFile.FieldType.int)) ∈ lw_all := lw_g (lw_at lw_m12 19 rfl) rfl
theorem q2784 : (Jvm.Cond.methodLink "SettlerColonyModel" (122 : Nat) ({ cls := "SettlerColonyModel", name := "isHere", desc := "(I)Z" } : Jvm.MethodName)) ∈ lw_all := lw_g (lw_at lw_m12 20 rfl) rfl
theorem q2785 : (Jvm.Cond.privateMethod ({ cls := "SettlerColonyModel", name := "isHere", desc := "(I)Z" } : Jvm.MethodName)) ∈ lw_tbl := lw_at lw_m12 21 rfl
theorem q2786 : (Jvm.Cond.instanceMethod ({ cls := "SettlerColonyModel", name := "isHere", desc := "(I)Z" } : Jvm.MethodName)) ∈ lw_all := lw_g (lw_at lw_m12 22 rfl) rfl
theorem q2787 : (Jvm.Cond.code ({ cls := "SettlerColonyModel", name := "isHere", desc := "(I)Z" } : Jvm.MethodName) prog_36_method_12_code (2 : Nat) (Option.some Jvm.ClassFile.FieldType.boolean)) ∈ lw_all := lw_g (lw_at lw_m12 23 rfl) rfl
theorem q2789 : (Jvm.Cond.instanceMethod ({ cls := "SettlerColonyModel", name := "draw", desc := "(I)I" } : Jvm.MethodName)) ∈ lw_all := lw_g (lw_at lw_m12 25 rfl) rfl
theorem q2790 : (Jvm.Cond.selects "SettlerColonyModel" ({ cls := "SettlerColonyModel", name := "draw", desc := "(I)I" } : Jvm.MethodName) ({ cls := "SettlerColonyModel", name := "draw", desc := "(I)I" } : Jvm.MethodName)) ∈ lw_all := lw_g (lw_at lw_m12 26 rfl) rfl
theorem q2791 : (Jvm.Cond.code ({ cls := "SettlerColonyModel", name := "draw", desc := "(I)I" } : Jvm.MethodName) prog_36_method_51_code (8 : Nat) (Option.some Jvm.ClassFile.FieldType.int)) ∈ lw_all := lw_g (lw_at lw_m12 27 rfl) rfl
theorem q2793 : (Jvm.Cond.instanceMethod ({ cls := "SettlerColonyModel", name := "acre", desc := "(I)I" } : Jvm.MethodName)) ∈ lw_all := lw_g (lw_at lw_m12 29 rfl) rfl
theorem q2794 : (Jvm.Cond.selects "SettlerColonyModel" ({ cls := "SettlerColonyModel", name := "acre", desc := "(I)I" } : Jvm.MethodName) ({ cls := "SettlerColonyModel", name := "acre", desc := "(I)I" } : Jvm.MethodName)) ∈ lw_all := lw_g (lw_at lw_m12 30 rfl) rfl
theorem q2795 : (Jvm.Cond.code ({ cls := "SettlerColonyModel", name := "acre", desc := "(I)I" } : Jvm.MethodName) prog_36_method_52_code (2 : Nat) (Option.some Jvm.ClassFile.FieldType.int)) ∈ lw_all := lw_g (lw_at lw_m12 31 rfl) rfl
theorem q2797 : (Jvm.Cond.instanceMethod ({ cls := "SettlerColonyModel", name := "feed", desc := "(IIIII)I" } : Jvm.MethodName)) ∈ lw_all := lw_g (lw_at lw_m12 33 rfl) rfl
theorem q2798 : (Jvm.Cond.selects "SettlerColonyModel" ({ cls := "SettlerColonyModel", name := "feed", desc := "(IIIII)I" } : Jvm.MethodName) ({ cls := "SettlerColonyModel", name := "feed", desc := "(IIIII)I" } : Jvm.MethodName)) ∈ lw_all := lw_g (lw_at lw_m12 34 rfl) rfl
theorem q2799 : (Jvm.Cond.code ({ cls := "SettlerColonyModel", name := "feed", desc := "(IIIII)I" } : Jvm.MethodName) prog_36_method_54_code (9 : Nat) (Option.some Jvm.ClassFile.FieldType.int)) ∈ lw_all := lw_g (lw_at lw_m12 35 rfl) rfl
theorem q2801 : (Jvm.Cond.instanceMethod ({ cls := "SettlerColonyModel", name := "law", desc := "(I)I" } : Jvm.MethodName)) ∈ lw_all := lw_g (lw_at lw_m12 37 rfl) rfl
theorem q2802 : (Jvm.Cond.selects "SettlerColonyModel" ({ cls := "SettlerColonyModel", name := "law", desc := "(I)I" } : Jvm.MethodName) ({ cls := "SettlerColonyModel", name := "law", desc := "(I)I" } : Jvm.MethodName)) ∈ lw_all := lw_g (lw_at lw_m12 38 rfl) rfl
theorem q2803 : (Jvm.Cond.code ({ cls := "SettlerColonyModel", name := "law", desc := "(I)I" } : Jvm.MethodName) prog_36_method_78_code (3 : Nat) (Option.some Jvm.ClassFile.FieldType.int)) ∈ lw_all := lw_g (lw_at lw_m12 39 rfl) rfl
theorem q2804 : (Jvm.Cond.methodLink "SettlerColonyModel" (181 : Nat) ({ cls := "SettlerColonyModel", name := "blanks", desc := "()V" } : Jvm.MethodName)) ∈ lw_all := lw_g (lw_at lw_m12 40 rfl) rfl
theorem q2805 : (Jvm.Cond.privateMethod ({ cls := "SettlerColonyModel", name := "blanks", desc := "()V" } : Jvm.MethodName)) ∈ lw_tbl := lw_at lw_m12 41 rfl
theorem q2806 : (Jvm.Cond.instanceMethod ({ cls := "SettlerColonyModel", name := "blanks", desc := "()V" } : Jvm.MethodName)) ∈ lw_all := lw_g (lw_at lw_m12 42 rfl) rfl
theorem q2807 : (Jvm.Cond.code ({ cls := "SettlerColonyModel", name := "blanks", desc := "()V" } : Jvm.MethodName) prog_36_method_56_code (1 : Nat) (Option.none : Option Jvm.ClassFile.FieldType)) ∈ lw_all := lw_g (lw_at lw_m12 43 rfl) rfl
theorem q2808 : (Jvm.Cond.methodLink "SettlerColonyModel" (175 : Nat) ({ cls := "SettlerColonyModel", name := "byteAt", desc := "(I)I" } : Jvm.MethodName)) ∈ lw_all := lw_g (lw_at lw_m12 44 rfl) rfl
theorem q2809 : (Jvm.Cond.privateMethod ({ cls := "SettlerColonyModel", name := "byteAt", desc := "(I)I" } : Jvm.MethodName)) ∈ lw_tbl := lw_at lw_m12 45 rfl
theorem q2810 : (Jvm.Cond.instanceMethod ({ cls := "SettlerColonyModel", name := "byteAt", desc := "(I)I" } : Jvm.MethodName)) ∈ lw_all := lw_g (lw_at lw_m12 46 rfl) rfl
theorem q2811 : (Jvm.Cond.code ({ cls := "SettlerColonyModel", name := "byteAt", desc := "(I)I" } : Jvm.MethodName) prog_36_method_55_code (2 : Nat) (Option.some Jvm.ClassFile.FieldType.int)) ∈ lw_all := lw_g (lw_at lw_m12 47 rfl) rfl
theorem q2812 : (Jvm.Cond.methodLink "SettlerColonyModel" (307 : Nat) ({ cls := "SettlerColonyModel", name := "isClause", desc := "()Z" } : Jvm.MethodName)) ∈ lw_all := lw_g (lw_at lw_m12 48 rfl) rfl
theorem q2813 : (Jvm.Cond.privateMethod ({ cls := "SettlerColonyModel", name := "isClause", desc := "()Z" } : Jvm.MethodName)) ∈ lw_tbl := lw_at lw_m12 49 rfl
theorem q2814 : (Jvm.Cond.instanceMethod ({ cls := "SettlerColonyModel", name := "isClause", desc := "()Z" } : Jvm.MethodName)) ∈ lw_all := lw_g (lw_at lw_m12 50 rfl) rfl
theorem q2815 : (Jvm.Cond.code ({ cls := "SettlerColonyModel", name := "isClause", desc := "()Z" } : Jvm.MethodName) prog_36_method_76_code (1 : Nat) (Option.some Jvm.ClassFile.FieldType.boolean)) ∈ lw_all := lw_g (lw_at lw_m12 51 rfl) rfl
theorem q2816 : (Jvm.Cond.methodLink "SettlerColonyModel" (298 : Nat) ({ cls := "SettlerColonyModel", name := "nameHere", desc := "()I" } : Jvm.MethodName)) ∈ lw_all := lw_g (lw_at lw_m12 52 rfl) rfl
theorem q2817 : (Jvm.Cond.privateMethod ({ cls := "SettlerColonyModel", name := "nameHere", desc := "()I" } : Jvm.MethodName)) ∈ lw_tbl := lw_at lw_m12 53 rfl
theorem q2818 : (Jvm.Cond.instanceMethod ({ cls := "SettlerColonyModel", name := "nameHere", desc := "()I" } : Jvm.MethodName)) ∈ lw_all := lw_g (lw_at lw_m12 54 rfl) rfl
theorem q2819 : (Jvm.Cond.code ({ cls := "SettlerColonyModel", name := "nameHere", desc := "()I" } : Jvm.MethodName) prog_36_method_63_code (2 : Nat) (Option.some Jvm.ClassFile.FieldType.int)) ∈ lw_all := lw_g (lw_at lw_m12 55 rfl) rfl
theorem q2820 : (Jvm.Cond.methodLink "SettlerColonyModel" (223 : Nat) ({ cls := "SettlerColonyModel", name := "nameOf", desc := "(I)Ljava/lang/String;" } : Jvm.MethodName)) ∈ lw_all := lw_g (lw_at lw_m12 56 rfl) rfl
theorem q2821 : (Jvm.Cond.static ({ cls := "SettlerColonyModel", name := "nameOf", desc := "(I)Ljava/lang/String;" } : Jvm.MethodName)) ∈ lw_all := lw_g (lw_at lw_m12 57 rfl) rfl
theorem q2822 : (Jvm.Cond.code ({ cls := "SettlerColonyModel", name := "nameOf", desc := "(I)Ljava/lang/String;" } : Jvm.MethodName) prog_36_method_61_code (1 : Nat) (Option.some (Jvm.ClassFile.FieldType.object "java/lang/String"))) ∈ lw_all := lw_g (lw_at lw_m12 58 rfl) rfl
theorem q2823 : (Jvm.Cond.stringRef "SettlerColonyModel" (198 : Nat) "price") ∈ lw_tbl := lw_at lw_m12 59 rfl
theorem q2824 : (Jvm.Cond.stringRef "SettlerColonyModel" (200 : Nat) "share") ∈ lw_tbl := lw_at lw_m12 60 rfl
theorem q2825 : (Jvm.Cond.stringRef "SettlerColonyModel" (202 : Nat) "wage") ∈ lw_tbl := lw_at lw_m12 61 rfl
theorem q2826 : (Jvm.Cond.stringRef "SettlerColonyModel" (204 : Nat) "run") ∈ lw_tbl := lw_at lw_m12 62 rfl
theorem q2827 : (Jvm.Cond.stringRef "SettlerColonyModel" (206 : Nat) "fine") ∈ lw_tbl := lw_at lw_m12 63 rfl
theorem q2828 : (Jvm.Cond.stringRef "SettlerColonyModel" (208 : Nat) "votes") ∈ lw_tbl := lw_at lw_m12 64 rfl
theorem q2829 : (Jvm.Cond.stringRef "SettlerColonyModel" (210 : Nat) "choice") ∈ lw_tbl := lw_at lw_m12 65 rfl
theorem q2830 : (Jvm.Cond.stringRef "SettlerColonyModel" (212 : Nat) "squat") ∈ lw_tbl := lw_at lw_m12 66 rfl
theorem q2831 : (Jvm.Cond.methodLink "SettlerColonyModel" (194 : Nat) ({ cls := "SettlerColonyModel", name := "isWord", desc := "(Ljava/lang/String;)Z" } : Jvm.MethodName)) ∈ lw_all := lw_g (lw_at lw_m12 67 rfl) rfl
theorem q2832 : (Jvm.Cond.privateMethod ({ cls := "SettlerColonyModel", name := "isWord", desc := "(Ljava/lang/String;)Z" } : Jvm.MethodName)) ∈ lw_tbl := lw_at lw_m12 68 rfl
theorem q2833 : (Jvm.Cond.instanceMethod ({ cls := "SettlerColonyModel", name := "isWord", desc := "(Ljava/lang/String;)Z" } : Jvm.MethodName)) ∈ lw_all := lw_g (lw_at lw_m12 69 rfl) rfl
theorem q2834 : (Jvm.Cond.code ({ cls := "SettlerColonyModel", name := "isWord", desc := "(Ljava/lang/String;)Z" } : Jvm.MethodName) prog_36_method_59_code (3 : Nat) (Option.some Jvm.ClassFile.FieldType.boolean)) ∈ lw_all := lw_g (lw_at lw_m12 70 rfl) rfl
theorem q2835 : (Jvm.Cond.methodLink "SettlerColonyModel" (184 : Nat) ({ cls := "java/lang/String", name := "length", desc := "()I" } : Jvm.MethodName)) ∈ lw_all := lw_g (lw_at lw_m12 71 rfl) rfl
theorem q2836 : (Jvm.Cond.methodLink "SettlerColonyModel" (190 : Nat) ({ cls := "java/lang/String", name := "charAt", desc := "(I)C" } : Jvm.MethodName)) ∈ lw_all := lw_g (lw_at lw_m12 72 rfl) rfl
theorem q2837 : (Jvm.Cond.stringRef "SettlerColonyModel" (301 : Nat) "undo") ∈ lw_tbl := lw_at lw_m12 73 rfl
theorem q2838 : (Jvm.Cond.methodLink "SettlerColonyModel" (227 : Nat) ({ cls := "SettlerColonyModel", name := "wrong", desc := "(II)V" } : Jvm.MethodName)) ∈ lw_all := lw_g (lw_at lw_m12 74 rfl) rfl
theorem q2839 : (Jvm.Cond.privateMethod ({ cls := "SettlerColonyModel", name := "wrong", desc := "(II)V" } : Jvm.MethodName)) ∈ lw_tbl := lw_at lw_m12 75 rfl
theorem q2840 : (Jvm.Cond.instanceMethod ({ cls := "SettlerColonyModel", name := "wrong", desc := "(II)V" } : Jvm.MethodName)) ∈ lw_all := lw_g (lw_at lw_m12 76 rfl) rfl
theorem q2841 : (Jvm.Cond.code ({ cls := "SettlerColonyModel", name := "wrong", desc := "(II)V" } : Jvm.MethodName) prog_36_method_58_code (3 : Nat) (Option.none : Option Jvm.ClassFile.FieldType)) ∈ lw_all := lw_g (lw_at lw_m12 77 rfl) rfl
theorem q2842 : (Jvm.Cond.methodLink "SettlerColonyModel" (310 : Nat) ({ cls := "SettlerColonyModel", name := "clause", desc := "()V" } : Jvm.MethodName)) ∈ lw_all := lw_g (lw_at lw_m12 78 rfl) rfl
theorem q2843 : (Jvm.Cond.privateMethod ({ cls := "SettlerColonyModel", name := "clause", desc := "()V" } : Jvm.MethodName)) ∈ lw_tbl := lw_at lw_m12 79 rfl
theorem q2844 : (Jvm.Cond.instanceMethod ({ cls := "SettlerColonyModel", name := "clause", desc := "()V" } : Jvm.MethodName)) ∈ lw_all := lw_g (lw_at lw_m12 80 rfl) rfl
theorem q2845 : (Jvm.Cond.code ({ cls := "SettlerColonyModel", name := "clause", desc := "()V" } : Jvm.MethodName) prog_36_method_77_code (2 : Nat) (Option.none : Option Jvm.ClassFile.FieldType)) ∈ lw_all := lw_g (lw_at lw_m12 81 rfl) rfl
theorem q2846 : (Jvm.Cond.methodLink "SettlerColonyModel" (243 : Nat) ({ cls := "SettlerColonyModel", name := "sign", desc := "(I)V" } : Jvm.MethodName)) ∈ lw_all := lw_g (lw_at lw_m12 82 rfl) rfl
theorem q2847 : (Jvm.Cond.privateMethod ({ cls := "SettlerColonyModel", name := "sign", desc := "(I)V" } : Jvm.MethodName)) ∈ lw_tbl := lw_at lw_m12 83 rfl
theorem q2848 : (Jvm.Cond.instanceMethod ({ cls := "SettlerColonyModel", name := "sign", desc := "(I)V" } : Jvm.MethodName)) ∈ lw_all := lw_g (lw_at lw_m12 84 rfl) rfl
theorem q2849 : (Jvm.Cond.code ({ cls := "SettlerColonyModel", name := "sign", desc := "(I)V" } : Jvm.MethodName) prog_36_method_64_code (2 : Nat) (Option.none : Option Jvm.ClassFile.FieldType)) ∈ lw_all := lw_g (lw_at lw_m12 85 rfl) rfl
theorem q2850 : (Jvm.Cond.methodLink "SettlerColonyModel" (267 : Nat) ({ cls := "SettlerColonyModel", name := "sum", desc := "()V" } : Jvm.MethodName)) ∈ lw_all := lw_g (lw_at lw_m12 86 rfl) rfl
theorem q2851 : (Jvm.Cond.privateMethod ({ cls := "SettlerColonyModel", name := "sum", desc := "()V" } : Jvm.MethodName)) ∈ lw_tbl := lw_at lw_m12 87 rfl
theorem q2852 : (Jvm.Cond.instanceMethod ({ cls := "SettlerColonyModel", name := "sum", desc := "()V" } : Jvm.MethodName)) ∈ lw_all := lw_g (lw_at lw_m12 88 rfl) rfl
theorem q2853 : (Jvm.Cond.code ({ cls := "SettlerColonyModel", name := "sum", desc := "()V" } : Jvm.MethodName) prog_36_method_69_code (2 : Nat) (Option.none : Option Jvm.ClassFile.FieldType)) ∈ lw_all := lw_g (lw_at lw_m12 89 rfl) rfl
theorem q2854 : (Jvm.Cond.methodLink "SettlerColonyModel" (246 : Nat) ({ cls := "SettlerColonyModel", name := "product", desc := "()V" } : Jvm.MethodName)) ∈ lw_all := lw_g (lw_at lw_m12 90 rfl) rfl
theorem q2855 : (Jvm.Cond.privateMethod ({ cls := "SettlerColonyModel", name := "product", desc := "()V" } : Jvm.MethodName)) ∈ lw_tbl := lw_at lw_m12 91 rfl
theorem q2856 : (Jvm.Cond.instanceMethod ({ cls := "SettlerColonyModel", name := "product", desc := "()V" } : Jvm.MethodName)) ∈ lw_all := lw_g (lw_at lw_m12 92 rfl) rfl
theorem q2857 : (Jvm.Cond.code ({ cls := "SettlerColonyModel", name := "product", desc := "()V" } : Jvm.MethodName) prog_36_method_70_code (2 : Nat) (Option.none : Option Jvm.ClassFile.FieldType)) ∈ lw_all := lw_g (lw_at lw_m12 93 rfl) rfl
theorem q2858 : (Jvm.Cond.methodLink "SettlerColonyModel" (252 : Nat) ({ cls := "SettlerColonyModel", name := "one", desc := "()V" } : Jvm.MethodName)) ∈ lw_all := lw_g (lw_at lw_m12 94 rfl) rfl
theorem q2859 : (Jvm.Cond.privateMethod ({ cls := "SettlerColonyModel", name := "one", desc := "()V" } : Jvm.MethodName)) ∈ lw_tbl := lw_at lw_m12 95 rfl
theorem q2860 : (Jvm.Cond.instanceMethod ({ cls := "SettlerColonyModel", name := "one", desc := "()V" } : Jvm.MethodName)) ∈ lw_all := lw_g (lw_at lw_m12 96 rfl) rfl
theorem q2861 : (Jvm.Cond.code ({ cls := "SettlerColonyModel", name := "one", desc := "()V" } : Jvm.MethodName) prog_36_method_71_code (2 : Nat) (Option.none : Option Jvm.ClassFile.FieldType)) ∈ lw_all := lw_g (lw_at lw_m12 97 rfl) rfl
theorem q2862 : (Jvm.Cond.methodLink "SettlerColonyModel" (255 : Nat) ({ cls := "SettlerColonyModel", name := "isDigit", desc := "(I)Z" } : Jvm.MethodName)) ∈ lw_all := lw_g (lw_at lw_m12 98 rfl) rfl
theorem q2863 : (Jvm.Cond.static ({ cls := "SettlerColonyModel", name := "isDigit", desc := "(I)Z" } : Jvm.MethodName)) ∈ lw_all := lw_g (lw_at lw_m12 99 rfl) rfl
theorem q2864 : (Jvm.Cond.code ({ cls := "SettlerColonyModel", name := "isDigit", desc := "(I)Z" } : Jvm.MethodName) prog_36_method_57_code (1 : Nat) (Option.some Jvm.ClassFile.FieldType.boolean)) ∈ lw_all := lw_g (lw_at lw_m12 100 rfl) rfl
theorem q2865 : (Jvm.Cond.methodLink "SettlerColonyModel" (258 : Nat) ({ cls := "SettlerColonyModel", name := "figures", desc := "()V" } : Jvm.MethodName)) ∈ lw_all := lw_g (lw_at lw_m12 101 rfl) rfl
theorem q2866 : (Jvm.Cond.privateMethod ({ cls := "SettlerColonyModel", name := "figures", desc := "()V" } : Jvm.MethodName)) ∈ lw_tbl := lw_at lw_m12 102 rfl
theorem q2867 : (Jvm.Cond.instanceMethod ({ cls := "SettlerColonyModel", name := "figures", desc := "()V" } : Jvm.MethodName)) ∈ lw_all := lw_g (lw_at lw_m12 103 rfl) rfl
theorem q2868 : (Jvm.Cond.code ({ cls := "SettlerColonyModel", name := "figures", desc := "()V" } : Jvm.MethodName) prog_36_method_72_code (3 : Nat) (Option.none : Option Jvm.ClassFile.FieldType)) ∈ lw_all := lw_g (lw_at lw_m12 104 rfl) rfl
theorem q2869 : (Jvm.Cond.constant "SettlerColonyModel" (285 : Nat) (100000 : Int32)) ∈ lw_all := lw_g (lw_at lw_m12 105 rfl) rfl
theorem q2870 : (Jvm.Cond.methodLink "SettlerColonyModel" (249 : Nat) ({ cls := "SettlerColonyModel", name := "emits", desc := "(II)V" } : Jvm.MethodName)) ∈ lw_all := lw_g (lw_at lw_m12 106 rfl) rfl
theorem q2871 : (Jvm.Cond.privateMethod ({ cls := "SettlerColonyModel", name := "emits", desc := "(II)V" } : Jvm.MethodName)) ∈ lw_tbl := lw_at lw_m12 107 rfl
theorem q2872 : (Jvm.Cond.instanceMethod ({ cls := "SettlerColonyModel", name := "emits", desc := "(II)V" } : Jvm.MethodName)) ∈ lw_all := lw_g (lw_at lw_m12 108 rfl) rfl
theorem q2873 : (Jvm.Cond.code ({ cls := "SettlerColonyModel", name := "emits", desc := "(II)V" } : Jvm.MethodName) prog_36_method_65_code (3 : Nat) (Option.none : Option Jvm.ClassFile.FieldType)) ∈ lw_all := lw_g (lw_at lw_m12 109 rfl) rfl
theorem q2874 : (Jvm.Cond.methodLink "SettlerColonyModel" (261 : Nat) ({ cls := "SettlerColonyModel", name := "toldOf", desc := "(I)Ljava/lang/String;" } : Jvm.MethodName)) ∈ lw_all := lw_g (lw_at lw_m12 110 rfl) rfl
theorem q2875 : (Jvm.Cond.static ({ cls := "SettlerColonyModel", name := "toldOf", desc := "(I)Ljava/lang/String;" } : Jvm.MethodName)) ∈ lw_all := lw_g (lw_at lw_m12 111 rfl) rfl
theorem q2876 : (Jvm.Cond.code ({ cls := "SettlerColonyModel", name := "toldOf", desc := "(I)Ljava/lang/String;" } : Jvm.MethodName) prog_36_method_62_code (1 : Nat) (Option.some (Jvm.ClassFile.FieldType.object "java/lang/String"))) ∈ lw_all := lw_g (lw_at lw_m12 112 rfl) rfl
theorem q2877 : (Jvm.Cond.stringRef "SettlerColonyModel" (214 : Nat) "week") ∈ lw_tbl := lw_at lw_m12 113 rfl
theorem q2878 : (Jvm.Cond.stringRef "SettlerColonyModel" (216 : Nat) "year") ∈ lw_tbl := lw_at lw_m12 114 rfl
theorem q2879 : (Jvm.Cond.stringRef "SettlerColonyModel" (218 : Nat) "sold") ∈ lw_tbl := lw_at lw_m12 115 rfl
theorem q2880 : (Jvm.Cond.stringRef "SettlerColonyModel" (220 : Nat) "people") ∈ lw_tbl := lw_at lw_m12 116 rfl
theorem q2881 : (Jvm.Cond.stringRef "SettlerColonyModel" (222 : Nat) "soil") ∈ lw_tbl := lw_at lw_m12 117 rfl
theorem q2882 : (Jvm.Cond.methodLink "SettlerColonyModel" (264 : Nat) ({ cls := "SettlerColonyModel", name := "eat", desc := "(Ljava/lang/String;)Z" } : Jvm.MethodName)) ∈ lw_all := lw_g (lw_at lw_m12 118 rfl) rfl
theorem q2883 : (Jvm.Cond.privateMethod ({ cls := "SettlerColonyModel", name := "eat", desc := "(Ljava/lang/String;)Z" } : Jvm.MethodName)) ∈ lw_tbl := lw_at lw_m12 119 rfl
theorem q2884 : (Jvm.Cond.instanceMethod ({ cls := "SettlerColonyModel", name := "eat", desc := "(Ljava/lang/String;)Z" } : Jvm.MethodName)) ∈ lw_all := lw_g (lw_at lw_m12 120 rfl) rfl
theorem q2885 : (Jvm.Cond.code ({ cls := "SettlerColonyModel", name := "eat", desc := "(Ljava/lang/String;)Z" } : Jvm.MethodName) prog_36_method_60_code (3 : Nat) (Option.some Jvm.ClassFile.FieldType.boolean)) ∈ lw_all := lw_g (lw_at lw_m12 121 rfl) rfl
theorem q2886 : (Jvm.Cond.methodLink "SettlerColonyModel" (240 : Nat) ({ cls := "SettlerColonyModel", name := "opens", desc := "(I)V" } : Jvm.MethodName)) ∈ lw_all := lw_g (lw_at lw_m12 122 rfl) rfl
theorem q2887 : (Jvm.Cond.privateMethod ({ cls := "SettlerColonyModel", name := "opens", desc := "(I)V" } : Jvm.MethodName)) ∈ lw_tbl := lw_at lw_m12 123 rfl
theorem q2888 : (Jvm.Cond.instanceMethod ({ cls := "SettlerColonyModel", name := "opens", desc := "(I)V" } : Jvm.MethodName)) ∈ lw_all := lw_g (lw_at lw_m12 124 rfl) rfl
theorem q2889 : (Jvm.Cond.code ({ cls := "SettlerColonyModel", name := "opens", desc := "(I)V" } : Jvm.MethodName) prog_36_method_66_code (2 : Nat) (Option.none : Option Jvm.ClassFile.FieldType)) ∈ lw_all := lw_g (lw_at lw_m12 125 rfl) rfl
theorem q2890 : (Jvm.Cond.methodLink "SettlerColonyModel" (270 : Nat) ({ cls := "SettlerColonyModel", name := "closes", desc := "(I)V" } : Jvm.MethodName)) ∈ lw_all := lw_g (lw_at lw_m12 126 rfl) rfl
theorem q2891 : (Jvm.Cond.privateMethod ({ cls := "SettlerColonyModel", name := "closes", desc := "(I)V" } : Jvm.MethodName)) ∈ lw_tbl := lw_at lw_m12 127 rfl
theorem q2892 : (Jvm.Cond.instanceMethod ({ cls := "SettlerColonyModel", name := "closes", desc := "(I)V" } : Jvm.MethodName)) ∈ lw_all := lw_g (lw_at lw_m12 128 rfl) rfl
theorem q2893 : (Jvm.Cond.code ({ cls := "SettlerColonyModel", name := "closes", desc := "(I)V" } : Jvm.MethodName) prog_36_method_68_code (2 : Nat) (Option.none : Option Jvm.ClassFile.FieldType)) ∈ lw_all := lw_g (lw_at lw_m12 129 rfl) rfl
theorem q2894 : (Jvm.Cond.stringRef "SettlerColonyModel" (273 : Nat) "least") ∈ lw_tbl := lw_at lw_m12 130 rfl
theorem q2895 : (Jvm.Cond.stringRef "SettlerColonyModel" (275 : Nat) "most") ∈ lw_tbl := lw_at lw_m12 131 rfl
theorem q2896 : (Jvm.Cond.methodLink "SettlerColonyModel" (277 : Nat) ({ cls := "SettlerColonyModel", name := "bracket", desc := "()V" } : Jvm.MethodName)) ∈ lw_all := lw_g (lw_at lw_m12 132 rfl) rfl
theorem q2897 : (Jvm.Cond.privateMethod ({ cls := "SettlerColonyModel", name := "bracket", desc := "()V" } : Jvm.MethodName)) ∈ lw_tbl := lw_at lw_m12 133 rfl
theorem q2898 : (Jvm.Cond.instanceMethod ({ cls := "SettlerColonyModel", name := "bracket", desc := "()V" } : Jvm.MethodName)) ∈ lw_all := lw_g (lw_at lw_m12 134 rfl) rfl
theorem q2899 : (Jvm.Cond.code ({ cls := "SettlerColonyModel", name := "bracket", desc := "()V" } : Jvm.MethodName) prog_36_method_67_code (1 : Nat) (Option.none : Option Jvm.ClassFile.FieldType)) ∈ lw_all := lw_g (lw_at lw_m12 135 rfl) rfl
theorem q2900 : (Jvm.Cond.stringRef "SettlerColonyModel" (280 : Nat) "if") ∈ lw_tbl := lw_at lw_m12 136 rfl
theorem q2901 : (Jvm.Cond.methodLink "SettlerColonyModel" (282 : Nat) ({ cls := "SettlerColonyModel", name := "ors", desc := "()V" } : Jvm.MethodName)) ∈ lw_all := lw_g (lw_at lw_m12 137 rfl) rfl
theorem q2902 : (Jvm.Cond.privateMethod ({ cls := "SettlerColonyModel", name := "ors", desc := "()V" } : Jvm.MethodName)) ∈ lw_tbl := lw_at lw_m12 138 rfl
theorem q2903 : (Jvm.Cond.instanceMethod ({ cls := "SettlerColonyModel", name := "ors", desc := "()V" } : Jvm.MethodName)) ∈ lw_all := lw_g (lw_at lw_m12 139 rfl) rfl
theorem q2904 : (Jvm.Cond.code ({ cls := "SettlerColonyModel", name := "ors", desc := "()V" } : Jvm.MethodName) prog_36_method_73_code (1 : Nat) (Option.none : Option Jvm.ClassFile.FieldType)) ∈ lw_all := lw_g (lw_at lw_m12 140 rfl) rfl
theorem q2905 : (Jvm.Cond.methodLink "SettlerColonyModel" (286 : Nat) ({ cls := "SettlerColonyModel", name := "ands", desc := "()V" } : Jvm.MethodName)) ∈ lw_all := lw_g (lw_at lw_m12 141 rfl) rfl
theorem q2906 : (Jvm.Cond.privateMethod ({ cls := "SettlerColonyModel", name := "ands", desc := "()V" } : Jvm.MethodName)) ∈ lw_tbl := lw_at lw_m12 142 rfl
theorem q2907 : (Jvm.Cond.instanceMethod ({ cls := "SettlerColonyModel", name := "ands", desc := "()V" } : Jvm.MethodName)) ∈ lw_all := lw_g (lw_at lw_m12 143 rfl) rfl
theorem q2908 : (Jvm.Cond.code ({ cls := "SettlerColonyModel", name := "ands", desc := "()V" } : Jvm.MethodName) prog_36_method_74_code (1 : Nat) (Option.none : Option Jvm.ClassFile.FieldType)) ∈ lw_all := lw_g (lw_at lw_m12 144 rfl) rfl
theorem q2909 : (Jvm.Cond.methodLink "SettlerColonyModel" (291 : Nat) ({ cls := "SettlerColonyModel", name := "test", desc := "()V" } : Jvm.MethodName)) ∈ lw_all := lw_g (lw_at lw_m12 145 rfl) rfl
theorem q2910 : (Jvm.Cond.privateMethod ({ cls := "SettlerColonyModel", name := "test", desc := "()V" } : Jvm.MethodName)) ∈ lw_tbl := lw_at lw_m12 146 rfl
theorem q2911 : (Jvm.Cond.instanceMethod ({ cls := "SettlerColonyModel", name := "test", desc := "()V" } : Jvm.MethodName)) ∈ lw_all := lw_g (lw_at lw_m12 147 rfl) rfl
theorem q2912 : (Jvm.Cond.code ({ cls := "SettlerColonyModel", name := "test", desc := "()V" } : Jvm.MethodName) prog_36_method_75_code (2 : Nat) (Option.none : Option Jvm.ClassFile.FieldType)) ∈ lw_all := lw_g (lw_at lw_m12 148 rfl) rfl
theorem q2913 : (Jvm.Cond.stringRef "SettlerColonyModel" (296 : Nat) "not") ∈ lw_tbl := lw_at lw_m12 149 rfl
theorem q2914 : (Jvm.Cond.stringRef "SettlerColonyModel" (294 : Nat) "and") ∈ lw_tbl := lw_at lw_m12 150 rfl
theorem q2915 : (Jvm.Cond.stringRef "SettlerColonyModel" (289 : Nat) "or") ∈ lw_tbl := lw_at lw_m12 151 rfl
theorem q2916 : (Jvm.Cond.stringRef "SettlerColonyModel" (303 : Nat) "fall") ∈ lw_tbl := lw_at lw_m12 152 rfl
theorem q2917 : (Jvm.Cond.stringRef "SettlerColonyModel" (305 : Nat) "stand") ∈ lw_tbl := lw_at lw_m12 153 rfl
theorem q2919 : (Jvm.Cond.instanceMethod ({ cls := "SettlerColonyModel", name := "fault", desc := "()I" } : Jvm.MethodName)) ∈ lw_all := lw_g (lw_at lw_m12 155 rfl) rfl
theorem q2920 : (Jvm.Cond.selects "SettlerColonyModel" ({ cls := "SettlerColonyModel", name := "fault", desc := "()I" } : Jvm.MethodName) ({ cls := "SettlerColonyModel", name := "fault", desc := "()I" } : Jvm.MethodName)) ∈ lw_all := lw_g (lw_at lw_m12 156 rfl) rfl
theorem q2921 : (Jvm.Cond.code ({ cls := "SettlerColonyModel", name := "fault", desc := "()I" } : Jvm.MethodName) prog_36_method_79_code (1 : Nat) (Option.some Jvm.ClassFile.FieldType.int)) ∈ lw_all := lw_g (lw_at lw_m12 157 rfl) rfl
theorem q2923 : (Jvm.Cond.instanceMethod ({ cls := "SettlerColonyModel", name := "means", desc := "(II)I" } : Jvm.MethodName)) ∈ lw_all := lw_g (lw_at lw_m12 159 rfl) rfl
theorem q2924 : (Jvm.Cond.selects "SettlerColonyModel" ({ cls := "SettlerColonyModel", name := "means", desc := "(II)I" } : Jvm.MethodName) ({ cls := "SettlerColonyModel", name := "means", desc := "(II)I" } : Jvm.MethodName)) ∈ lw_all := lw_g (lw_at lw_m12 160 rfl) rfl
theorem q2925 : (Jvm.Cond.code ({ cls := "SettlerColonyModel", name := "means", desc := "(II)I" } : Jvm.MethodName) prog_36_method_88_code (3 : Nat) (Option.some Jvm.ClassFile.FieldType.int)) ∈ lw_all := lw_g (lw_at lw_m12 161 rfl) rfl
theorem q2926 : (Jvm.Cond.methodLink "SettlerColonyModel" (348 : Nat) ({ cls := "SettlerColonyModel", name := "meaning", desc := "(II)I" } : Jvm.MethodName)) ∈ lw_all := lw_g (lw_at lw_m12 162 rfl) rfl
theorem q2927 : (Jvm.Cond.privateMethod ({ cls := "SettlerColonyModel", name := "meaning", desc := "(II)I" } : Jvm.MethodName)) ∈ lw_tbl := lw_at lw_m12 163 rfl
theorem q2928 : (Jvm.Cond.instanceMethod ({ cls := "SettlerColonyModel", name := "meaning", desc := "(II)I" } : Jvm.MethodName)) ∈ lw_all := lw_g (lw_at lw_m12 164 rfl) rfl
theorem q2929 : (Jvm.Cond.code ({ cls := "SettlerColonyModel", name := "meaning", desc := "(II)I" } : Jvm.MethodName) prog_36_method_87_code (4 : Nat) (Option.some Jvm.ClassFile.FieldType.int)) ∈ lw_all := lw_g (lw_at lw_m12 165 rfl) rfl
theorem q2930 : (Jvm.Cond.methodLink "SettlerColonyModel" (326 : Nat) ({ cls := "SettlerColonyModel", name := "forces", desc := "()I" } : Jvm.MethodName)) ∈ lw_all := lw_g (lw_at lw_m12 166 rfl) rfl
theorem q2931 : (Jvm.Cond.privateMethod ({ cls := "SettlerColonyModel", name := "forces", desc := "()I" } : Jvm.MethodName)) ∈ lw_tbl := lw_at lw_m12 167 rfl
theorem q2932 : (Jvm.Cond.instanceMethod ({ cls := "SettlerColonyModel", name := "forces", desc := "()I" } : Jvm.MethodName)) ∈ lw_all := lw_g (lw_at lw_m12 168 rfl) rfl
theorem q2933 : (Jvm.Cond.code ({ cls := "SettlerColonyModel", name := "forces", desc := "()I" } : Jvm.MethodName) prog_36_method_85_code (3 : Nat) (Option.some Jvm.ClassFile.FieldType.int)) ∈ lw_all := lw_g (lw_at lw_m12 169 rfl) rfl
theorem q2934 : (Jvm.Cond.methodLink "SettlerColonyModel" (317 : Nat) ({ cls := "SettlerColonyModel", name := "ofLaw", desc := "(II)I" } : Jvm.MethodName)) ∈ lw_all := lw_g (lw_at lw_m12 170 rfl) rfl
theorem q2935 : (Jvm.Cond.privateMethod ({ cls := "SettlerColonyModel", name := "ofLaw", desc := "(II)I" } : Jvm.MethodName)) ∈ lw_tbl := lw_at lw_m12 171 rfl
theorem q2936 : (Jvm.Cond.instanceMethod ({ cls := "SettlerColonyModel", name := "ofLaw", desc := "(II)I" } : Jvm.MethodName)) ∈ lw_all := lw_g (lw_at lw_m12 172 rfl) rfl
theorem q2937 : (Jvm.Cond.code ({ cls := "SettlerColonyModel", name := "ofLaw", desc := "(II)I" } : Jvm.MethodName) prog_36_method_9_code (3 : Nat) (Option.some Jvm.ClassFile.FieldType.int)) ∈ lw_all := lw_g (lw_at lw_m12 173 rfl) rfl
theorem q2938 : (Jvm.Cond.methodLink "SettlerColonyModel" (320 : Nat) ({ cls := "SettlerColonyModel", name := "isForce", desc := "(I)Z" } : Jvm.MethodName)) ∈ lw_all := lw_g (lw_at lw_m12 174 rfl) rfl
theorem q2939 : (Jvm.Cond.static ({ cls := "SettlerColonyModel", name := "isForce", desc := "(I)Z" } : Jvm.MethodName)) ∈ lw_all := lw_g (lw_at lw_m12 175 rfl) rfl
theorem q2940 : (Jvm.Cond.code ({ cls := "SettlerColonyModel", name := "isForce", desc := "(I)Z" } : Jvm.MethodName) prog_36_method_84_code (1 : Nat) (Option.some Jvm.ClassFile.FieldType.boolean)) ∈ lw_all := lw_g (lw_at lw_m12 176 rfl) rfl
theorem q2941 : (Jvm.Cond.methodLink "SettlerColonyModel" (329 : Nat) ({ cls := "SettlerColonyModel", name := "teller", desc := "(II)I" } : Jvm.MethodName)) ∈ lw_all := lw_g (lw_at lw_m12 177 rfl) rfl
theorem q2942 : (Jvm.Cond.privateMethod ({ cls := "SettlerColonyModel", name := "teller", desc := "(II)I" } : Jvm.MethodName)) ∈ lw_tbl := lw_at lw_m12 178 rfl
theorem q2943 : (Jvm.Cond.instanceMethod ({ cls := "SettlerColonyModel", name := "teller", desc := "(II)I" } : Jvm.MethodName)) ∈ lw_all := lw_g (lw_at lw_m12 179 rfl) rfl
theorem q2944 : (Jvm.Cond.code ({ cls := "SettlerColonyModel", name := "teller", desc := "(II)I" } : Jvm.MethodName) prog_36_method_86_code (4 : Nat) (Option.some Jvm.ClassFile.FieldType.int)) ∈ lw_all := lw_g (lw_at lw_m12 180 rfl) rfl
theorem q2945 : (Jvm.Cond.methodLink "SettlerColonyModel" (332 : Nat) ({ cls := "SettlerColonyModel", name := "without", desc := "(I)I" } : Jvm.MethodName)) ∈ lw_all := lw_g (lw_at lw_m12 181 rfl) rfl
theorem q2946 : (Jvm.Cond.static ({ cls := "SettlerColonyModel", name := "without", desc := "(I)I" } : Jvm.MethodName)) ∈ lw_all := lw_g (lw_at lw_m12 182 rfl) rfl
theorem q2947 : (Jvm.Cond.code ({ cls := "SettlerColonyModel", name := "without", desc := "(I)I" } : Jvm.MethodName) prog_36_method_83_code (1 : Nat) (Option.some Jvm.ClassFile.FieldType.int)) ∈ lw_all := lw_g (lw_at lw_m12 183 rfl) rfl
theorem q2948 : (Jvm.Cond.methodLink "SettlerColonyModel" (335 : Nat) ({ cls := "SettlerColonyModel", name := "farms", desc := "()I" } : Jvm.MethodName)) ∈ lw_all := lw_g (lw_at lw_m12 184 rfl) rfl
theorem q2949 : (Jvm.Cond.privateMethod ({ cls := "SettlerColonyModel", name := "farms", desc := "()I" } : Jvm.MethodName)) ∈ lw_tbl := lw_at lw_m12 185 rfl
theorem q2950 : (Jvm.Cond.instanceMethod ({ cls := "SettlerColonyModel", name := "farms", desc := "()I" } : Jvm.MethodName)) ∈ lw_all := lw_g (lw_at lw_m12 186 rfl) rfl
theorem q2951 : (Jvm.Cond.code ({ cls := "SettlerColonyModel", name := "farms", desc := "()I" } : Jvm.MethodName) prog_36_method_34_code (3 : Nat) (Option.some Jvm.ClassFile.FieldType.int)) ∈ lw_all := lw_g (lw_at lw_m12 187 rfl) rfl
theorem q2952 : (Jvm.Cond.methodLink "SettlerColonyModel" (338 : Nat) ({ cls := "SettlerColonyModel", name := "here", desc := "()I" } : Jvm.MethodName)) ∈ lw_all := lw_g (lw_at lw_m12 188 rfl) rfl
theorem q2953 : (Jvm.Cond.privateMethod ({ cls := "SettlerColonyModel", name := "here", desc := "()I" } : Jvm.MethodName)) ∈ lw_tbl := lw_at lw_m12 189 rfl
theorem q2954 : (Jvm.Cond.instanceMethod ({ cls := "SettlerColonyModel", name := "here", desc := "()I" } : Jvm.MethodName)) ∈ lw_all := lw_g (lw_at lw_m12 190 rfl) rfl
theorem q2955 : (Jvm.Cond.code ({ cls := "SettlerColonyModel", name := "here", desc := "()I" } : Jvm.MethodName) prog_36_method_35_code (3 : Nat) (Option.some Jvm.ClassFile.FieldType.int)) ∈ lw_all := lw_g (lw_at lw_m12 191 rfl) rfl
theorem q2956 : (Jvm.Cond.methodLink "SettlerColonyModel" (341 : Nat) ({ cls := "SettlerColonyModel", name := "value", desc := "(IIIIII)I" } : Jvm.MethodName)) ∈ lw_all := lw_g (lw_at lw_m12 192 rfl) rfl
theorem q2957 : (Jvm.Cond.privateMethod ({ cls := "SettlerColonyModel", name := "value", desc := "(IIIIII)I" } : Jvm.MethodName)) ∈ lw_tbl := lw_at lw_m12 193 rfl
theorem q2958 : (Jvm.Cond.instanceMethod ({ cls := "SettlerColonyModel", name := "value", desc := "(IIIIII)I" } : Jvm.MethodName)) ∈ lw_all := lw_g (lw_at lw_m12 194 rfl) rfl
theorem q2959 : (Jvm.Cond.code ({ cls := "SettlerColonyModel", name := "value", desc := "(IIIIII)I" } : Jvm.MethodName) prog_36_method_81_code (11 : Nat) (Option.some Jvm.ClassFile.FieldType.int)) ∈ lw_all := lw_g (lw_at lw_m12 195 rfl) rfl
theorem q2960 : (Jvm.Cond.methodLink "SettlerColonyModel" (313 : Nat) ({ cls := "SettlerColonyModel", name := "worked", desc := "(III)I" } : Jvm.MethodName)) ∈ lw_all := lw_g (lw_at lw_m12 196 rfl) rfl
theorem q2961 : (Jvm.Cond.static ({ cls := "SettlerColonyModel", name := "worked", desc := "(III)I" } : Jvm.MethodName)) ∈ lw_all := lw_g (lw_at lw_m12 197 rfl) rfl
theorem q2962 : (Jvm.Cond.code ({ cls := "SettlerColonyModel", name := "worked", desc := "(III)I" } : Jvm.MethodName) prog_36_method_80_code (3 : Nat) (Option.some Jvm.ClassFile.FieldType.int)) ∈ lw_all := lw_g (lw_at lw_m12 198 rfl) rfl
theorem q2963 : (Jvm.Cond.methodLink "SettlerColonyModel" (345 : Nat) ({ cls := "SettlerColonyModel", name := "bounded", desc := "(II)I" } : Jvm.MethodName)) ∈ lw_all := lw_g (lw_at lw_m12 199 rfl) rfl
theorem q2964 : (Jvm.Cond.static ({ cls := "SettlerColonyModel", name := "bounded", desc := "(II)I" } : Jvm.MethodName)) ∈ lw_all := lw_g (lw_at lw_m12 200 rfl) rfl
theorem q2965 : (Jvm.Cond.code ({ cls := "SettlerColonyModel", name := "bounded", desc := "(II)I" } : Jvm.MethodName) prog_36_method_82_code (4 : Nat) (Option.some Jvm.ClassFile.FieldType.int)) ∈ lw_all := lw_g (lw_at lw_m12 201 rfl) rfl
theorem q2967 : (Jvm.Cond.instanceMethod ({ cls := "SettlerColonyModel", name := "why", desc := "(I)I" } : Jvm.MethodName)) ∈ lw_all := lw_g (lw_at lw_m12 203 rfl) rfl
theorem q2968 : (Jvm.Cond.selects "SettlerColonyModel" ({ cls := "SettlerColonyModel", name := "why", desc := "(I)I" } : Jvm.MethodName) ({ cls := "SettlerColonyModel", name := "why", desc := "(I)I" } : Jvm.MethodName)) ∈ lw_all := lw_g (lw_at lw_m12 204 rfl) rfl
theorem q2969 : (Jvm.Cond.code ({ cls := "SettlerColonyModel", name := "why", desc := "(I)I" } : Jvm.MethodName) prog_36_method_89_code (2 : Nat) (Option.some Jvm.ClassFile.FieldType.int)) ∈ lw_all := lw_g (lw_at lw_m12 205 rfl) rfl
theorem q2971 : (Jvm.Cond.instanceMethod ({ cls := "SettlerColonyModel", name := "vote", desc := "(IIZ)I" } : Jvm.MethodName)) ∈ lw_all := lw_g (lw_at lw_m12 207 rfl) rfl
theorem q2972 : (Jvm.Cond.selects "SettlerColonyModel" ({ cls := "SettlerColonyModel", name := "vote", desc := "(IIZ)I" } : Jvm.MethodName) ({ cls := "SettlerColonyModel", name := "vote", desc := "(IIZ)I" } : Jvm.MethodName)) ∈ lw_all := lw_g (lw_at lw_m12 208 rfl) rfl
theorem q2973 : (Jvm.Cond.code ({ cls := "SettlerColonyModel", name := "vote", desc := "(IIZ)I" } : Jvm.MethodName) prog_36_method_91_code (5 : Nat) (Option.some Jvm.ClassFile.FieldType.int)) ∈ lw_all := lw_g (lw_at lw_m12 209 rfl) rfl
theorem q2974 : (Jvm.Cond.methodLink "SettlerColonyModel" (351 : Nat) ({ cls := "SettlerColonyModel", name := "isLaw", desc := "(I)Z" } : Jvm.MethodName)) ∈ lw_all := lw_g (lw_at lw_m12 210 rfl) rfl
theorem q2975 : (Jvm.Cond.privateMethod ({ cls := "SettlerColonyModel", name := "isLaw", desc := "(I)Z" } : Jvm.MethodName)) ∈ lw_tbl := lw_at lw_m12 211 rfl
theorem q2976 : (Jvm.Cond.instanceMethod ({ cls := "SettlerColonyModel", name := "isLaw", desc := "(I)Z" } : Jvm.MethodName)) ∈ lw_all := lw_g (lw_at lw_m12 212 rfl) rfl
theorem q2977 : (Jvm.Cond.code ({ cls := "SettlerColonyModel", name := "isLaw", desc := "(I)Z" } : Jvm.MethodName) prog_36_method_90_code (2 : Nat) (Option.some Jvm.ClassFile.FieldType.boolean)) ∈ lw_all := lw_g (lw_at lw_m12 213 rfl) rfl
theorem q2978 : (Jvm.Cond.methodLink "SettlerColonyModel" (354 : Nat) ({ cls := "SettlerColonyModel", name := "hasAcre", desc := "(I)Z" } : Jvm.MethodName)) ∈ lw_all := lw_g (lw_at lw_m12 214 rfl) rfl
theorem q2979 : (Jvm.Cond.privateMethod ({ cls := "SettlerColonyModel", name := "hasAcre", desc := "(I)Z" } : Jvm.MethodName)) ∈ lw_tbl := lw_at lw_m12 215 rfl
theorem q2980 : (Jvm.Cond.instanceMethod ({ cls := "SettlerColonyModel", name := "hasAcre", desc := "(I)Z" } : Jvm.MethodName)) ∈ lw_all := lw_g (lw_at lw_m12 216 rfl) rfl
theorem q2981 : (Jvm.Cond.code ({ cls := "SettlerColonyModel", name := "hasAcre", desc := "(I)Z" } : Jvm.MethodName) prog_36_method_53_code (3 : Nat) (Option.some Jvm.ClassFile.FieldType.boolean)) ∈ lw_all := lw_g (lw_at lw_m12 217 rfl) rfl
theorem q2983 : (Jvm.Cond.instanceMethod ({ cls := "SettlerColonyModel", name := "close", desc := "(I)I" } : Jvm.MethodName)) ∈ lw_all := lw_g (lw_at lw_m12 219 rfl) rfl
theorem q2984 : (Jvm.Cond.selects "SettlerColonyModel" ({ cls := "SettlerColonyModel", name := "close", desc := "(I)I" } : Jvm.MethodName) ({ cls := "SettlerColonyModel", name := "close", desc := "(I)I" } : Jvm.MethodName)) ∈ lw_all := lw_g (lw_at lw_m12 220 rfl) rfl
theorem q2985 : (Jvm.Cond.code ({ cls := "SettlerColonyModel", name := "close", desc := "(I)I" } : Jvm.MethodName) prog_36_method_92_code (4 : Nat) (Option.some Jvm.ClassFile.FieldType.int)) ∈ lw_all := lw_g (lw_at lw_m12 221 rfl) rfl
theorem q2987 : (Jvm.Cond.instanceMethod ({ cls := "SettlerColonyModel", name := "assent", desc := "(IZ)I" } : Jvm.MethodName)) ∈ lw_all := lw_g (lw_at lw_m12 223 rfl) rfl
theorem q2988 : (Jvm.Cond.selects "SettlerColonyModel" ({ cls := "SettlerColonyModel", name := "assent", desc := "(IZ)I" } : Jvm.MethodName) ({ cls := "SettlerColonyModel", name := "assent", desc := "(IZ)I" } : Jvm.MethodName)) ∈ lw_all := lw_g (lw_at lw_m12 224 rfl) rfl
theorem q2989 : (Jvm.Cond.code ({ cls := "SettlerColonyModel", name := "assent", desc := "(IZ)I" } : Jvm.MethodName) prog_36_method_93_code (3 : Nat) (Option.some Jvm.ClassFile.FieldType.int)) ∈ lw_all := lw_g (lw_at lw_m12 225 rfl) rfl
theorem q2991 : (Jvm.Cond.instanceMethod ({ cls := "SettlerColonyModel", name := "force", desc := "(I)I" } : Jvm.MethodName)) ∈ lw_all := lw_g (lw_at lw_m12 227 rfl) rfl
theorem q2992 : (Jvm.Cond.selects "SettlerColonyModel" ({ cls := "SettlerColonyModel", name := "force", desc := "(I)I" } : Jvm.MethodName) ({ cls := "SettlerColonyModel", name := "force", desc := "(I)I" } : Jvm.MethodName)) ∈ lw_all := lw_g (lw_at lw_m12 228 rfl) rfl
theorem q2993 : (Jvm.Cond.code ({ cls := "SettlerColonyModel", name := "force", desc := "(I)I" } : Jvm.MethodName) prog_36_method_94_code (2 : Nat) (Option.some Jvm.ClassFile.FieldType.int)) ∈ lw_all := lw_g (lw_at lw_m12 229 rfl) rfl
theorem q2995 : (Jvm.Cond.instanceMethod ({ cls := "SettlerColonyModel", name := "buy", desc := "(II)I" } : Jvm.MethodName)) ∈ lw_all := lw_g (lw_at lw_m12 231 rfl) rfl
theorem q2996 : (Jvm.Cond.selects "SettlerColonyModel" ({ cls := "SettlerColonyModel", name := "buy", desc := "(II)I" } : Jvm.MethodName) ({ cls := "SettlerColonyModel", name := "buy", desc := "(II)I" } : Jvm.MethodName)) ∈ lw_all := lw_g (lw_at lw_m12 232 rfl) rfl
theorem q2997 : (Jvm.Cond.code ({ cls := "SettlerColonyModel", name := "buy", desc := "(II)I" } : Jvm.MethodName) prog_36_method_98_code (3 : Nat) (Option.some Jvm.ClassFile.FieldType.int)) ∈ lw_all := lw_g (lw_at lw_m12 233 rfl) rfl
theorem q2998 : (Jvm.Cond.methodLink "SettlerColonyModel" (366 : Nat) ({ cls := "SettlerColonyModel", name := "isAsked", desc := "(II)Z" } : Jvm.MethodName)) ∈ lw_all := lw_g (lw_at lw_m12 234 rfl) rfl
theorem q2999 : (Jvm.Cond.privateMethod ({ cls := "SettlerColonyModel", name := "isAsked", desc := "(II)Z" } : Jvm.MethodName)) ∈ lw_tbl := lw_at lw_m12 235 rfl
theorem q3000 : (Jvm.Cond.instanceMethod ({ cls := "SettlerColonyModel", name := "isAsked", desc := "(II)Z" } : Jvm.MethodName)) ∈ lw_all := lw_g (lw_at lw_m12 236 rfl) rfl
theorem q3001 : (Jvm.Cond.code ({ cls := "SettlerColonyModel", name := "isAsked", desc := "(II)Z" } : Jvm.MethodName) prog_36_method_97_code (3 : Nat) (Option.some Jvm.ClassFile.FieldType.boolean)) ∈ lw_all := lw_g (lw_at lw_m12 237 rfl) rfl
theorem q3002 : (Jvm.Cond.methodLink "SettlerColonyModel" (370 : Nat) ({ cls := "SettlerColonyModel", name := "sells", desc := "(II)I" } : Jvm.MethodName)) ∈ lw_all := lw_g (lw_at lw_m12 238 rfl) rfl
theorem q3003 : (Jvm.Cond.privateMethod ({ cls := "SettlerColonyModel", name := "sells", desc := "(II)I" } : Jvm.MethodName)) ∈ lw_tbl := lw_at lw_m12 239 rfl
theorem q3004 : (Jvm.Cond.instanceMethod ({ cls := "SettlerColonyModel", name := "sells", desc := "(II)I" } : Jvm.MethodName)) ∈ lw_all := lw_g (lw_at lw_m13 0 rfl) rfl
theorem q3005 : (Jvm.Cond.code ({ cls := "SettlerColonyModel", name := "sells", desc := "(II)I" } : Jvm.MethodName) prog_36_method_96_code (6 : Nat) (Option.some Jvm.ClassFile.FieldType.int)) ∈ lw_all := lw_g (lw_at lw_m13 1 rfl) rfl
theorem q3006 : (Jvm.Cond.methodLink "SettlerColonyModel" (357 : Nat) ({ cls := "SettlerColonyModel", name := "pays", desc := "(II)V" } : Jvm.MethodName)) ∈ lw_all := lw_g (lw_at lw_m13 2 rfl) rfl
theorem q3007 : (Jvm.Cond.privateMethod ({ cls := "SettlerColonyModel", name := "pays", desc := "(II)V" } : Jvm.MethodName)) ∈ lw_tbl := lw_at lw_m13 3 rfl
theorem q3008 : (Jvm.Cond.instanceMethod ({ cls := "SettlerColonyModel", name := "pays", desc := "(II)V" } : Jvm.MethodName)) ∈ lw_all := lw_g (lw_at lw_m13 4 rfl) rfl
theorem q3009 : (Jvm.Cond.code ({ cls := "SettlerColonyModel", name := "pays", desc := "(II)V" } : Jvm.MethodName) prog_36_method_31_code (4 : Nat) (Option.none : Option Jvm.ClassFile.FieldType)) ∈ lw_all := lw_g (lw_at lw_m13 5 rfl) rfl
theorem q3010 : (Jvm.Cond.methodLink "SettlerColonyModel" (363 : Nat) ({ cls := "SettlerColonyModel", name := "owns", desc := "(I)V" } : Jvm.MethodName)) ∈ lw_all := lw_g (lw_at lw_m13 6 rfl) rfl
theorem q3011 : (Jvm.Cond.privateMethod ({ cls := "SettlerColonyModel", name := "owns", desc := "(I)V" } : Jvm.MethodName)) ∈ lw_tbl := lw_at lw_m13 7 rfl
theorem q3012 : (Jvm.Cond.instanceMethod ({ cls := "SettlerColonyModel", name := "owns", desc := "(I)V" } : Jvm.MethodName)) ∈ lw_all := lw_g (lw_at lw_m13 8 rfl) rfl
theorem q3013 : (Jvm.Cond.code ({ cls := "SettlerColonyModel", name := "owns", desc := "(I)V" } : Jvm.MethodName) prog_36_method_37_code (2 : Nat) (Option.none : Option Jvm.ClassFile.FieldType)) ∈ lw_all := lw_g (lw_at lw_m13 9 rfl) rfl
theorem q3015 : (Jvm.Cond.instanceMethod ({ cls := "SettlerColonyModel", name := "quoted", desc := "()I" } : Jvm.MethodName)) ∈ lw_all := lw_g (lw_at lw_m13 11 rfl) rfl
theorem q3016 : (Jvm.Cond.selects "SettlerColonyModel" ({ cls := "SettlerColonyModel", name := "quoted", desc := "()I" } : Jvm.MethodName) ({ cls := "SettlerColonyModel", name := "quoted", desc := "()I" } : Jvm.MethodName)) ∈ lw_all := lw_g (lw_at lw_m13 12 rfl) rfl
theorem q3017 : (Jvm.Cond.code ({ cls := "SettlerColonyModel", name := "quoted", desc := "()I" } : Jvm.MethodName) prog_36_method_101_code (1 : Nat) (Option.some Jvm.ClassFile.FieldType.int)) ∈ lw_all := lw_g (lw_at lw_m13 13 rfl) rfl
theorem q3018 : (Jvm.Cond.methodLink "SettlerColonyModel" (376 : Nat) ({ cls := "SettlerColonyModel", name := "homePrice", desc := "()I" } : Jvm.MethodName)) ∈ lw_all := lw_g (lw_at lw_m13 14 rfl) rfl
theorem q3019 : (Jvm.Cond.privateMethod ({ cls := "SettlerColonyModel", name := "homePrice", desc := "()I" } : Jvm.MethodName)) ∈ lw_tbl := lw_at lw_m13 15 rfl
theorem q3020 : (Jvm.Cond.instanceMethod ({ cls := "SettlerColonyModel", name := "homePrice", desc := "()I" } : Jvm.MethodName)) ∈ lw_all := lw_g (lw_at lw_m13 16 rfl) rfl
theorem q3021 : (Jvm.Cond.code ({ cls := "SettlerColonyModel", name := "homePrice", desc := "()I" } : Jvm.MethodName) prog_36_method_100_code (3 : Nat) (Option.some Jvm.ClassFile.FieldType.int)) ∈ lw_all := lw_g (lw_at lw_m13 17 rfl) rfl
theorem q3022 : (Jvm.Cond.methodLink "SettlerColonyModel" (373 : Nat) ({ cls := "SettlerColonyModel", name := "row", desc := "(II)I" } : Jvm.MethodName)) ∈ lw_all := lw_g (lw_at lw_m13 18 rfl) rfl
theorem q3023 : (Jvm.Cond.privateMethod ({ cls := "SettlerColonyModel", name := "row", desc := "(II)I" } : Jvm.MethodName)) ∈ lw_tbl := lw_at lw_m13 19 rfl
theorem q3024 : (Jvm.Cond.instanceMethod ({ cls := "SettlerColonyModel", name := "row", desc := "(II)I" } : Jvm.MethodName)) ∈ lw_all := lw_g (lw_at lw_m13 20 rfl) rfl
theorem q3025 : (Jvm.Cond.code ({ cls := "SettlerColonyModel", name := "row", desc := "(II)I" } : Jvm.MethodName) prog_36_method_119_code (3 : Nat) (Option.some Jvm.ClassFile.FieldType.int)) ∈ lw_all := lw_g (lw_at lw_m13 21 rfl) rfl
theorem q3027 : (Jvm.Cond.instanceMethod ({ cls := "SettlerColonyModel", name := "order", desc := "(I)I" } : Jvm.MethodName)) ∈ lw_all := lw_g (lw_at lw_m13 23 rfl) rfl
theorem q3028 : (Jvm.Cond.selects "SettlerColonyModel" ({ cls := "SettlerColonyModel", name := "order", desc := "(I)I" } : Jvm.MethodName) ({ cls := "SettlerColonyModel", name := "order", desc := "(I)I" } : Jvm.MethodName)) ∈ lw_all := lw_g (lw_at lw_m13 24 rfl) rfl
theorem q3029 : (Jvm.Cond.code ({ cls := "SettlerColonyModel", name := "order", desc := "(I)I" } : Jvm.MethodName) prog_36_method_102_code (4 : Nat) (Option.some Jvm.ClassFile.FieldType.int)) ∈ lw_all := lw_g (lw_at lw_m13 25 rfl) rfl
theorem q3031 : (Jvm.Cond.instanceMethod ({ cls := "SettlerColonyModel", name := "choose", desc := "(II)I" } : Jvm.MethodName)) ∈ lw_all := lw_g (lw_at lw_m13 27 rfl) rfl
theorem q3032 : (Jvm.Cond.selects "SettlerColonyModel" ({ cls := "SettlerColonyModel", name := "choose", desc := "(II)I" } : Jvm.MethodName) ({ cls := "SettlerColonyModel", name := "choose", desc := "(II)I" } : Jvm.MethodName)) ∈ lw_all := lw_g (lw_at lw_m13 28 rfl) rfl
theorem q3033 : (Jvm.Cond.code ({ cls := "SettlerColonyModel", name := "choose", desc := "(II)I" } : Jvm.MethodName) prog_36_method_104_code (4 : Nat) (Option.some Jvm.ClassFile.FieldType.int)) ∈ lw_all := lw_g (lw_at lw_m13 29 rfl) rfl
theorem q3034 : (Jvm.Cond.methodLink "SettlerColonyModel" (379 : Nat) ({ cls := "SettlerColonyModel", name := "isTurn", desc := "(I)Z" } : Jvm.MethodName)) ∈ lw_all := lw_g (lw_at lw_m13 30 rfl) rfl
theorem q3035 : (Jvm.Cond.privateMethod ({ cls := "SettlerColonyModel", name := "isTurn", desc := "(I)Z" } : Jvm.MethodName)) ∈ lw_tbl := lw_at lw_m13 31 rfl
theorem q3036 : (Jvm.Cond.instanceMethod ({ cls := "SettlerColonyModel", name := "isTurn", desc := "(I)Z" } : Jvm.MethodName)) ∈ lw_all := lw_g (lw_at lw_m13 32 rfl) rfl
theorem q3037 : (Jvm.Cond.code ({ cls := "SettlerColonyModel", name := "isTurn", desc := "(I)Z" } : Jvm.MethodName) prog_36_method_103_code (5 : Nat) (Option.some Jvm.ClassFile.FieldType.boolean)) ∈ lw_all := lw_g (lw_at lw_m13 33 rfl) rfl
theorem q3039 : (Jvm.Cond.instanceMethod ({ cls := "SettlerColonyModel", name := "run", desc := "(II)I" } : Jvm.MethodName)) ∈ lw_all := lw_g (lw_at lw_m13 35 rfl) rfl
theorem q3040 : (Jvm.Cond.selects "SettlerColonyModel" ({ cls := "SettlerColonyModel", name := "run", desc := "(II)I" } : Jvm.MethodName) ({ cls := "SettlerColonyModel", name := "run", desc := "(II)I" } : Jvm.MethodName)) ∈ lw_all := lw_g (lw_at lw_m13 36 rfl) rfl
theorem q3041 : (Jvm.Cond.code ({ cls := "SettlerColonyModel", name := "run", desc := "(II)I" } : Jvm.MethodName) prog_36_method_105_code (6 : Nat) (Option.some Jvm.ClassFile.FieldType.int)) ∈ lw_all := lw_g (lw_at lw_m13 37 rfl) rfl
theorem q3043 : (Jvm.Cond.instanceMethod ({ cls := "SettlerColonyModel", name := "squat", desc := "(II)I" } : Jvm.MethodName)) ∈ lw_all := lw_g (lw_at lw_m13 39 rfl) rfl
theorem q3044 : (Jvm.Cond.selects "SettlerColonyModel" ({ cls := "SettlerColonyModel", name := "squat", desc := "(II)I" } : Jvm.MethodName) ({ cls := "SettlerColonyModel", name := "squat", desc := "(II)I" } : Jvm.MethodName)) ∈ lw_all := lw_g (lw_at lw_m13 40 rfl) rfl
theorem q3045 : (Jvm.Cond.code ({ cls := "SettlerColonyModel", name := "squat", desc := "(II)I" } : Jvm.MethodName) prog_36_method_106_code (3 : Nat) (Option.some Jvm.ClassFile.FieldType.int)) ∈ lw_all := lw_g (lw_at lw_m13 41 rfl) rfl
theorem q3047 : (Jvm.Cond.instanceMethod ({ cls := "SettlerColonyModel", name := "stock", desc := "(III)I" } : Jvm.MethodName)) ∈ lw_all := lw_g (lw_at lw_m13 43 rfl) rfl
theorem q3048 : (Jvm.Cond.selects "SettlerColonyModel" ({ cls := "SettlerColonyModel", name := "stock", desc := "(III)I" } : Jvm.MethodName) ({ cls := "SettlerColonyModel", name := "stock", desc := "(III)I" } : Jvm.MethodName)) ∈ lw_all := lw_g (lw_at lw_m13 44 rfl) rfl
theorem q3049 : (Jvm.Cond.code ({ cls := "SettlerColonyModel", name := "stock", desc := "(III)I" } : Jvm.MethodName) prog_36_method_108_code (4 : Nat) (Option.some Jvm.ClassFile.FieldType.int)) ∈ lw_all := lw_g (lw_at lw_m13 45 rfl) rfl
theorem q3050 : (Jvm.Cond.methodLink "SettlerColonyModel" (382 : Nat) ({ cls := "SettlerColonyModel", name := "isOwnPasture", desc := "(II)Z" } : Jvm.MethodName)) ∈ lw_all := lw_g (lw_at lw_m13 46 rfl) rfl
theorem q3051 : (Jvm.Cond.privateMethod ({ cls := "SettlerColonyModel", name := "isOwnPasture", desc := "(II)Z" } : Jvm.MethodName)) ∈ lw_tbl := lw_at lw_m13 47 rfl
theorem q3052 : (Jvm.Cond.instanceMethod ({ cls := "SettlerColonyModel", name := "isOwnPasture", desc := "(II)Z" } : Jvm.MethodName)) ∈ lw_all := lw_g (lw_at lw_m13 48 rfl) rfl
theorem q3053 : (Jvm.Cond.code ({ cls := "SettlerColonyModel", name := "isOwnPasture", desc := "(II)Z" } : Jvm.MethodName) prog_36_method_107_code (3 : Nat) (Option.some Jvm.ClassFile.FieldType.boolean)) ∈ lw_all := lw_g (lw_at lw_m13 49 rfl) rfl
theorem q3055 : (Jvm.Cond.instanceMethod ({ cls := "SettlerColonyModel", name := "fence", desc := "(II)I" } : Jvm.MethodName)) ∈ lw_all := lw_g (lw_at lw_m13 51 rfl) rfl
theorem q3056 : (Jvm.Cond.selects "SettlerColonyModel" ({ cls := "SettlerColonyModel", name := "fence", desc := "(II)I" } : Jvm.MethodName) ({ cls := "SettlerColonyModel", name := "fence", desc := "(II)I" } : Jvm.MethodName)) ∈ lw_all := lw_g (lw_at lw_m13 52 rfl) rfl
theorem q3057 : (Jvm.Cond.code ({ cls := "SettlerColonyModel", name := "fence", desc := "(II)I" } : Jvm.MethodName) prog_36_method_109_code (4 : Nat) (Option.some Jvm.ClassFile.FieldType.int)) ∈ lw_all := lw_g (lw_at lw_m13 53 rfl) rfl
theorem q3059 : (Jvm.Cond.instanceMethod ({ cls := "SettlerColonyModel", name := "passages", desc := "()I" } : Jvm.MethodName)) ∈ lw_all := lw_g (lw_at lw_m13 55 rfl) rfl
theorem q3060 : (Jvm.Cond.selects "SettlerColonyModel" ({ cls := "SettlerColonyModel", name := "passages", desc := "()I" } : Jvm.MethodName) ({ cls := "SettlerColonyModel", name := "passages", desc := "()I" } : Jvm.MethodName)) ∈ lw_all := lw_g (lw_at lw_m13 56 rfl) rfl
theorem q3061 : (Jvm.Cond.code ({ cls := "SettlerColonyModel", name := "passages", desc := "()I" } : Jvm.MethodName) prog_36_method_111_code (1 : Nat) (Option.some Jvm.ClassFile.FieldType.int)) ∈ lw_all := lw_g (lw_at lw_m13 57 rfl) rfl
theorem q3062 : (Jvm.Cond.methodLink "SettlerColonyModel" (385 : Nat) ({ cls := "SettlerColonyModel", name := "homePassages", desc := "()I" } : Jvm.MethodName)) ∈ lw_all := lw_g (lw_at lw_m13 58 rfl) rfl
theorem q3063 : (Jvm.Cond.privateMethod ({ cls := "SettlerColonyModel", name := "homePassages", desc := "()I" } : Jvm.MethodName)) ∈ lw_tbl := lw_at lw_m13 59 rfl
theorem q3064 : (Jvm.Cond.instanceMethod ({ cls := "SettlerColonyModel", name := "homePassages", desc := "()I" } : Jvm.MethodName)) ∈ lw_all := lw_g (lw_at lw_m13 60 rfl) rfl
theorem q3065 : (Jvm.Cond.code ({ cls := "SettlerColonyModel", name := "homePassages", desc := "()I" } : Jvm.MethodName) prog_36_method_110_code (2 : Nat) (Option.some Jvm.ClassFile.FieldType.int)) ∈ lw_all := lw_g (lw_at lw_m13 61 rfl) rfl
theorem q3067 : (Jvm.Cond.instanceMethod ({ cls := "SettlerColonyModel", name := "ship", desc := "(IIII)I" } : Jvm.MethodName)) ∈ lw_all := lw_g (lw_at lw_m13 63 rfl) rfl
theorem q3068 : (Jvm.Cond.selects "SettlerColonyModel" ({ cls := "SettlerColonyModel", name := "ship", desc := "(IIII)I" } : Jvm.MethodName) ({ cls := "SettlerColonyModel", name := "ship", desc := "(IIII)I" } : Jvm.MethodName)) ∈ lw_all := lw_g (lw_at lw_m13 64 rfl) rfl
theorem q3069 : (Jvm.Cond.code ({ cls := "SettlerColonyModel", name := "ship", desc := "(IIII)I" } : Jvm.MethodName) prog_36_method_112_code (10 : Nat) (Option.some Jvm.ClassFile.FieldType.int)) ∈ lw_all := lw_g (lw_at lw_m13 65 rfl) rfl
theorem q3070 : (Jvm.Cond.constantLong "SettlerColonyModel" (388 : Nat) (10 : Int64)) ∈ lw_all := lw_g (lw_at lw_m13 66 rfl) rfl
theorem q3072 : (Jvm.Cond.instanceMethod ({ cls := "SettlerColonyModel", name := "fund", desc := "(I)I" } : Jvm.MethodName)) ∈ lw_all := lw_g (lw_at lw_m13 68 rfl) rfl
theorem q3073 : (Jvm.Cond.selects "SettlerColonyModel" ({ cls := "SettlerColonyModel", name := "fund", desc := "(I)I" } : Jvm.MethodName) ({ cls := "SettlerColonyModel", name := "fund", desc := "(I)I" } : Jvm.MethodName)) ∈ lw_all := lw_g (lw_at lw_m13 69 rfl) rfl
theorem q3074 : (Jvm.Cond.code ({ cls := "SettlerColonyModel", name := "fund", desc := "(I)I" } : Jvm.MethodName) prog_36_method_113_code (2 : Nat) (Option.some Jvm.ClassFile.FieldType.int)) ∈ lw_all := lw_g (lw_at lw_m13 70 rfl) rfl
theorem q3076 : (Jvm.Cond.instanceMethod ({ cls := "SettlerColonyModel", name := "bill", desc := "(I)I" } : Jvm.MethodName)) ∈ lw_all := lw_g (lw_at lw_m13 72 rfl) rfl
theorem q3077 : (Jvm.Cond.selects "SettlerColonyModel" ({ cls := "SettlerColonyModel", name := "bill", desc := "(I)I" } : Jvm.MethodName) ({ cls := "SettlerColonyModel", name := "bill", desc := "(I)I" } : Jvm.MethodName)) ∈ lw_all := lw_g (lw_at lw_m13 73 rfl) rfl
theorem q3078 : (Jvm.Cond.code ({ cls := "SettlerColonyModel", name := "bill", desc := "(I)I" } : Jvm.MethodName) prog_36_method_114_code (3 : Nat) (Option.some Jvm.ClassFile.FieldType.int)) ∈ lw_all := lw_g (lw_at lw_m13 74 rfl) rfl
theorem q3080 : (Jvm.Cond.instanceMethod ({ cls := "SettlerColonyModel", name := "pass", desc := "(I)I" } : Jvm.MethodName)) ∈ lw_all := lw_g (lw_at lw_m13 76 rfl) rfl
theorem q3081 : (Jvm.Cond.selects "SettlerColonyModel" ({ cls := "SettlerColonyModel", name := "pass", desc := "(I)I" } : Jvm.MethodName) ({ cls := "SettlerColonyModel", name := "pass", desc := "(I)I" } : Jvm.MethodName)) ∈ lw_all := lw_g (lw_at lw_m13 77 rfl) rfl
theorem q3082 : (Jvm.Cond.code ({ cls := "SettlerColonyModel", name := "pass", desc := "(I)I" } : Jvm.MethodName) prog_36_method_116_code (3 : Nat) (Option.some Jvm.ClassFile.FieldType.int)) ∈ lw_all := lw_g (lw_at lw_m13 78 rfl) rfl
theorem q3083 : (Jvm.Cond.methodLink "SettlerColonyModel" (390 : Nat) ({ cls := "SettlerColonyModel", name := "isBill", desc := "(I)Z" } : Jvm.MethodName)) ∈ lw_all := lw_g (lw_at lw_m13 79 rfl) rfl
theorem q3084 : (Jvm.Cond.privateMethod ({ cls := "SettlerColonyModel", name := "isBill", desc := "(I)Z" } : Jvm.MethodName)) ∈ lw_tbl := lw_at lw_m13 80 rfl
theorem q3085 : (Jvm.Cond.instanceMethod ({ cls := "SettlerColonyModel", name := "isBill", desc := "(I)Z" } : Jvm.MethodName)) ∈ lw_all := lw_g (lw_at lw_m13 81 rfl) rfl
theorem q3086 : (Jvm.Cond.code ({ cls := "SettlerColonyModel", name := "isBill", desc := "(I)Z" } : Jvm.MethodName) prog_36_method_115_code (2 : Nat) (Option.some Jvm.ClassFile.FieldType.boolean)) ∈ lw_all := lw_g (lw_at lw_m13 82 rfl) rfl
theorem q3088 : (Jvm.Cond.instanceMethod ({ cls := "SettlerColonyModel", name := "billed", desc := "(I)I" } : Jvm.MethodName)) ∈ lw_all := lw_g (lw_at lw_m13 84 rfl) rfl
theorem q3089 : (Jvm.Cond.selects "SettlerColonyModel" ({ cls := "SettlerColonyModel", name := "billed", desc := "(I)I" } : Jvm.MethodName) ({ cls := "SettlerColonyModel", name := "billed", desc := "(I)I" } : Jvm.MethodName)) ∈ lw_all := lw_g (lw_at lw_m13 85 rfl) rfl
theorem q3090 : (Jvm.Cond.code ({ cls := "SettlerColonyModel", name := "billed", desc := "(I)I" } : Jvm.MethodName) prog_36_method_117_code (2 : Nat) (Option.some Jvm.ClassFile.FieldType.int)) ∈ lw_all := lw_g (lw_at lw_m13 86 rfl) rfl
theorem q3092 : (Jvm.Cond.instanceMethod ({ cls := "SettlerColonyModel", name := "week", desc := "(I)I" } : Jvm.MethodName)) ∈ lw_all := lw_g (lw_at lw_m13 88 rfl) rfl
theorem q3093 : (Jvm.Cond.selects "SettlerColonyModel" ({ cls := "SettlerColonyModel", name := "week", desc := "(I)I" } : Jvm.MethodName) ({ cls := "SettlerColonyModel", name := "week", desc := "(I)I" } : Jvm.MethodName)) ∈ lw_all := lw_g (lw_at lw_m13 89 rfl) rfl
theorem q3094 : (Jvm.Cond.code ({ cls := "SettlerColonyModel", name := "week", desc := "(I)I" } : Jvm.MethodName) prog_36_method_130_code (3 : Nat) (Option.some Jvm.ClassFile.FieldType.int)) ∈ lw_all := lw_g (lw_at lw_m13 90 rfl) rfl
theorem q3095 : (Jvm.Cond.methodLink "SettlerColonyModel" (426 : Nat) ({ cls := "SettlerColonyModel", name := "goes", desc := "()V" } : Jvm.MethodName)) ∈ lw_all := lw_g (lw_at lw_m13 91 rfl) rfl
theorem q3096 : (Jvm.Cond.privateMethod ({ cls := "SettlerColonyModel", name := "goes", desc := "()V" } : Jvm.MethodName)) ∈ lw_tbl := lw_at lw_m13 92 rfl
theorem q3097 : (Jvm.Cond.instanceMethod ({ cls := "SettlerColonyModel", name := "goes", desc := "()V" } : Jvm.MethodName)) ∈ lw_all := lw_g (lw_at lw_m13 93 rfl) rfl
theorem q3098 : (Jvm.Cond.code ({ cls := "SettlerColonyModel", name := "goes", desc := "()V" } : Jvm.MethodName) prog_36_method_129_code (2 : Nat) (Option.none : Option Jvm.ClassFile.FieldType)) ∈ lw_all := lw_g (lw_at lw_m13 94 rfl) rfl
theorem q3099 : (Jvm.Cond.methodLink "SettlerColonyModel" (411 : Nat) ({ cls := "SettlerColonyModel", name := "lands", desc := "()V" } : Jvm.MethodName)) ∈ lw_all := lw_g (lw_at lw_m13 95 rfl) rfl
theorem q3100 : (Jvm.Cond.privateMethod ({ cls := "SettlerColonyModel", name := "lands", desc := "()V" } : Jvm.MethodName)) ∈ lw_tbl := lw_at lw_m13 96 rfl
theorem q3101 : (Jvm.Cond.instanceMethod ({ cls := "SettlerColonyModel", name := "lands", desc := "()V" } : Jvm.MethodName)) ∈ lw_all := lw_g (lw_at lw_m13 97 rfl) rfl
theorem q3102 : (Jvm.Cond.code ({ cls := "SettlerColonyModel", name := "lands", desc := "()V" } : Jvm.MethodName) prog_36_method_120_code (2 : Nat) (Option.none : Option Jvm.ClassFile.FieldType)) ∈ lw_all := lw_g (lw_at lw_m13 98 rfl) rfl
theorem q3103 : (Jvm.Cond.methodLink "SettlerColonyModel" (414 : Nat) ({ cls := "SettlerColonyModel", name := "letters", desc := "()V" } : Jvm.MethodName)) ∈ lw_all := lw_g (lw_at lw_m13 99 rfl) rfl
theorem q3104 : (Jvm.Cond.privateMethod ({ cls := "SettlerColonyModel", name := "letters", desc := "()V" } : Jvm.MethodName)) ∈ lw_tbl := lw_at lw_m13 100 rfl
theorem q3105 : (Jvm.Cond.instanceMethod ({ cls := "SettlerColonyModel", name := "letters", desc := "()V" } : Jvm.MethodName)) ∈ lw_all := lw_g (lw_at lw_m13 101 rfl) rfl
theorem q3106 : (Jvm.Cond.code ({ cls := "SettlerColonyModel", name := "letters", desc := "()V" } : Jvm.MethodName) prog_36_method_121_code (2 : Nat) (Option.none : Option Jvm.ClassFile.FieldType)) ∈ lw_all := lw_g (lw_at lw_m13 102 rfl) rfl
theorem q3107 : (Jvm.Cond.methodLink "SettlerColonyModel" (393 : Nat) ({ cls := "SettlerColonyModel", name := "undoes", desc := "(I)V" } : Jvm.MethodName)) ∈ lw_all := lw_g (lw_at lw_m13 103 rfl) rfl
theorem q3108 : (Jvm.Cond.privateMethod ({ cls := "SettlerColonyModel", name := "undoes", desc := "(I)V" } : Jvm.MethodName)) ∈ lw_tbl := lw_at lw_m13 104 rfl
theorem q3109 : (Jvm.Cond.instanceMethod ({ cls := "SettlerColonyModel", name := "undoes", desc := "(I)V" } : Jvm.MethodName)) ∈ lw_all := lw_g (lw_at lw_m13 105 rfl) rfl
theorem q3110 : (Jvm.Cond.code ({ cls := "SettlerColonyModel", name := "undoes", desc := "(I)V" } : Jvm.MethodName) prog_36_method_95_code (5 : Nat) (Option.none : Option Jvm.ClassFile.FieldType)) ∈ lw_all := lw_g (lw_at lw_m13 106 rfl) rfl
theorem q3111 : (Jvm.Cond.methodLink "SettlerColonyModel" (360 : Nat) ({ cls := "SettlerColonyModel", name := "loses", desc := "(I)V" } : Jvm.MethodName)) ∈ lw_all := lw_g (lw_at lw_m13 107 rfl) rfl
theorem q3112 : (Jvm.Cond.privateMethod ({ cls := "SettlerColonyModel", name := "loses", desc := "(I)V" } : Jvm.MethodName)) ∈ lw_tbl := lw_at lw_m13 108 rfl
theorem q3113 : (Jvm.Cond.instanceMethod ({ cls := "SettlerColonyModel", name := "loses", desc := "(I)V" } : Jvm.MethodName)) ∈ lw_all := lw_g (lw_at lw_m13 109 rfl) rfl
theorem q3114 : (Jvm.Cond.code ({ cls := "SettlerColonyModel", name := "loses", desc := "(I)V" } : Jvm.MethodName) prog_36_method_38_code (3 : Nat) (Option.none : Option Jvm.ClassFile.FieldType)) ∈ lw_all := lw_g (lw_at lw_m13 110 rfl) rfl
theorem q3115 : (Jvm.Cond.methodLink "SettlerColonyModel" (396 : Nat) ({ cls := "SettlerColonyModel", name := "reads", desc := "(I)V" } : Jvm.MethodName)) ∈ lw_all := lw_g (lw_at lw_m13 111 rfl) rfl
theorem q3116 : (Jvm.Cond.privateMethod ({ cls := "SettlerColonyModel", name := "reads", desc := "(I)V" } : Jvm.MethodName)) ∈ lw_tbl := lw_at lw_m13 112 rfl
theorem q3117 : (Jvm.Cond.instanceMethod ({ cls := "SettlerColonyModel", name := "reads", desc := "(I)V" } : Jvm.MethodName)) ∈ lw_all := lw_g (lw_at lw_m13 113 rfl) rfl
theorem q3118 : (Jvm.Cond.code ({ cls := "SettlerColonyModel", name := "reads", desc := "(I)V" } : Jvm.MethodName) prog_36_method_118_code (4 : Nat) (Option.none : Option Jvm.ClassFile.FieldType)) ∈ lw_all := lw_g (lw_at lw_m13 114 rfl) rfl
theorem q3119 : (Jvm.Cond.methodLink "SettlerColonyModel" (417 : Nat) ({ cls := "SettlerColonyModel", name := "lives", desc := "(I)V" } : Jvm.MethodName)) ∈ lw_all := lw_g (lw_at lw_m13 115 rfl) rfl
theorem q3120 : (Jvm.Cond.privateMethod ({ cls := "SettlerColonyModel", name := "lives", desc := "(I)V" } : Jvm.MethodName)) ∈ lw_tbl := lw_at lw_m13 116 rfl
theorem q3121 : (Jvm.Cond.instanceMethod ({ cls := "SettlerColonyModel", name := "lives", desc := "(I)V" } : Jvm.MethodName)) ∈ lw_all := lw_g (lw_at lw_m13 117 rfl) rfl
theorem q3122 : (Jvm.Cond.code ({ cls := "SettlerColonyModel", name := "lives", desc := "(I)V" } : Jvm.MethodName) prog_36_method_123_code (4 : Nat) (Option.none : Option Jvm.ClassFile.FieldType)) ∈ lw_all := lw_g (lw_at lw_m13 118 rfl) rfl
theorem q3123 : (Jvm.Cond.methodLink "SettlerColonyModel" (399 : Nat) ({ cls := "SettlerColonyModel", name := "bestLot", desc := "()I" } : Jvm.MethodName)) ∈ lw_all := lw_g (lw_at lw_m13 119 rfl) rfl
theorem q3124 : (Jvm.Cond.privateMethod ({ cls := "SettlerColonyModel", name := "bestLot", desc := "()I" } : Jvm.MethodName)) ∈ lw_tbl := lw_at lw_m13 120 rfl
theorem q3125 : (Jvm.Cond.instanceMethod ({ cls := "SettlerColonyModel", name := "bestLot", desc := "()I" } : Jvm.MethodName)) ∈ lw_all := lw_g (lw_at lw_m13 121 rfl) rfl
theorem q3126 : (Jvm.Cond.code ({ cls := "SettlerColonyModel", name := "bestLot", desc := "()I" } : Jvm.MethodName) prog_36_method_122_code (3 : Nat) (Option.some Jvm.ClassFile.FieldType.int)) ∈ lw_all := lw_g (lw_at lw_m13 122 rfl) rfl
theorem q3127 : (Jvm.Cond.methodLink "SettlerColonyModel" (402 : Nat) ({ cls := "SettlerColonyModel", name := "seeks", desc := "(II)V" } : Jvm.MethodName)) ∈ lw_all := lw_g (lw_at lw_m13 123 rfl) rfl
theorem q3128 : (Jvm.Cond.privateMethod ({ cls := "SettlerColonyModel", name := "seeks", desc := "(II)V" } : Jvm.MethodName)) ∈ lw_tbl := lw_at lw_m13 124 rfl
theorem q3129 : (Jvm.Cond.instanceMethod ({ cls := "SettlerColonyModel", name := "seeks", desc := "(II)V" } : Jvm.MethodName)) ∈ lw_all := lw_g (lw_at lw_m13 125 rfl) rfl
theorem q3130 : (Jvm.Cond.code ({ cls := "SettlerColonyModel", name := "seeks", desc := "(II)V" } : Jvm.MethodName) prog_36_method_124_code (7 : Nat) (Option.none : Option Jvm.ClassFile.FieldType)) ∈ lw_all := lw_g (lw_at lw_m13 126 rfl) rfl
theorem q3131 : (Jvm.Cond.methodLink "SettlerColonyModel" (420 : Nat) ({ cls := "SettlerColonyModel", name := "strays", desc := "(I)V" } : Jvm.MethodName)) ∈ lw_all := lw_g (lw_at lw_m13 127 rfl) rfl
theorem q3132 : (Jvm.Cond.privateMethod ({ cls := "SettlerColonyModel", name := "strays", desc := "(I)V" } : Jvm.MethodName)) ∈ lw_tbl := lw_at lw_m13 128 rfl
theorem q3133 : (Jvm.Cond.instanceMethod ({ cls := "SettlerColonyModel", name := "strays", desc := "(I)V" } : Jvm.MethodName)) ∈ lw_all := lw_g (lw_at lw_m13 129 rfl) rfl
theorem q3134 : (Jvm.Cond.code ({ cls := "SettlerColonyModel", name := "strays", desc := "(I)V" } : Jvm.MethodName) prog_36_method_126_code (7 : Nat) (Option.none : Option Jvm.ClassFile.FieldType)) ∈ lw_all := lw_g (lw_at lw_m13 130 rfl) rfl
theorem q3135 : (Jvm.Cond.methodLink "SettlerColonyModel" (405 : Nat) ({ cls := "SettlerColonyModel", name := "beside", desc := "(II)I" } : Jvm.MethodName)) ∈ lw_all := lw_g (lw_at lw_m13 131 rfl) rfl
theorem q3136 : (Jvm.Cond.static ({ cls := "SettlerColonyModel", name := "beside", desc := "(II)I" } : Jvm.MethodName)) ∈ lw_all := lw_g (lw_at lw_m13 132 rfl) rfl
theorem q3137 : (Jvm.Cond.code ({ cls := "SettlerColonyModel", name := "beside", desc := "(II)I" } : Jvm.MethodName) prog_36_method_125_code (3 : Nat) (Option.some Jvm.ClassFile.FieldType.int)) ∈ lw_all := lw_g (lw_at lw_m13 133 rfl) rfl
theorem q3138 : (Jvm.Cond.methodLink "SettlerColonyModel" (423 : Nat) ({ cls := "SettlerColonyModel", name := "yearEnds", desc := "()V" } : Jvm.MethodName)) ∈ lw_all := lw_g (lw_at lw_m13 134 rfl) rfl
theorem q3139 : (Jvm.Cond.privateMethod ({ cls := "SettlerColonyModel", name := "yearEnds", desc := "()V" } : Jvm.MethodName)) ∈ lw_tbl := lw_at lw_m13 135 rfl
theorem q3140 : (Jvm.Cond.instanceMethod ({ cls := "SettlerColonyModel", name := "yearEnds", desc := "()V" } : Jvm.MethodName)) ∈ lw_all := lw_g (lw_at lw_m13 136 rfl) rfl
theorem q3141 : (Jvm.Cond.code ({ cls := "SettlerColonyModel", name := "yearEnds", desc := "()V" } : Jvm.MethodName) prog_36_method_128_code (4 : Nat) (Option.none : Option Jvm.ClassFile.FieldType)) ∈ lw_all := lw_g (lw_at lw_m13 137 rfl) rfl
theorem q3142 : (Jvm.Cond.methodLink "SettlerColonyModel" (408 : Nat) ({ cls := "SettlerColonyModel", name := "bandOf", desc := "(I)I" } : Jvm.MethodName)) ∈ lw_all := lw_g (lw_at lw_m13 138 rfl) rfl
theorem q3143 : (Jvm.Cond.static ({ cls := "SettlerColonyModel", name := "bandOf", desc := "(I)I" } : Jvm.MethodName)) ∈ lw_all := lw_g (lw_at lw_m13 139 rfl) rfl
theorem q3144 : (Jvm.Cond.code ({ cls := "SettlerColonyModel", name := "bandOf", desc := "(I)I" } : Jvm.MethodName) prog_36_method_127_code (1 : Nat) (Option.some Jvm.ClassFile.FieldType.int)) ∈ lw_all := lw_g (lw_at lw_m13 140 rfl) rfl
theorem q3146 : (Jvm.Cond.instanceMethod ({ cls := "SettlerColonyModel", name := "as", desc := "(III)I" } : Jvm.MethodName)) ∈ lw_all := lw_g (lw_at lw_m13 142 rfl) rfl
theorem q3147 : (Jvm.Cond.selects "SettlerColonyModel" ({ cls := "SettlerColonyModel", name := "as", desc := "(III)I" } : Jvm.MethodName) ({ cls := "SettlerColonyModel", name := "as", desc := "(III)I" } : Jvm.MethodName)) ∈ lw_all := lw_g (lw_at lw_m13 143 rfl) rfl
theorem q3148 : (Jvm.Cond.code ({ cls := "SettlerColonyModel", name := "as", desc := "(III)I" } : Jvm.MethodName) prog_36_method_131_code (4 : Nat) (Option.some Jvm.ClassFile.FieldType.int)) ∈ lw_all := lw_g (lw_at lw_m13 144 rfl) rfl
theorem q3149 : (Jvm.Cond.methodLink "SettlerColonyModel" (429 : Nat) ({ cls := "SettlerColonyModel", name := "isKnown", desc := "(I)Z" } : Jvm.MethodName)) ∈ lw_all := lw_g (lw_at lw_m13 145 rfl) rfl
theorem q3150 : (Jvm.Cond.privateMethod ({ cls := "SettlerColonyModel", name := "isKnown", desc := "(I)Z" } : Jvm.MethodName)) ∈ lw_tbl := lw_at lw_m13 146 rfl
theorem q3151 : (Jvm.Cond.instanceMethod ({ cls := "SettlerColonyModel", name := "isKnown", desc := "(I)Z" } : Jvm.MethodName)) ∈ lw_all := lw_g (lw_at lw_m13 147 rfl) rfl
theorem q3152 : (Jvm.Cond.code ({ cls := "SettlerColonyModel", name := "isKnown", desc := "(I)Z" } : Jvm.MethodName) prog_36_method_99_code (2 : Nat) (Option.some Jvm.ClassFile.FieldType.boolean)) ∈ lw_all := lw_g (lw_at lw_m13 148 rfl) rfl
theorem q3153 : (Jvm.Cond.constant "SettlerColonyModel" (432 : Nat) (-2000000000 : Int32)) ∈ lw_all := lw_g (lw_at lw_m13 149 rfl) rfl
theorem q3155 : (Jvm.Cond.instanceMethod ({ cls := "SettlerColonyModel", name := "tried", desc := "(IIII)I" } : Jvm.MethodName)) ∈ lw_all := lw_g (lw_at lw_m13 151 rfl) rfl
theorem q3156 : (Jvm.Cond.selects "SettlerColonyModel" ({ cls := "SettlerColonyModel", name := "tried", desc := "(IIII)I" } : Jvm.MethodName) ({ cls := "SettlerColonyModel", name := "tried", desc := "(IIII)I" } : Jvm.MethodName)) ∈ lw_all := lw_g (lw_at lw_m13 152 rfl) rfl
theorem q3157 : (Jvm.Cond.code ({ cls := "SettlerColonyModel", name := "tried", desc := "(IIII)I" } : Jvm.MethodName) prog_36_method_133_code (6 : Nat) (Option.some Jvm.ClassFile.FieldType.int)) ∈ lw_all := lw_g (lw_at lw_m13 153 rfl) rfl
theorem q3158 : (Jvm.Cond.methodLink "SettlerColonyModel" (433 : Nat) ({ cls := "SettlerColonyModel", name := "told", desc := "(I)I" } : Jvm.MethodName)) ∈ lw_all := lw_g (lw_at lw_m13 154 rfl) rfl
theorem q3159 : (Jvm.Cond.privateMethod ({ cls := "SettlerColonyModel", name := "told", desc := "(I)I" } : Jvm.MethodName)) ∈ lw_tbl := lw_at lw_m13 155 rfl
theorem q3160 : (Jvm.Cond.instanceMethod ({ cls := "SettlerColonyModel", name := "told", desc := "(I)I" } : Jvm.MethodName)) ∈ lw_all := lw_g (lw_at lw_m13 156 rfl) rfl
theorem q3161 : (Jvm.Cond.code ({ cls := "SettlerColonyModel", name := "told", desc := "(I)I" } : Jvm.MethodName) prog_36_method_132_code (4 : Nat) (Option.some Jvm.ClassFile.FieldType.int)) ∈ lw_all := lw_g (lw_at lw_m13 157 rfl) rfl
theorem q3163 : (Jvm.Cond.instanceMethod ({ cls := "SettlerColonyModel", name := "prices", desc := "(III)V" } : Jvm.MethodName)) ∈ lw_all := lw_g (lw_at lw_m13 159 rfl) rfl
theorem q3164 : (Jvm.Cond.selects "SettlerColonyModel" ({ cls := "SettlerColonyModel", name := "prices", desc := "(III)V" } : Jvm.MethodName) ({ cls := "SettlerColonyModel", name := "prices", desc := "(III)V" } : Jvm.MethodName)) ∈ lw_all := lw_g (lw_at lw_m13 160 rfl) rfl
theorem q3165 : (Jvm.Cond.code ({ cls := "SettlerColonyModel", name := "prices", desc := "(III)V" } : Jvm.MethodName) prog_36_method_134_code (4 : Nat) (Option.none : Option Jvm.ClassFile.FieldType)) ∈ lw_all := lw_g (lw_at lw_m13 161 rfl) rfl
theorem q3167 : (Jvm.Cond.instanceMethod ({ cls := "SettlerColonyModel", name := "worst", desc := "(IIII)V" } : Jvm.MethodName)) ∈ lw_all := lw_g (lw_at lw_m13 163 rfl) rfl
theorem q3168 : (Jvm.Cond.selects "SettlerColonyModel" ({ cls := "SettlerColonyModel", name := "worst", desc := "(IIII)V" } : Jvm.MethodName) ({ cls := "SettlerColonyModel", name := "worst", desc := "(IIII)V" } : Jvm.MethodName)) ∈ lw_all := lw_g (lw_at lw_m13 164 rfl) rfl
theorem q3169 : (Jvm.Cond.code ({ cls := "SettlerColonyModel", name := "worst", desc := "(IIII)V" } : Jvm.MethodName) prog_36_method_136_code (5 : Nat) (Option.none : Option Jvm.ClassFile.FieldType)) ∈ lw_all := lw_g (lw_at lw_m13 165 rfl) rfl
theorem q3170 : (Jvm.Cond.methodLink "SettlerColonyModel" (440 : Nat) ({ cls := "SettlerColonyModel", name := "isRain", desc := "(I)Z" } : Jvm.MethodName)) ∈ lw_all := lw_g (lw_at lw_m13 166 rfl) rfl
theorem q3171 : (Jvm.Cond.static ({ cls := "SettlerColonyModel", name := "isRain", desc := "(I)Z" } : Jvm.MethodName)) ∈ lw_all := lw_g (lw_at lw_m13 167 rfl) rfl
theorem q3172 : (Jvm.Cond.code ({ cls := "SettlerColonyModel", name := "isRain", desc := "(I)Z" } : Jvm.MethodName) prog_36_method_135_code (1 : Nat) (Option.some Jvm.ClassFile.FieldType.boolean)) ∈ lw_all := lw_g (lw_at lw_m13 168 rfl) rfl
theorem q3174 : (Jvm.Cond.instanceMethod ({ cls := "SettlerColonyModel", name := "planned", desc := "(II)I" } : Jvm.MethodName)) ∈ lw_all := lw_g (lw_at lw_m13 170 rfl) rfl
theorem q3175 : (Jvm.Cond.selects "SettlerColonyModel" ({ cls := "SettlerColonyModel", name := "planned", desc := "(II)I" } : Jvm.MethodName) ({ cls := "SettlerColonyModel", name := "planned", desc := "(II)I" } : Jvm.MethodName)) ∈ lw_all := lw_g (lw_at lw_m13 171 rfl) rfl
theorem q3176 : (Jvm.Cond.code ({ cls := "SettlerColonyModel", name := "planned", desc := "(II)I" } : Jvm.MethodName) prog_36_method_137_code (12 : Nat) (Option.some Jvm.ClassFile.FieldType.int)) ∈ lw_all := lw_g (lw_at lw_m13 172 rfl) rfl
theorem q3178 : (Jvm.Cond.instanceMethod ({ cls := "SettlerColonyModel", name := "image", desc := "()I" } : Jvm.MethodName)) ∈ lw_all := lw_g (lw_at lw_m13 174 rfl) rfl
theorem q3179 : (Jvm.Cond.selects "SettlerColonyModel" ({ cls := "SettlerColonyModel", name := "image", desc := "()I" } : Jvm.MethodName) ({ cls := "SettlerColonyModel", name := "image", desc := "()I" } : Jvm.MethodName)) ∈ lw_all := lw_g (lw_at lw_m13 175 rfl) rfl
theorem q3180 : (Jvm.Cond.code ({ cls := "SettlerColonyModel", name := "image", desc := "()I" } : Jvm.MethodName) prog_36_method_138_code (2 : Nat) (Option.some Jvm.ClassFile.FieldType.int)) ∈ lw_all := lw_g (lw_at lw_m13 176 rfl) rfl
theorem q3182 : (Jvm.Cond.instanceMethod ({ cls := "SettlerColonyModel", name := "number", desc := "(I)I" } : Jvm.MethodName)) ∈ lw_all := lw_g (lw_at lw_m13 178 rfl) rfl
theorem q3183 : (Jvm.Cond.selects "SettlerColonyModel" ({ cls := "SettlerColonyModel", name := "number", desc := "(I)I" } : Jvm.MethodName) ({ cls := "SettlerColonyModel", name := "number", desc := "(I)I" } : Jvm.MethodName)) ∈ lw_all := lw_g (lw_at lw_m13 179 rfl) rfl
theorem q3184 : (Jvm.Cond.code ({ cls := "SettlerColonyModel", name := "number", desc := "(I)I" } : Jvm.MethodName) prog_36_method_139_code (2 : Nat) (Option.some Jvm.ClassFile.FieldType.int)) ∈ lw_all := lw_g (lw_at lw_m13 180 rfl) rfl
theorem q3186 : (Jvm.Cond.instanceMethod ({ cls := "SettlerColonyModel", name := "tear", desc := "(II)I" } : Jvm.MethodName)) ∈ lw_all := lw_g (lw_at lw_m13 182 rfl) rfl
theorem q3187 : (Jvm.Cond.selects "SettlerColonyModel" ({ cls := "SettlerColonyModel", name := "tear", desc := "(II)I" } : Jvm.MethodName) ({ cls := "SettlerColonyModel", name := "tear", desc := "(II)I" } : Jvm.MethodName)) ∈ lw_all := lw_g (lw_at lw_m13 183 rfl) rfl
theorem q3188 : (Jvm.Cond.code ({ cls := "SettlerColonyModel", name := "tear", desc := "(II)I" } : Jvm.MethodName) prog_36_method_140_code (3 : Nat) (Option.some Jvm.ClassFile.FieldType.int)) ∈ lw_all := lw_g (lw_at lw_m13 184 rfl) rfl
theorem q3190 : (Jvm.Cond.instanceMethod ({ cls := "SettlerColonyModel", name := "check", desc := "()I" } : Jvm.MethodName)) ∈ lw_all := lw_g (lw_at lw_m13 186 rfl) rfl
theorem q3191 : (Jvm.Cond.selects "SettlerColonyModel" ({ cls := "SettlerColonyModel", name := "check", desc := "()I" } : Jvm.MethodName) ({ cls := "SettlerColonyModel", name := "check", desc := "()I" } : Jvm.MethodName)) ∈ lw_all := lw_g (lw_at lw_m13 187 rfl) rfl
theorem q3192 : (Jvm.Cond.code ({ cls := "SettlerColonyModel", name := "check", desc := "()I" } : Jvm.MethodName) prog_36_method_141_code (6 : Nat) (Option.some Jvm.ClassFile.FieldType.int)) ∈ lw_all := lw_g (lw_at lw_m13 188 rfl) rfl
theorem q3194 : (Jvm.Cond.instanceMethod ({ cls := "SettlerColonyModel", name := "count", desc := "(I)I" } : Jvm.MethodName)) ∈ lw_all := lw_g (lw_at lw_m13 190 rfl) rfl
theorem q3195 : (Jvm.Cond.selects "SettlerColonyModel" ({ cls := "SettlerColonyModel", name := "count", desc := "(I)I" } : Jvm.MethodName) ({ cls := "SettlerColonyModel", name := "count", desc := "(I)I" } : Jvm.MethodName)) ∈ lw_all := lw_g (lw_at lw_m13 191 rfl) rfl
theorem q3196 : (Jvm.Cond.code ({ cls := "SettlerColonyModel", name := "count", desc := "(I)I" } : Jvm.MethodName) prog_36_method_142_code (2 : Nat) (Option.some Jvm.ClassFile.FieldType.int)) ∈ lw_all := lw_g (lw_at lw_m13 192 rfl) rfl
theorem q3251 : (Jvm.Cond.castable "SettlerColonyModel" "java/lang/Object") ∈ lw_tbl := lw_at lw_m14 7 rfl
theorem in_X9 : ∀ w ∈ wsX90, w ∈ lw_all := lw_in wsX90 [2550, 2552, 2554, 2556, 2558, 2560, 2562, 2564, 2566, 2568, 2570, 2572, 2574, 2576, 2578, 2580, 2582, 2584, 2586, 2588, 2590, 2592, 2594, 2596, 2598, 2600, 2602, 2604, 2606, 2608, 2610, 2612, 2614, 2616] (by decide +kernel) (by decide +kernel)
theorem q971 : (Jvm.Cond.interfaceMethod "SettlerColony$Cond" "SettlerColony$Cond" "holds" "(LSettlerColony$Ask;)Z") ∈ lw_tbl := lw_at lw_m4 127 rfl
theorem q972 : (Jvm.Cond.declares ({ cls := "SettlerColony$Cond", name := "holds", desc := "(LSettlerColony$Ask;)Z" } : Jvm.MethodName)) ∈ lw_tbl := lw_at lw_m4 128 rfl
theorem q355 : (Jvm.Cond.sameMethod "[B" "java/lang/Object" "clone" "()Ljava/lang/Object;") ∈ lw_all := lw_g (lw_at lw_m1 231 rfl) rfl
theorem q358 : (Jvm.Cond.selects "[B" ({ cls := "[B", name := "clone", desc := "()Ljava/lang/Object;" } : Jvm.MethodName) ({ cls := "java/lang/Object", name := "clone", desc := "()Ljava/lang/Object;" } : Jvm.MethodName)) ∈ lw_all := lw_g (lw_at lw_m1 234 rfl) rfl
theorem q359 : (Jvm.Cond.castable "[B" "java/lang/Cloneable") ∈ lw_tbl := lw_at lw_m1 235 rfl
theorem q3287 : (Jvm.Cond.castable "[B" "java/lang/Object") ∈ lw_tbl := lw_at lw_m14 43 rfl
theorem q3292 : (Jvm.Cond.castable "[F" "java/lang/Object") ∈ lw_tbl := lw_at lw_m14 48 rfl
theorem q3288 : (Jvm.Cond.castable "[I" "java/lang/Object") ∈ lw_tbl := lw_at lw_m14 44 rfl
theorem q3294 : (Jvm.Cond.castable "[J" "java/lang/Object") ∈ lw_tbl := lw_at lw_m14 50 rfl
theorem q3293 : (Jvm.Cond.castable "[LSettlerColony$Expr;" "java/lang/Object") ∈ lw_tbl := lw_at lw_m14 49 rfl
theorem q3291 : (Jvm.Cond.castable "[LSettlerColony$Person;" "java/lang/Object") ∈ lw_tbl := lw_at lw_m14 47 rfl
theorem q3283 : (Jvm.Cond.sameMethod "[Ljava/lang/Object;" "java/lang/Object" "getClass" "()Ljava/lang/Class;") ∈ lw_all := lw_g (lw_at lw_m14 39 rfl) rfl
theorem q3284 : (Jvm.Cond.selects "[Ljava/lang/Object;" ({ cls := "java/lang/Object", name := "getClass", desc := "()Ljava/lang/Class;" } : Jvm.MethodName) ({ cls := "java/lang/Object", name := "getClass", desc := "()Ljava/lang/Class;" } : Jvm.MethodName)) ∈ lw_all := lw_g (lw_at lw_m14 40 rfl) rfl
theorem q3286 : (Jvm.Cond.castable "[Ljava/lang/Object;" "java/lang/Object") ∈ lw_tbl := lw_at lw_m14 42 rfl
theorem q3289 : (Jvm.Cond.castable "[Z" "java/lang/Object") ∈ lw_tbl := lw_at lw_m14 45 rfl
theorem q3290 : (Jvm.Cond.castable "[[F" "java/lang/Object") ∈ lw_tbl := lw_at lw_m14 46 rfl
theorem q163 : (Jvm.Cond.initialized "java/lang/Integer$IntegerCache") ∈ lw_all := lw_g (lw_at lw_m1 39 rfl) rfl
theorem q1756 : (Jvm.Cond.laysStatic "java/lang/Integer$IntegerCache" "high" "I") ∈ lw_tbl := lw_at lw_m7 192 rfl
theorem q1758 : (Jvm.Cond.laysStatic "java/lang/Integer$IntegerCache" "cache" "[Ljava/lang/Integer;") ∈ lw_tbl := lw_at lw_m7 194 rfl
theorem q142 : (Jvm.Cond.initialized "java/lang/System") ∈ lw_all := lw_g (lw_at lw_m1 18 rfl) rfl
theorem q365 : (Jvm.Cond.static ({ cls := "java/lang/System", name := "arraycopy", desc := "(Ljava/lang/Object;ILjava/lang/Object;II)V" } : Jvm.MethodName)) ∈ lw_all := lw_g (lw_at lw_m2 1 rfl) rfl
theorem q366 : (Jvm.Cond.native ({ cls := "java/lang/System", name := "arraycopy", desc := "(Ljava/lang/Object;ILjava/lang/Object;II)V" } : Jvm.MethodName)) ∈ lw_all := lw_g (lw_at lw_m2 2 rfl) rfl
theorem q1956 : (Jvm.Cond.interfaceMethod "jdk/internal/access/JavaLangAccess" "jdk/internal/access/JavaLangAccess" "getUTF16Char" "([BI)C") ∈ lw_tbl := lw_at lw_m8 152 rfl
theorem q1957 : (Jvm.Cond.declares ({ cls := "jdk/internal/access/JavaLangAccess", name := "getUTF16Char", desc := "([BI)C" } : Jvm.MethodName)) ∈ lw_tbl := lw_at lw_m8 153 rfl
theorem q208 : (Jvm.Cond.arrayOver (Jvm.ClassFile.FieldType.object "java/lang/Object")) ∈ lw_tbl := lw_at lw_m1 84 rfl
theorem q305 : (Jvm.Cond.arrayClass Jvm.ClassFile.FieldType.byte) ∈ lw_all := lw_g (lw_at lw_m1 181 rfl) rfl
theorem q572 : (Jvm.Cond.arrayClass Jvm.ClassFile.FieldType.int) ∈ lw_all := lw_g (lw_at lw_m2 208 rfl) rfl
theorem q573 : (Jvm.Cond.arrayClass Jvm.ClassFile.FieldType.boolean) ∈ lw_all := lw_g (lw_at lw_m2 209 rfl) rfl
theorem q611 : (Jvm.Cond.arrayOver (Jvm.ClassFile.FieldType.array Jvm.ClassFile.FieldType.float)) ∈ lw_tbl := lw_at lw_m3 7 rfl
theorem q1048 : (Jvm.Cond.arrayOver (Jvm.ClassFile.FieldType.object "SettlerColony$Person")) ∈ lw_tbl := lw_at lw_m4 204 rfl
theorem q1288 : (Jvm.Cond.arrayClass Jvm.ClassFile.FieldType.float) ∈ lw_all := lw_g (lw_at lw_m5 204 rfl) rfl
theorem q1885 : (Jvm.Cond.arrayOver (Jvm.ClassFile.FieldType.object "SettlerColony$Expr")) ∈ lw_tbl := lw_at lw_m8 81 rfl
theorem q3197 : (Jvm.Cond.arrayClass Jvm.ClassFile.FieldType.long) ∈ lw_all := lw_g (lw_at lw_m13 193 rfl) rfl
theorem q3295 : (Jvm.Cond.arrayClass Jvm.ClassFile.FieldType.char) ∈ lw_all := lw_g (lw_at lw_m14 51 rfl) rfl
theorem q3296 : (Jvm.Cond.arrayClass Jvm.ClassFile.FieldType.short) ∈ lw_all := lw_g (lw_at lw_m14 52 rfl) rfl
def T0cl : u_T := fun _ => ("", "", "", false)
def ty0cl : Nat → FieldType := fun _ => .int
def vwCl : List vw_C := [(RJ11, TJ11, 6), (RJ18, TJ18, 1), (RJ2, TJ2, 3), (RJ20, TJ20, 6), (RJ21, TJ21, 6), (RJ22, TJ22, 6), (RJ23, TJ23, 6), (RJ3, TJ3, 5), (RJ6, TJ6, 6), (RJ8, TJ8, 4), (RJ9, TJ9, 4), (RX1, TX1, 22), (RX10, TX10, 10), (RX11, TX11, 4), (RX12, TX12, 9), (RX13, TX13, 4), (RX14, TX14, 3), (RX15, TX15, 3), (RX16, TX16, 1), (RX17, TX17, 1), (RX18, TX18, 4), (RX19, TX19, 2), (RX2, TX2, 32), (RX20, TX20, 8), (RX22, TX22, 1), (RX23, TX23, 1), (RX24, TX24, 3), (RX25, TX25, 4), (RX26, TX26, 1), (RX27, TX27, 1), (RX28, TX28, 1), (RX29, TX29, 3), (RX30, TX30, 4), (RX6, TX6, 4), (RX7, TX7, 2), (RX8, TX8, 1), (RX9, TX9, 34), (RX4, T0cl, 0), (RX5, T0cl, 0), (RJ6, T0cl, 0), (RJ20, T0cl, 0), (RJ23, T0cl, 0)]
