/-! java/lang/StringLatin1 -/
set_option maxRecDepth 100000
def RJ19 : String := "java/lang/StringLatin1"
abbrev cJ19_canEncode : ByteArray := prog_29_method_3_code
def yJ19_canEncode : MethodName := ⟨RJ19, "canEncode", "(C)Z"⟩
def dkwJ19_canEncode_0 : List UInt8 := [26, 17, 0, 255, 163, 0, 7, 4, 167, 0, 4, 3, 172]
abbrev dktJ19_canEncode_0 : List UInt8 := dkwJ19_canEncode_0 ++ []
theorem dksJ19_canEncode_0 : cJ19_canEncode.data.toList.drop 0 = dktJ19_canEncode_0 := by decide +kernel
theorem dJ19_canEncode_0 : decode cJ19_canEncode 0 = .ok (.iload_n 0, 1) := dk_26 (dk_at dksJ19_canEncode_0 0 rfl rfl)
theorem dJ19_canEncode_1 : decode cJ19_canEncode 1 = .ok (.sipush 255, 3) := dk_17 0 255 (dk_at dksJ19_canEncode_0 1 rfl rfl)
theorem dJ19_canEncode_4 : decode cJ19_canEncode 4 = .ok (.if_icmp .gt 7, 3) := dk_163 0 7 (dk_at dksJ19_canEncode_0 4 rfl rfl)
theorem dJ19_canEncode_7 : decode cJ19_canEncode 7 = .ok (.iconst 1, 1) := dk_4 (dk_at dksJ19_canEncode_0 7 rfl rfl)
theorem dJ19_canEncode_8 : decode cJ19_canEncode 8 = .ok (.goto 4, 3) := dk_167 0 4 (dk_at dksJ19_canEncode_0 8 rfl rfl)
theorem dJ19_canEncode_11 : decode cJ19_canEncode 11 = .ok (.iconst 0, 1) := dk_3 (dk_at dksJ19_canEncode_0 11 rfl rfl)
theorem dJ19_canEncode_12 : decode cJ19_canEncode 12 = .ok (.ireturn, 1) := dk_172 (dk_at dksJ19_canEncode_0 12 rfl rfl)
abbrev cJ19_inflate : ByteArray := prog_29_method_50_code
def yJ19_inflate : MethodName := ⟨RJ19, "inflate", "([BI[BII)V"⟩
def dkwJ19_inflate_0 : List UInt8 := [42, 27, 44, 29, 21, 4, 184, 0, 240, 177]
abbrev dktJ19_inflate_0 : List UInt8 := dkwJ19_inflate_0 ++ []
theorem dksJ19_inflate_0 : cJ19_inflate.data.toList.drop 0 = dktJ19_inflate_0 := by decide +kernel
theorem dJ19_inflate_0 : decode cJ19_inflate 0 = .ok (.aload_n 0, 1) := dk_42 (dk_at dksJ19_inflate_0 0 rfl rfl)
theorem dJ19_inflate_1 : decode cJ19_inflate 1 = .ok (.iload_n 1, 1) := dk_27 (dk_at dksJ19_inflate_0 1 rfl rfl)
theorem dJ19_inflate_2 : decode cJ19_inflate 2 = .ok (.aload_n 2, 1) := dk_44 (dk_at dksJ19_inflate_0 2 rfl rfl)
theorem dJ19_inflate_3 : decode cJ19_inflate 3 = .ok (.iload_n 3, 1) := dk_29 (dk_at dksJ19_inflate_0 3 rfl rfl)
theorem dJ19_inflate_4 : decode cJ19_inflate 4 = .ok (.iload 4, 2) := dk_21 4 (dk_at dksJ19_inflate_0 4 rfl rfl)
theorem dJ19_inflate_6 : decode cJ19_inflate 6 = .ok (.invokestatic 240, 3) := dk_184 0 240 (dk_at dksJ19_inflate_0 6 rfl rfl)
theorem dJ19_inflate_9 : decode cJ19_inflate 9 = .ok (.return_, 1) := dk_177 (dk_at dksJ19_inflate_0 9 rfl rfl)
abbrev cJ19_fillNull : ByteArray := prog_29_method_48_code
def yJ19_fillNull : MethodName := ⟨RJ19, "fillNull", "([BII)V"⟩
def dkwJ19_fillNull_0 : List UInt8 := [42, 27, 28, 3, 184, 0, 236, 177]
abbrev dktJ19_fillNull_0 : List UInt8 := dkwJ19_fillNull_0 ++ []
theorem dksJ19_fillNull_0 : cJ19_fillNull.data.toList.drop 0 = dktJ19_fillNull_0 := by decide +kernel
theorem dJ19_fillNull_0 : decode cJ19_fillNull 0 = .ok (.aload_n 0, 1) := dk_42 (dk_at dksJ19_fillNull_0 0 rfl rfl)
theorem dJ19_fillNull_1 : decode cJ19_fillNull 1 = .ok (.iload_n 1, 1) := dk_27 (dk_at dksJ19_fillNull_0 1 rfl rfl)
theorem dJ19_fillNull_2 : decode cJ19_fillNull 2 = .ok (.iload_n 2, 1) := dk_28 (dk_at dksJ19_fillNull_0 2 rfl rfl)
theorem dJ19_fillNull_3 : decode cJ19_fillNull 3 = .ok (.iconst 0, 1) := dk_3 (dk_at dksJ19_fillNull_0 3 rfl rfl)
theorem dJ19_fillNull_4 : decode cJ19_fillNull 4 = .ok (.invokestatic 236, 3) := dk_184 0 236 (dk_at dksJ19_fillNull_0 4 rfl rfl)
theorem dJ19_fillNull_7 : decode cJ19_fillNull 7 = .ok (.return_, 1) := dk_177 (dk_at dksJ19_fillNull_0 7 rfl rfl)
abbrev cJ19_indexOf : ByteArray := prog_29_method_22_code
def yJ19_indexOf : MethodName := ⟨RJ19, "indexOf", "([BIII)I"⟩
def dkwJ19_indexOf_1 : List UInt8 := [161, 0, 5, 2, 172, 42, 27, 28, 29, 184, 0, 95, 172]
abbrev dktJ19_indexOf_1 : List UInt8 := dkwJ19_indexOf_1 ++ []
def dkwJ19_indexOf_0 : List UInt8 := [27, 184, 0, 88, 154, 0, 5, 2, 172, 28, 3, 184, 0, 92, 61, 29, 42, 190, 184, 0, 38, 62, 28, 29]
abbrev dktJ19_indexOf_0 : List UInt8 := dkwJ19_indexOf_0 ++ dktJ19_indexOf_1
theorem dksJ19_indexOf_0 : cJ19_indexOf.data.toList.drop 0 = dktJ19_indexOf_0 := by decide +kernel
theorem dksJ19_indexOf_1 : cJ19_indexOf.data.toList.drop 24 = dktJ19_indexOf_1 := dk_seg dksJ19_indexOf_0 24 rfl rfl
theorem dJ19_indexOf_0 : decode cJ19_indexOf 0 = .ok (.iload_n 1, 1) := dk_27 (dk_at dksJ19_indexOf_0 0 rfl rfl)
theorem dJ19_indexOf_1 : decode cJ19_indexOf 1 = .ok (.invokestatic 88, 3) := dk_184 0 88 (dk_at dksJ19_indexOf_0 1 rfl rfl)
theorem dJ19_indexOf_4 : decode cJ19_indexOf 4 = .ok (.ifCond .ne 5, 3) := dk_154 0 5 (dk_at dksJ19_indexOf_0 4 rfl rfl)
theorem dJ19_indexOf_7 : decode cJ19_indexOf 7 = .ok (.iconst (-1), 1) := dk_2 (dk_at dksJ19_indexOf_0 7 rfl rfl)
theorem dJ19_indexOf_8 : decode cJ19_indexOf 8 = .ok (.ireturn, 1) := dk_172 (dk_at dksJ19_indexOf_0 8 rfl rfl)
theorem dJ19_indexOf_9 : decode cJ19_indexOf 9 = .ok (.iload_n 2, 1) := dk_28 (dk_at dksJ19_indexOf_0 9 rfl rfl)
theorem dJ19_indexOf_10 : decode cJ19_indexOf 10 = .ok (.iconst 0, 1) := dk_3 (dk_at dksJ19_indexOf_0 10 rfl rfl)
theorem dJ19_indexOf_11 : decode cJ19_indexOf 11 = .ok (.invokestatic 92, 3) := dk_184 0 92 (dk_at dksJ19_indexOf_0 11 rfl rfl)
theorem dJ19_indexOf_14 : decode cJ19_indexOf 14 = .ok (.istore_n 2, 1) := dk_61 (dk_at dksJ19_indexOf_0 14 rfl rfl)
theorem dJ19_indexOf_15 : decode cJ19_indexOf 15 = .ok (.iload_n 3, 1) := dk_29 (dk_at dksJ19_indexOf_0 15 rfl rfl)
theorem dJ19_indexOf_16 : decode cJ19_indexOf 16 = .ok (.aload_n 0, 1) := dk_42 (dk_at dksJ19_indexOf_0 16 rfl rfl)
theorem dJ19_indexOf_17 : decode cJ19_indexOf 17 = .ok (.arraylength, 1) := dk_190 (dk_at dksJ19_indexOf_0 17 rfl rfl)
theorem dJ19_indexOf_18 : decode cJ19_indexOf 18 = .ok (.invokestatic 38, 3) := dk_184 0 38 (dk_at dksJ19_indexOf_0 18 rfl rfl)
theorem dJ19_indexOf_21 : decode cJ19_indexOf 21 = .ok (.istore_n 3, 1) := dk_62 (dk_at dksJ19_indexOf_0 21 rfl rfl)
theorem dJ19_indexOf_22 : decode cJ19_indexOf 22 = .ok (.iload_n 2, 1) := dk_28 (dk_at dksJ19_indexOf_0 22 rfl rfl)
theorem dJ19_indexOf_23 : decode cJ19_indexOf 23 = .ok (.iload_n 3, 1) := dk_29 (dk_at dksJ19_indexOf_0 23 rfl rfl)
theorem dJ19_indexOf_24 : decode cJ19_indexOf 24 = .ok (.if_icmp .lt 5, 3) := dk_161 0 5 (dk_at dksJ19_indexOf_1 0 rfl rfl)
theorem dJ19_indexOf_27 : decode cJ19_indexOf 27 = .ok (.iconst (-1), 1) := dk_2 (dk_at dksJ19_indexOf_1 3 rfl rfl)
theorem dJ19_indexOf_28 : decode cJ19_indexOf 28 = .ok (.ireturn, 1) := dk_172 (dk_at dksJ19_indexOf_1 4 rfl rfl)
theorem dJ19_indexOf_29 : decode cJ19_indexOf 29 = .ok (.aload_n 0, 1) := dk_42 (dk_at dksJ19_indexOf_1 5 rfl rfl)
theorem dJ19_indexOf_30 : decode cJ19_indexOf 30 = .ok (.iload_n 1, 1) := dk_27 (dk_at dksJ19_indexOf_1 6 rfl rfl)
theorem dJ19_indexOf_31 : decode cJ19_indexOf 31 = .ok (.iload_n 2, 1) := dk_28 (dk_at dksJ19_indexOf_1 7 rfl rfl)
theorem dJ19_indexOf_32 : decode cJ19_indexOf 32 = .ok (.iload_n 3, 1) := dk_29 (dk_at dksJ19_indexOf_1 8 rfl rfl)
theorem dJ19_indexOf_33 : decode cJ19_indexOf 33 = .ok (.invokestatic 95, 3) := dk_184 0 95 (dk_at dksJ19_indexOf_1 9 rfl rfl)
theorem dJ19_indexOf_36 : decode cJ19_indexOf 36 = .ok (.ireturn, 1) := dk_172 (dk_at dksJ19_indexOf_1 12 rfl rfl)
abbrev cJ19_canEncode_2 : ByteArray := prog_29_method_4_code
def yJ19_canEncode_2 : MethodName := ⟨RJ19, "canEncode", "(I)Z"⟩
def dkwJ19_canEncode_2_0 : List UInt8 := [26, 155, 0, 14, 26, 17, 0, 255, 163, 0, 7, 4, 167, 0, 4, 3, 172]
abbrev dktJ19_canEncode_2_0 : List UInt8 := dkwJ19_canEncode_2_0 ++ []
theorem dksJ19_canEncode_2_0 : cJ19_canEncode_2.data.toList.drop 0 = dktJ19_canEncode_2_0 := by decide +kernel
theorem dJ19_canEncode_2_0 : decode cJ19_canEncode_2 0 = .ok (.iload_n 0, 1) := dk_26 (dk_at dksJ19_canEncode_2_0 0 rfl rfl)
theorem dJ19_canEncode_2_1 : decode cJ19_canEncode_2 1 = .ok (.ifCond .lt 14, 3) := dk_155 0 14 (dk_at dksJ19_canEncode_2_0 1 rfl rfl)
theorem dJ19_canEncode_2_4 : decode cJ19_canEncode_2 4 = .ok (.iload_n 0, 1) := dk_26 (dk_at dksJ19_canEncode_2_0 4 rfl rfl)
theorem dJ19_canEncode_2_5 : decode cJ19_canEncode_2 5 = .ok (.sipush 255, 3) := dk_17 0 255 (dk_at dksJ19_canEncode_2_0 5 rfl rfl)
theorem dJ19_canEncode_2_8 : decode cJ19_canEncode_2 8 = .ok (.if_icmp .gt 7, 3) := dk_163 0 7 (dk_at dksJ19_canEncode_2_0 8 rfl rfl)
theorem dJ19_canEncode_2_11 : decode cJ19_canEncode_2 11 = .ok (.iconst 1, 1) := dk_4 (dk_at dksJ19_canEncode_2_0 11 rfl rfl)
theorem dJ19_canEncode_2_12 : decode cJ19_canEncode_2 12 = .ok (.goto 4, 3) := dk_167 0 4 (dk_at dksJ19_canEncode_2_0 12 rfl rfl)
theorem dJ19_canEncode_2_15 : decode cJ19_canEncode_2 15 = .ok (.iconst 0, 1) := dk_3 (dk_at dksJ19_canEncode_2_0 15 rfl rfl)
theorem dJ19_canEncode_2_16 : decode cJ19_canEncode_2 16 = .ok (.ireturn, 1) := dk_172 (dk_at dksJ19_canEncode_2_0 16 rfl rfl)
abbrev cJ19_indexOfChar : ByteArray := prog_29_method_23_code
def yJ19_indexOfChar : MethodName := ⟨RJ19, "indexOfChar", "([BIII)I"⟩
def dkwJ19_indexOfChar_1 : List UInt8 := [172, 132, 5, 1, 167, 255, 235, 2, 172]
abbrev dktJ19_indexOfChar_1 : List UInt8 := dkwJ19_indexOfChar_1 ++ []
def dkwJ19_indexOfChar_0 : List UInt8 := [27, 145, 54, 4, 28, 54, 5, 21, 5, 29, 162, 0, 21, 42, 21, 5, 51, 21, 4, 160, 0, 6, 21, 5]
abbrev dktJ19_indexOfChar_0 : List UInt8 := dkwJ19_indexOfChar_0 ++ dktJ19_indexOfChar_1
theorem dksJ19_indexOfChar_0 : cJ19_indexOfChar.data.toList.drop 0 = dktJ19_indexOfChar_0 := by decide +kernel
theorem dksJ19_indexOfChar_1 : cJ19_indexOfChar.data.toList.drop 24 = dktJ19_indexOfChar_1 := dk_seg dksJ19_indexOfChar_0 24 rfl rfl
theorem dJ19_indexOfChar_0 : decode cJ19_indexOfChar 0 = .ok (.iload_n 1, 1) := dk_27 (dk_at dksJ19_indexOfChar_0 0 rfl rfl)
theorem dJ19_indexOfChar_1 : decode cJ19_indexOfChar 1 = .ok (.i2b, 1) := dk_145 (dk_at dksJ19_indexOfChar_0 1 rfl rfl)
theorem dJ19_indexOfChar_2 : decode cJ19_indexOfChar 2 = .ok (.istore 4, 2) := dk_54 4 (dk_at dksJ19_indexOfChar_0 2 rfl rfl)
theorem dJ19_indexOfChar_4 : decode cJ19_indexOfChar 4 = .ok (.iload_n 2, 1) := dk_28 (dk_at dksJ19_indexOfChar_0 4 rfl rfl)
theorem dJ19_indexOfChar_5 : decode cJ19_indexOfChar 5 = .ok (.istore 5, 2) := dk_54 5 (dk_at dksJ19_indexOfChar_0 5 rfl rfl)
theorem dJ19_indexOfChar_7 : decode cJ19_indexOfChar 7 = .ok (.iload 5, 2) := dk_21 5 (dk_at dksJ19_indexOfChar_0 7 rfl rfl)
theorem dJ19_indexOfChar_9 : decode cJ19_indexOfChar 9 = .ok (.iload_n 3, 1) := dk_29 (dk_at dksJ19_indexOfChar_0 9 rfl rfl)
theorem dJ19_indexOfChar_10 : decode cJ19_indexOfChar 10 = .ok (.if_icmp .ge 21, 3) := dk_162 0 21 (dk_at dksJ19_indexOfChar_0 10 rfl rfl)
theorem dJ19_indexOfChar_13 : decode cJ19_indexOfChar 13 = .ok (.aload_n 0, 1) := dk_42 (dk_at dksJ19_indexOfChar_0 13 rfl rfl)
theorem dJ19_indexOfChar_14 : decode cJ19_indexOfChar 14 = .ok (.iload 5, 2) := dk_21 5 (dk_at dksJ19_indexOfChar_0 14 rfl rfl)
theorem dJ19_indexOfChar_16 : decode cJ19_indexOfChar 16 = .ok (.baload, 1) := dk_51 (dk_at dksJ19_indexOfChar_0 16 rfl rfl)
theorem dJ19_indexOfChar_17 : decode cJ19_indexOfChar 17 = .ok (.iload 4, 2) := dk_21 4 (dk_at dksJ19_indexOfChar_0 17 rfl rfl)
theorem dJ19_indexOfChar_19 : decode cJ19_indexOfChar 19 = .ok (.if_icmp .ne 6, 3) := dk_160 0 6 (dk_at dksJ19_indexOfChar_0 19 rfl rfl)
theorem dJ19_indexOfChar_22 : decode cJ19_indexOfChar 22 = .ok (.iload 5, 2) := dk_21 5 (dk_at dksJ19_indexOfChar_0 22 rfl rfl)
theorem dJ19_indexOfChar_24 : decode cJ19_indexOfChar 24 = .ok (.ireturn, 1) := dk_172 (dk_at dksJ19_indexOfChar_1 0 rfl rfl)
theorem dJ19_indexOfChar_25 : decode cJ19_indexOfChar 25 = .ok (.iinc 5 1, 3) := dk_132 5 1 (dk_at dksJ19_indexOfChar_1 1 rfl rfl)
theorem dJ19_indexOfChar_28 : decode cJ19_indexOfChar 28 = .ok (.goto (-21), 3) := dk_167 255 235 (dk_at dksJ19_indexOfChar_1 4 rfl rfl)
theorem dJ19_indexOfChar_31 : decode cJ19_indexOfChar 31 = .ok (.iconst (-1), 1) := dk_2 (dk_at dksJ19_indexOfChar_1 7 rfl rfl)
theorem dJ19_indexOfChar_32 : decode cJ19_indexOfChar 32 = .ok (.ireturn, 1) := dk_172 (dk_at dksJ19_indexOfChar_1 8 rfl rfl)
theorem q94 : (Jvm.Cond.initialized "java/lang/StringLatin1") ∈ lw_all := lw_g (lw_at lw_m1 29 rfl) rfl
theorem q1024 : (Jvm.Cond.static ({ cls := "java/lang/StringLatin1", name := "canEncode", desc := "(C)Z" } : Jvm.MethodName)) ∈ lw_all := lw_g (lw_at lw_m4 239 rfl) rfl
theorem q1025 : (Jvm.Cond.code ({ cls := "java/lang/StringLatin1", name := "canEncode", desc := "(C)Z" } : Jvm.MethodName) prog_29_method_3_code (1 : Nat) (Option.some Jvm.ClassFile.FieldType.boolean)) ∈ lw_all := lw_g (lw_at lw_m5 0 rfl) rfl
theorem q1031 : (Jvm.Cond.static ({ cls := "java/lang/StringLatin1", name := "inflate", desc := "([BI[BII)V" } : Jvm.MethodName)) ∈ lw_all := lw_g (lw_at lw_m5 6 rfl) rfl
theorem q1032 : (Jvm.Cond.code ({ cls := "java/lang/StringLatin1", name := "inflate", desc := "([BI[BII)V" } : Jvm.MethodName) prog_29_method_50_code (5 : Nat) (Option.none : Option Jvm.ClassFile.FieldType)) ∈ lw_all := lw_g (lw_at lw_m5 7 rfl) rfl
theorem q1033 : (Jvm.Cond.methodLink "java/lang/StringLatin1" (240 : Nat) ({ cls := "java/lang/StringUTF16", name := "inflate", desc := "([BI[BII)V" } : Jvm.MethodName)) ∈ lw_all := lw_g (lw_at lw_m5 8 rfl) rfl
theorem q1081 : (Jvm.Cond.static ({ cls := "java/lang/StringLatin1", name := "fillNull", desc := "([BII)V" } : Jvm.MethodName)) ∈ lw_all := lw_g (lw_at lw_m5 56 rfl) rfl
theorem q1082 : (Jvm.Cond.code ({ cls := "java/lang/StringLatin1", name := "fillNull", desc := "([BII)V" } : Jvm.MethodName) prog_29_method_48_code (3 : Nat) (Option.none : Option Jvm.ClassFile.FieldType)) ∈ lw_all := lw_g (lw_at lw_m5 57 rfl) rfl
theorem q1083 : (Jvm.Cond.methodLink "java/lang/StringLatin1" (236 : Nat) ({ cls := "java/util/Arrays", name := "fill", desc := "([BIIB)V" } : Jvm.MethodName)) ∈ lw_all := lw_g (lw_at lw_m5 58 rfl) rfl
theorem q1168 : (Jvm.Cond.static ({ cls := "java/lang/StringLatin1", name := "indexOf", desc := "([BIII)I" } : Jvm.MethodName)) ∈ lw_all := lw_g (lw_at lw_m5 143 rfl) rfl
theorem q1169 : (Jvm.Cond.code ({ cls := "java/lang/StringLatin1", name := "indexOf", desc := "([BIII)I" } : Jvm.MethodName) prog_29_method_22_code (4 : Nat) (Option.some Jvm.ClassFile.FieldType.int)) ∈ lw_all := lw_g (lw_at lw_m5 144 rfl) rfl
theorem q1170 : (Jvm.Cond.methodLink "java/lang/StringLatin1" (88 : Nat) ({ cls := "java/lang/StringLatin1", name := "canEncode", desc := "(I)Z" } : Jvm.MethodName)) ∈ lw_all := lw_g (lw_at lw_m5 145 rfl) rfl
theorem q1171 : (Jvm.Cond.static ({ cls := "java/lang/StringLatin1", name := "canEncode", desc := "(I)Z" } : Jvm.MethodName)) ∈ lw_all := lw_g (lw_at lw_m5 146 rfl) rfl
theorem q1172 : (Jvm.Cond.code ({ cls := "java/lang/StringLatin1", name := "canEncode", desc := "(I)Z" } : Jvm.MethodName) prog_29_method_4_code (1 : Nat) (Option.some Jvm.ClassFile.FieldType.boolean)) ∈ lw_all := lw_g (lw_at lw_m5 147 rfl) rfl
theorem q1173 : (Jvm.Cond.methodLink "java/lang/StringLatin1" (92 : Nat) ({ cls := "java/lang/Math", name := "max", desc := "(II)I" } : Jvm.MethodName)) ∈ lw_all := lw_g (lw_at lw_m5 148 rfl) rfl
theorem q1174 : (Jvm.Cond.methodLink "java/lang/StringLatin1" (38 : Nat) ({ cls := "java/lang/Math", name := "min", desc := "(II)I" } : Jvm.MethodName)) ∈ lw_all := lw_g (lw_at lw_m5 149 rfl) rfl
theorem q1175 : (Jvm.Cond.methodLink "java/lang/StringLatin1" (95 : Nat) ({ cls := "java/lang/StringLatin1", name := "indexOfChar", desc := "([BIII)I" } : Jvm.MethodName)) ∈ lw_all := lw_g (lw_at lw_m5 150 rfl) rfl
theorem q1176 : (Jvm.Cond.static ({ cls := "java/lang/StringLatin1", name := "indexOfChar", desc := "([BIII)I" } : Jvm.MethodName)) ∈ lw_all := lw_g (lw_at lw_m5 151 rfl) rfl
theorem q1177 : (Jvm.Cond.code ({ cls := "java/lang/StringLatin1", name := "indexOfChar", desc := "([BIII)I" } : Jvm.MethodName) prog_29_method_23_code (6 : Nat) (Option.some Jvm.ClassFile.FieldType.int)) ∈ lw_all := lw_g (lw_at lw_m5 152 rfl) rfl
