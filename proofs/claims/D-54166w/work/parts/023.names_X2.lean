/-! LectureTurns$Store -/
set_option maxRecDepth 100000
def RX2 : String := "LectureTurns$Store"
def TX2 : u_T := fun k => match k with
  | _ => ("LectureTurns$Store", "rows", "Ljava/util/ArrayList;", true)
def tyX2 : Nat → FieldType := fun k => match k with
  | _ => .object "java/util/ArrayList"
abbrev wsX20 : List Cond := u_ws RX2 TX2 1
theorem nmX2 : ∀ a, a < 1 → ∀ b, b < 1 → a ≠ b → (TX2 a).2.1 ≠ (TX2 b).2.1 := by decide +kernel
theorem tyX2_ok : ∀ k, k < 1 → parseFieldDescriptor (TX2 k).2.2.1 = some (tyX2 k) := by decide +kernel
abbrev cX2_init : ByteArray := prog_8_method_1_code
def yX2_init : MethodName := ⟨RX2, "<init>", "()V"⟩
def dkwX2_init_0 : List UInt8 := [42, 183, 0, 1, 42, 187, 0, 7, 89, 183, 0, 9, 181, 0, 10, 177]
abbrev dktX2_init_0 : List UInt8 := dkwX2_init_0 ++ []
theorem dksX2_init_0 : cX2_init.data.toList.drop 0 = dktX2_init_0 := by decide +kernel
theorem dX2_init_0 : decode cX2_init 0 = .ok (.aload_n 0, 1) := dk_42 (dk_at dksX2_init_0 0 rfl rfl)
theorem dX2_init_1 : decode cX2_init 1 = .ok (.invokespecial 1, 3) := dk_183 0 1 (dk_at dksX2_init_0 1 rfl rfl)
theorem dX2_init_4 : decode cX2_init 4 = .ok (.aload_n 0, 1) := dk_42 (dk_at dksX2_init_0 4 rfl rfl)
theorem dX2_init_5 : decode cX2_init 5 = .ok (.new 7, 3) := dk_187 0 7 (dk_at dksX2_init_0 5 rfl rfl)
theorem dX2_init_8 : decode cX2_init 8 = .ok (.dup, 1) := dk_89 (dk_at dksX2_init_0 8 rfl rfl)
theorem dX2_init_9 : decode cX2_init 9 = .ok (.invokespecial 9, 3) := dk_183 0 9 (dk_at dksX2_init_0 9 rfl rfl)
theorem dX2_init_12 : decode cX2_init 12 = .ok (.putfield 10, 3) := dk_181 0 10 (dk_at dksX2_init_0 12 rfl rfl)
theorem dX2_init_15 : decode cX2_init 15 = .ok (.return_, 1) := dk_177 (dk_at dksX2_init_0 15 rfl rfl)
abbrev cX2_size : ByteArray := prog_8_method_2_code
def yX2_size : MethodName := ⟨RX2, "size", "()I"⟩
def dkwX2_size_0 : List UInt8 := [42, 180, 0, 10, 182, 0, 16, 172]
abbrev dktX2_size_0 : List UInt8 := dkwX2_size_0 ++ []
theorem dksX2_size_0 : cX2_size.data.toList.drop 0 = dktX2_size_0 := by decide +kernel
theorem dX2_size_0 : decode cX2_size 0 = .ok (.aload_n 0, 1) := dk_42 (dk_at dksX2_size_0 0 rfl rfl)
theorem dX2_size_1 : decode cX2_size 1 = .ok (.getfield 10, 3) := dk_180 0 10 (dk_at dksX2_size_0 1 rfl rfl)
theorem dX2_size_4 : decode cX2_size 4 = .ok (.invokevirtual 16, 3) := dk_182 0 16 (dk_at dksX2_size_0 4 rfl rfl)
theorem dX2_size_7 : decode cX2_size 7 = .ok (.ireturn, 1) := dk_172 (dk_at dksX2_size_0 7 rfl rfl)
abbrev cX2_at : ByteArray := prog_8_method_3_code
def yX2_at : MethodName := ⟨RX2, "at", "(I)LLectureTurns$Begun;"⟩
def dkwX2_at_0 : List UInt8 := [42, 180, 0, 10, 27, 182, 0, 20, 192, 0, 24, 176]
abbrev dktX2_at_0 : List UInt8 := dkwX2_at_0 ++ []
theorem dksX2_at_0 : cX2_at.data.toList.drop 0 = dktX2_at_0 := by decide +kernel
theorem dX2_at_0 : decode cX2_at 0 = .ok (.aload_n 0, 1) := dk_42 (dk_at dksX2_at_0 0 rfl rfl)
theorem dX2_at_1 : decode cX2_at 1 = .ok (.getfield 10, 3) := dk_180 0 10 (dk_at dksX2_at_0 1 rfl rfl)
theorem dX2_at_4 : decode cX2_at 4 = .ok (.iload_n 1, 1) := dk_27 (dk_at dksX2_at_0 4 rfl rfl)
theorem dX2_at_5 : decode cX2_at 5 = .ok (.invokevirtual 20, 3) := dk_182 0 20 (dk_at dksX2_at_0 5 rfl rfl)
theorem dX2_at_8 : decode cX2_at 8 = .ok (.checkcast 24, 3) := dk_192 0 24 (dk_at dksX2_at_0 8 rfl rfl)
theorem dX2_at_11 : decode cX2_at 11 = .ok (.areturn, 1) := dk_176 (dk_at dksX2_at_0 11 rfl rfl)
abbrev cX2_lay : ByteArray := prog_8_method_4_code
def yX2_lay : MethodName := ⟨RX2, "lay", "(LLectureTurns$Begun;)I"⟩
def dkwX2_lay_2 : List UInt8 := [180, 0, 10, 28, 43, 182, 0, 29, 28, 172]
abbrev dktX2_lay_2 : List UInt8 := dkwX2_lay_2 ++ []
def dkwX2_lay_1 : List UInt8 := [192, 0, 24, 185, 0, 26, 1, 0, 43, 185, 0, 26, 1, 0, 164, 0, 9, 132, 2, 255, 167, 255, 222, 42]
abbrev dktX2_lay_1 : List UInt8 := dkwX2_lay_1 ++ dktX2_lay_2
def dkwX2_lay_0 : List UInt8 := [42, 180, 0, 10, 182, 0, 16, 61, 28, 158, 0, 36, 42, 180, 0, 10, 28, 4, 100, 182, 0, 20]
abbrev dktX2_lay_0 : List UInt8 := dkwX2_lay_0 ++ dktX2_lay_1
theorem dksX2_lay_0 : cX2_lay.data.toList.drop 0 = dktX2_lay_0 := by decide +kernel
theorem dksX2_lay_1 : cX2_lay.data.toList.drop 22 = dktX2_lay_1 := dk_seg dksX2_lay_0 22 rfl rfl
theorem dksX2_lay_2 : cX2_lay.data.toList.drop 46 = dktX2_lay_2 := dk_seg dksX2_lay_1 24 rfl rfl
theorem dX2_lay_0 : decode cX2_lay 0 = .ok (.aload_n 0, 1) := dk_42 (dk_at dksX2_lay_0 0 rfl rfl)
theorem dX2_lay_1 : decode cX2_lay 1 = .ok (.getfield 10, 3) := dk_180 0 10 (dk_at dksX2_lay_0 1 rfl rfl)
theorem dX2_lay_4 : decode cX2_lay 4 = .ok (.invokevirtual 16, 3) := dk_182 0 16 (dk_at dksX2_lay_0 4 rfl rfl)
theorem dX2_lay_7 : decode cX2_lay 7 = .ok (.istore_n 2, 1) := dk_61 (dk_at dksX2_lay_0 7 rfl rfl)
theorem dX2_lay_8 : decode cX2_lay 8 = .ok (.iload_n 2, 1) := dk_28 (dk_at dksX2_lay_0 8 rfl rfl)
theorem dX2_lay_9 : decode cX2_lay 9 = .ok (.ifCond .le 36, 3) := dk_158 0 36 (dk_at dksX2_lay_0 9 rfl rfl)
theorem dX2_lay_12 : decode cX2_lay 12 = .ok (.aload_n 0, 1) := dk_42 (dk_at dksX2_lay_0 12 rfl rfl)
theorem dX2_lay_13 : decode cX2_lay 13 = .ok (.getfield 10, 3) := dk_180 0 10 (dk_at dksX2_lay_0 13 rfl rfl)
theorem dX2_lay_16 : decode cX2_lay 16 = .ok (.iload_n 2, 1) := dk_28 (dk_at dksX2_lay_0 16 rfl rfl)
theorem dX2_lay_17 : decode cX2_lay 17 = .ok (.iconst 1, 1) := dk_4 (dk_at dksX2_lay_0 17 rfl rfl)
theorem dX2_lay_18 : decode cX2_lay 18 = .ok (.isub, 1) := dk_100 (dk_at dksX2_lay_0 18 rfl rfl)
theorem dX2_lay_19 : decode cX2_lay 19 = .ok (.invokevirtual 20, 3) := dk_182 0 20 (dk_at dksX2_lay_0 19 rfl rfl)
theorem dX2_lay_22 : decode cX2_lay 22 = .ok (.checkcast 24, 3) := dk_192 0 24 (dk_at dksX2_lay_1 0 rfl rfl)
theorem dX2_lay_25 : decode cX2_lay 25 = .ok (.invokeinterface 26 1, 5) := by decide +kernel
theorem dX2_lay_30 : decode cX2_lay 30 = .ok (.aload_n 1, 1) := dk_43 (dk_at dksX2_lay_1 8 rfl rfl)
theorem dX2_lay_31 : decode cX2_lay 31 = .ok (.invokeinterface 26 1, 5) := by decide +kernel
theorem dX2_lay_36 : decode cX2_lay 36 = .ok (.if_icmp .le 9, 3) := dk_164 0 9 (dk_at dksX2_lay_1 14 rfl rfl)
theorem dX2_lay_39 : decode cX2_lay 39 = .ok (.iinc 2 (-1), 3) := dk_132 2 255 (dk_at dksX2_lay_1 17 rfl rfl)
theorem dX2_lay_42 : decode cX2_lay 42 = .ok (.goto (-34), 3) := dk_167 255 222 (dk_at dksX2_lay_1 20 rfl rfl)
theorem dX2_lay_45 : decode cX2_lay 45 = .ok (.aload_n 0, 1) := dk_42 (dk_at dksX2_lay_1 23 rfl rfl)
theorem dX2_lay_46 : decode cX2_lay 46 = .ok (.getfield 10, 3) := dk_180 0 10 (dk_at dksX2_lay_2 0 rfl rfl)
theorem dX2_lay_49 : decode cX2_lay 49 = .ok (.iload_n 2, 1) := dk_28 (dk_at dksX2_lay_2 3 rfl rfl)
theorem dX2_lay_50 : decode cX2_lay 50 = .ok (.aload_n 1, 1) := dk_43 (dk_at dksX2_lay_2 4 rfl rfl)
theorem dX2_lay_51 : decode cX2_lay 51 = .ok (.invokevirtual 29, 3) := dk_182 0 29 (dk_at dksX2_lay_2 5 rfl rfl)
theorem dX2_lay_54 : decode cX2_lay 54 = .ok (.iload_n 2, 1) := dk_28 (dk_at dksX2_lay_2 8 rfl rfl)
theorem dX2_lay_55 : decode cX2_lay 55 = .ok (.ireturn, 1) := dk_172 (dk_at dksX2_lay_2 9 rfl rfl)
abbrev cX2_takes : ByteArray := prog_8_method_5_code
def yX2_takes : MethodName := ⟨RX2, "takes", "(I)LLectureTurns$Begun;"⟩
def dkwX2_takes_0 : List UInt8 := [42, 180, 0, 10, 27, 182, 0, 33, 192, 0, 24, 176]
abbrev dktX2_takes_0 : List UInt8 := dkwX2_takes_0 ++ []
theorem dksX2_takes_0 : cX2_takes.data.toList.drop 0 = dktX2_takes_0 := by decide +kernel
theorem dX2_takes_0 : decode cX2_takes 0 = .ok (.aload_n 0, 1) := dk_42 (dk_at dksX2_takes_0 0 rfl rfl)
theorem dX2_takes_1 : decode cX2_takes 1 = .ok (.getfield 10, 3) := dk_180 0 10 (dk_at dksX2_takes_0 1 rfl rfl)
theorem dX2_takes_4 : decode cX2_takes 4 = .ok (.iload_n 1, 1) := dk_27 (dk_at dksX2_takes_0 4 rfl rfl)
theorem dX2_takes_5 : decode cX2_takes 5 = .ok (.invokevirtual 33, 3) := dk_182 0 33 (dk_at dksX2_takes_0 5 rfl rfl)
theorem dX2_takes_8 : decode cX2_takes 8 = .ok (.checkcast 24, 3) := dk_192 0 24 (dk_at dksX2_takes_0 8 rfl rfl)
theorem dX2_takes_11 : decode cX2_takes 11 = .ok (.areturn, 1) := dk_176 (dk_at dksX2_takes_0 11 rfl rfl)
theorem q68 : (Jvm.Cond.initialized "LectureTurns$Store") ∈ lw_all := lw_g (lw_at lw_m1 3 rfl) rfl
theorem q113 : (Jvm.Cond.instantiable "LectureTurns$Store" (1 : Nat)) ∈ lw_all := lw_g (lw_at lw_m1 48 rfl) rfl
theorem q115 : (Jvm.Cond.instanceMethod ({ cls := "LectureTurns$Store", name := "<init>", desc := "()V" } : Jvm.MethodName)) ∈ lw_all := lw_g (lw_at lw_m1 50 rfl) rfl
theorem q116 : (Jvm.Cond.code ({ cls := "LectureTurns$Store", name := "<init>", desc := "()V" } : Jvm.MethodName) prog_8_method_1_code (1 : Nat) (Option.none : Option Jvm.ClassFile.FieldType)) ∈ lw_all := lw_g (lw_at lw_m1 51 rfl) rfl
theorem q117 : (Jvm.Cond.methodLink "LectureTurns$Store" (1 : Nat) ({ cls := "java/lang/Object", name := "<init>", desc := "()V" } : Jvm.MethodName)) ∈ lw_all := lw_g (lw_at lw_m1 52 rfl) rfl
theorem q118 : (Jvm.Cond.classLink "LectureTurns$Store" (7 : Nat) "java/util/ArrayList") ∈ lw_all := lw_g (lw_at lw_m1 53 rfl) rfl
theorem q120 : (Jvm.Cond.methodLink "LectureTurns$Store" (9 : Nat) ({ cls := "java/util/ArrayList", name := "<init>", desc := "()V" } : Jvm.MethodName)) ∈ lw_all := lw_g (lw_at lw_m1 55 rfl) rfl
theorem q147 : (Jvm.Cond.fieldLink "LectureTurns$Store" (10 : Nat) "LectureTurns$Store" "rows" "Ljava/util/ArrayList;") ∈ lw_all := lw_g (lw_at lw_m1 82 rfl) rfl
theorem q148 : (Jvm.Cond.laysFinal "LectureTurns$Store" "LectureTurns$Store" "rows" "Ljava/util/ArrayList;") ∈ lw_all := lw_g (lw_at lw_m1 83 rfl) rfl
theorem q149 : (Jvm.Cond.soleField "LectureTurns$Store" "rows") ∈ lw_all := lw_g (lw_at lw_m1 84 rfl) rfl
theorem q150 : (Jvm.Cond.superclass "LectureTurns$Store" "java/lang/Object") ∈ lw_all := lw_g (lw_at lw_m1 85 rfl) rfl
theorem q244 : (Jvm.Cond.instanceMethod ({ cls := "LectureTurns$Store", name := "size", desc := "()I" } : Jvm.MethodName)) ∈ lw_all := lw_g (lw_at lw_m1 179 rfl) rfl
theorem q245 : (Jvm.Cond.selects "LectureTurns$Store" ({ cls := "LectureTurns$Store", name := "size", desc := "()I" } : Jvm.MethodName) ({ cls := "LectureTurns$Store", name := "size", desc := "()I" } : Jvm.MethodName)) ∈ lw_all := lw_g (lw_at lw_m1 180 rfl) rfl
theorem q246 : (Jvm.Cond.code ({ cls := "LectureTurns$Store", name := "size", desc := "()I" } : Jvm.MethodName) prog_8_method_2_code (1 : Nat) (Option.some Jvm.ClassFile.FieldType.int)) ∈ lw_all := lw_g (lw_at lw_m1 181 rfl) rfl
theorem q247 : (Jvm.Cond.methodLink "LectureTurns$Store" (16 : Nat) ({ cls := "java/util/ArrayList", name := "size", desc := "()I" } : Jvm.MethodName)) ∈ lw_all := lw_g (lw_at lw_m1 182 rfl) rfl
theorem q254 : (Jvm.Cond.instanceMethod ({ cls := "LectureTurns$Store", name := "at", desc := "(I)LLectureTurns$Begun;" } : Jvm.MethodName)) ∈ lw_all := lw_g (lw_at lw_m1 189 rfl) rfl
theorem q255 : (Jvm.Cond.selects "LectureTurns$Store" ({ cls := "LectureTurns$Store", name := "at", desc := "(I)LLectureTurns$Begun;" } : Jvm.MethodName) ({ cls := "LectureTurns$Store", name := "at", desc := "(I)LLectureTurns$Begun;" } : Jvm.MethodName)) ∈ lw_all := lw_g (lw_at lw_m1 190 rfl) rfl
theorem q256 : (Jvm.Cond.code ({ cls := "LectureTurns$Store", name := "at", desc := "(I)LLectureTurns$Begun;" } : Jvm.MethodName) prog_8_method_3_code (2 : Nat) (Option.some (Jvm.ClassFile.FieldType.object "LectureTurns$Begun"))) ∈ lw_all := lw_g (lw_at lw_m1 191 rfl) rfl
theorem q257 : (Jvm.Cond.methodLink "LectureTurns$Store" (20 : Nat) ({ cls := "java/util/ArrayList", name := "get", desc := "(I)Ljava/lang/Object;" } : Jvm.MethodName)) ∈ lw_all := lw_g (lw_at lw_m1 192 rfl) rfl
theorem q271 : (Jvm.Cond.classLink "LectureTurns$Store" (24 : Nat) "LectureTurns$Begun") ∈ lw_all := lw_g (lw_at lw_m1 206 rfl) rfl
theorem q392 : (Jvm.Cond.selects "LectureTurns$Store" ({ cls := "java/lang/Object", name := "getClass", desc := "()Ljava/lang/Class;" } : Jvm.MethodName) ({ cls := "java/lang/Object", name := "getClass", desc := "()Ljava/lang/Class;" } : Jvm.MethodName)) ∈ lw_all := lw_g (lw_at lw_m2 87 rfl) rfl
theorem q415 : (Jvm.Cond.instanceMethod ({ cls := "LectureTurns$Store", name := "lay", desc := "(LLectureTurns$Begun;)I" } : Jvm.MethodName)) ∈ lw_all := lw_g (lw_at lw_m2 110 rfl) rfl
theorem q416 : (Jvm.Cond.selects "LectureTurns$Store" ({ cls := "LectureTurns$Store", name := "lay", desc := "(LLectureTurns$Begun;)I" } : Jvm.MethodName) ({ cls := "LectureTurns$Store", name := "lay", desc := "(LLectureTurns$Begun;)I" } : Jvm.MethodName)) ∈ lw_all := lw_g (lw_at lw_m2 111 rfl) rfl
theorem q417 : (Jvm.Cond.code ({ cls := "LectureTurns$Store", name := "lay", desc := "(LLectureTurns$Begun;)I" } : Jvm.MethodName) prog_8_method_4_code (3 : Nat) (Option.some Jvm.ClassFile.FieldType.int)) ∈ lw_all := lw_g (lw_at lw_m2 112 rfl) rfl
theorem q418 : (Jvm.Cond.interfaceEntry "LectureTurns$Store" (26 : Nat)) ∈ lw_tbl := lw_at lw_m2 113 rfl
theorem q419 : (Jvm.Cond.methodLink "LectureTurns$Store" (26 : Nat) ({ cls := "LectureTurns$Begun", name := "begins", desc := "()I" } : Jvm.MethodName)) ∈ lw_all := lw_g (lw_at lw_m2 114 rfl) rfl
theorem q428 : (Jvm.Cond.methodLink "LectureTurns$Store" (29 : Nat) ({ cls := "java/util/ArrayList", name := "add", desc := "(ILjava/lang/Object;)V" } : Jvm.MethodName)) ∈ lw_all := lw_g (lw_at lw_m2 123 rfl) rfl
theorem q590 : (Jvm.Cond.instanceMethod ({ cls := "LectureTurns$Store", name := "takes", desc := "(I)LLectureTurns$Begun;" } : Jvm.MethodName)) ∈ lw_all := lw_g (lw_at lw_m3 45 rfl) rfl
theorem q591 : (Jvm.Cond.selects "LectureTurns$Store" ({ cls := "LectureTurns$Store", name := "takes", desc := "(I)LLectureTurns$Begun;" } : Jvm.MethodName) ({ cls := "LectureTurns$Store", name := "takes", desc := "(I)LLectureTurns$Begun;" } : Jvm.MethodName)) ∈ lw_all := lw_g (lw_at lw_m3 46 rfl) rfl
theorem q592 : (Jvm.Cond.code ({ cls := "LectureTurns$Store", name := "takes", desc := "(I)LLectureTurns$Begun;" } : Jvm.MethodName) prog_8_method_5_code (2 : Nat) (Option.some (Jvm.ClassFile.FieldType.object "LectureTurns$Begun"))) ∈ lw_all := lw_g (lw_at lw_m3 47 rfl) rfl
theorem q593 : (Jvm.Cond.methodLink "LectureTurns$Store" (33 : Nat) ({ cls := "java/util/ArrayList", name := "remove", desc := "(I)Ljava/lang/Object;" } : Jvm.MethodName)) ∈ lw_all := lw_g (lw_at lw_m3 48 rfl) rfl
theorem q1631 : (Jvm.Cond.castable "LectureTurns$Store" "java/lang/Object") ∈ lw_tbl := lw_at lw_m7 126 rfl
theorem in_X2 : ∀ w ∈ wsX20, w ∈ lw_all := lw_in wsX20 [148] (by decide +kernel) (by decide +kernel)
