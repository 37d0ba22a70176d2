/-! LectureTurns$Fault -/
set_option maxRecDepth 100000
def RX8 : String := "LectureTurns$Fault"
def TX8 : u_T := fun k => match k with
  | 0 => ("java/lang/Throwable", "cause", "Ljava/lang/Throwable;", false)
  | 1 => ("java/lang/Throwable", "stackTrace", "[Ljava/lang/StackTraceElement;", false)
  | 2 => ("java/lang/Throwable", "suppressedExceptions", "Ljava/util/List;", false)
  | 3 => ("java/lang/Throwable", "detailMessage", "Ljava/lang/String;", false)
  | 4 => ("java/lang/Throwable", "backtrace", "Ljava/lang/Object;", false)
  | 5 => ("java/lang/Throwable", "depth", "I", false)
  | 6 => ("LectureTurns$Fault", "begins", "I", true)
  | _ => ("LectureTurns$Fault", "breaks", "I", true)
def tyX8 : Nat → FieldType := fun k => match k with
  | 0 => .object "java/lang/Throwable"
  | 1 => .array (.object "java/lang/StackTraceElement")
  | 2 => .object "java/util/List"
  | 3 => .object "java/lang/String"
  | 4 => .object "java/lang/Object"
  | 5 => .int
  | 6 => .int
  | _ => .int
abbrev wsX80 : List Cond := u_ws RX8 TX8 8
theorem nmX8 : ∀ a, a < 8 → ∀ b, b < 8 → a ≠ b → (TX8 a).2.1 ≠ (TX8 b).2.1 := by decide +kernel
theorem tyX8_ok : ∀ k, k < 8 → parseFieldDescriptor (TX8 k).2.2.1 = some (tyX8 k) := by decide +kernel
abbrev cX8_init : ByteArray := prog_4_method_1_code
def yX8_init : MethodName := ⟨RX8, "<init>", "(IILjava/lang/Throwable;)V"⟩
def dkwX8_init_0 : List UInt8 := [42, 18, 3, 45, 183, 0, 5, 42, 27, 181, 0, 11, 42, 28, 181, 0, 17, 177]
abbrev dktX8_init_0 : List UInt8 := dkwX8_init_0 ++ []
theorem dksX8_init_0 : cX8_init.data.toList.drop 0 = dktX8_init_0 := by decide +kernel
theorem dX8_init_0 : decode cX8_init 0 = .ok (.aload_n 0, 1) := dk_42 (dk_at dksX8_init_0 0 rfl rfl)
theorem dX8_init_1 : decode cX8_init 1 = .ok (.ldc 3, 2) := dk_18 3 (dk_at dksX8_init_0 1 rfl rfl)
theorem dX8_init_3 : decode cX8_init 3 = .ok (.aload_n 3, 1) := dk_45 (dk_at dksX8_init_0 3 rfl rfl)
theorem dX8_init_4 : decode cX8_init 4 = .ok (.invokespecial 5, 3) := dk_183 0 5 (dk_at dksX8_init_0 4 rfl rfl)
theorem dX8_init_7 : decode cX8_init 7 = .ok (.aload_n 0, 1) := dk_42 (dk_at dksX8_init_0 7 rfl rfl)
theorem dX8_init_8 : decode cX8_init 8 = .ok (.iload_n 1, 1) := dk_27 (dk_at dksX8_init_0 8 rfl rfl)
theorem dX8_init_9 : decode cX8_init 9 = .ok (.putfield 11, 3) := dk_181 0 11 (dk_at dksX8_init_0 9 rfl rfl)
theorem dX8_init_12 : decode cX8_init 12 = .ok (.aload_n 0, 1) := dk_42 (dk_at dksX8_init_0 12 rfl rfl)
theorem dX8_init_13 : decode cX8_init 13 = .ok (.iload_n 2, 1) := dk_28 (dk_at dksX8_init_0 13 rfl rfl)
theorem dX8_init_14 : decode cX8_init 14 = .ok (.putfield 17, 3) := dk_181 0 17 (dk_at dksX8_init_0 14 rfl rfl)
theorem dX8_init_17 : decode cX8_init 17 = .ok (.return_, 1) := dk_177 (dk_at dksX8_init_0 17 rfl rfl)
abbrev cX8_told : ByteArray := prog_4_method_2_code
def yX8_told : MethodName := ⟨RX8, "told", "(I)I"⟩
def dkwX8_told_2 : List UInt8 := [180, 0, 26, 167, 0, 7, 42, 180, 0, 17, 172]
abbrev dktX8_told_2 : List UInt8 := dkwX8_told_2 ++ []
def dkwX8_told_1 : List UInt8 := [28, 153, 0, 7, 5, 167, 0, 28, 4, 167, 0, 24, 28, 153, 0, 16, 42, 182, 0, 20, 192, 0, 24]
abbrev dktX8_told_1 : List UInt8 := dkwX8_told_1 ++ dktX8_told_2
def dkwX8_told_0 : List UInt8 := [42, 182, 0, 20, 193, 0, 24, 61, 27, 154, 0, 10, 42, 180, 0, 11, 167, 0, 41, 27, 4, 160, 0, 15]
abbrev dktX8_told_0 : List UInt8 := dkwX8_told_0 ++ dktX8_told_1
theorem dksX8_told_0 : cX8_told.data.toList.drop 0 = dktX8_told_0 := by decide +kernel
theorem dksX8_told_1 : cX8_told.data.toList.drop 24 = dktX8_told_1 := dk_seg dksX8_told_0 24 rfl rfl
theorem dksX8_told_2 : cX8_told.data.toList.drop 47 = dktX8_told_2 := dk_seg dksX8_told_1 23 rfl rfl
theorem dX8_told_0 : decode cX8_told 0 = .ok (.aload_n 0, 1) := dk_42 (dk_at dksX8_told_0 0 rfl rfl)
theorem dX8_told_1 : decode cX8_told 1 = .ok (.invokevirtual 20, 3) := dk_182 0 20 (dk_at dksX8_told_0 1 rfl rfl)
theorem dX8_told_4 : decode cX8_told 4 = .ok (.instanceof 24, 3) := dk_193 0 24 (dk_at dksX8_told_0 4 rfl rfl)
theorem dX8_told_7 : decode cX8_told 7 = .ok (.istore_n 2, 1) := dk_61 (dk_at dksX8_told_0 7 rfl rfl)
theorem dX8_told_8 : decode cX8_told 8 = .ok (.iload_n 1, 1) := dk_27 (dk_at dksX8_told_0 8 rfl rfl)
theorem dX8_told_9 : decode cX8_told 9 = .ok (.ifCond .ne 10, 3) := dk_154 0 10 (dk_at dksX8_told_0 9 rfl rfl)
theorem dX8_told_12 : decode cX8_told 12 = .ok (.aload_n 0, 1) := dk_42 (dk_at dksX8_told_0 12 rfl rfl)
theorem dX8_told_13 : decode cX8_told 13 = .ok (.getfield 11, 3) := dk_180 0 11 (dk_at dksX8_told_0 13 rfl rfl)
theorem dX8_told_16 : decode cX8_told 16 = .ok (.goto 41, 3) := dk_167 0 41 (dk_at dksX8_told_0 16 rfl rfl)
theorem dX8_told_19 : decode cX8_told 19 = .ok (.iload_n 1, 1) := dk_27 (dk_at dksX8_told_0 19 rfl rfl)
theorem dX8_told_20 : decode cX8_told 20 = .ok (.iconst 1, 1) := dk_4 (dk_at dksX8_told_0 20 rfl rfl)
theorem dX8_told_21 : decode cX8_told 21 = .ok (.if_icmp .ne 15, 3) := dk_160 0 15 (dk_at dksX8_told_0 21 rfl rfl)
theorem dX8_told_24 : decode cX8_told 24 = .ok (.iload_n 2, 1) := dk_28 (dk_at dksX8_told_1 0 rfl rfl)
theorem dX8_told_25 : decode cX8_told 25 = .ok (.ifCond .eq 7, 3) := dk_153 0 7 (dk_at dksX8_told_1 1 rfl rfl)
theorem dX8_told_28 : decode cX8_told 28 = .ok (.iconst 2, 1) := dk_5 (dk_at dksX8_told_1 4 rfl rfl)
theorem dX8_told_29 : decode cX8_told 29 = .ok (.goto 28, 3) := dk_167 0 28 (dk_at dksX8_told_1 5 rfl rfl)
theorem dX8_told_32 : decode cX8_told 32 = .ok (.iconst 1, 1) := dk_4 (dk_at dksX8_told_1 8 rfl rfl)
theorem dX8_told_33 : decode cX8_told 33 = .ok (.goto 24, 3) := dk_167 0 24 (dk_at dksX8_told_1 9 rfl rfl)
theorem dX8_told_36 : decode cX8_told 36 = .ok (.iload_n 2, 1) := dk_28 (dk_at dksX8_told_1 12 rfl rfl)
theorem dX8_told_37 : decode cX8_told 37 = .ok (.ifCond .eq 16, 3) := dk_153 0 16 (dk_at dksX8_told_1 13 rfl rfl)
theorem dX8_told_40 : decode cX8_told 40 = .ok (.aload_n 0, 1) := dk_42 (dk_at dksX8_told_1 16 rfl rfl)
theorem dX8_told_41 : decode cX8_told 41 = .ok (.invokevirtual 20, 3) := dk_182 0 20 (dk_at dksX8_told_1 17 rfl rfl)
theorem dX8_told_44 : decode cX8_told 44 = .ok (.checkcast 24, 3) := dk_192 0 24 (dk_at dksX8_told_1 20 rfl rfl)
theorem dX8_told_47 : decode cX8_told 47 = .ok (.getfield 26, 3) := dk_180 0 26 (dk_at dksX8_told_2 0 rfl rfl)
theorem dX8_told_50 : decode cX8_told 50 = .ok (.goto 7, 3) := dk_167 0 7 (dk_at dksX8_told_2 3 rfl rfl)
theorem dX8_told_53 : decode cX8_told 53 = .ok (.aload_n 0, 1) := dk_42 (dk_at dksX8_told_2 6 rfl rfl)
theorem dX8_told_54 : decode cX8_told 54 = .ok (.getfield 17, 3) := dk_180 0 17 (dk_at dksX8_told_2 7 rfl rfl)
theorem dX8_told_57 : decode cX8_told 57 = .ok (.ireturn, 1) := dk_172 (dk_at dksX8_told_2 10 rfl rfl)
theorem q97 : (Jvm.Cond.initialized "LectureTurns$Fault") ∈ lw_all := lw_g (lw_at lw_m1 32 rfl) rfl
theorem q388 : (Jvm.Cond.selects "LectureTurns$Fault" ({ cls := "java/lang/Object", name := "getClass", desc := "()Ljava/lang/Class;" } : Jvm.MethodName) ({ cls := "java/lang/Object", name := "getClass", desc := "()Ljava/lang/Class;" } : Jvm.MethodName)) ∈ lw_all := lw_g (lw_at lw_m2 83 rfl) rfl
theorem q490 : (Jvm.Cond.selects "LectureTurns$Fault" ({ cls := "java/lang/Throwable", name := "fillInStackTrace", desc := "()Ljava/lang/Throwable;" } : Jvm.MethodName) ({ cls := "java/lang/Throwable", name := "fillInStackTrace", desc := "()Ljava/lang/Throwable;" } : Jvm.MethodName)) ∈ lw_all := lw_g (lw_at lw_m2 185 rfl) rfl
theorem q508 : (Jvm.Cond.fieldLinkNest "LectureTurns$Fault" (26 : Nat) "LectureTurns$Refused" "code" "I" "LectureTurns") ∈ lw_tbl := lw_at lw_m2 203 rfl
theorem q1230 : (Jvm.Cond.instantiable "LectureTurns$Fault" (8 : Nat)) ∈ lw_all := lw_g (lw_at lw_m5 205 rfl) rfl
theorem q1231 : (Jvm.Cond.castable "LectureTurns$Fault" "LectureTurns$Fault") ∈ lw_tbl := lw_at lw_m5 206 rfl
theorem q1232 : (Jvm.Cond.selects "LectureTurns$Fault" ({ cls := "java/lang/Throwable", name := "fillInStackTrace", desc := "(I)Ljava/lang/Throwable;" } : Jvm.MethodName) ({ cls := "java/lang/Throwable", name := "fillInStackTrace", desc := "(I)Ljava/lang/Throwable;" } : Jvm.MethodName)) ∈ lw_all := lw_g (lw_at lw_m5 207 rfl) rfl
theorem q1233 : (Jvm.Cond.lays "LectureTurns$Fault" "java/lang/Throwable" "cause" "Ljava/lang/Throwable;") ∈ lw_all := lw_g (lw_at lw_m5 208 rfl) rfl
theorem q1234 : (Jvm.Cond.lays "LectureTurns$Fault" "java/lang/Throwable" "stackTrace" "[Ljava/lang/StackTraceElement;") ∈ lw_all := lw_g (lw_at lw_m5 209 rfl) rfl
theorem q1235 : (Jvm.Cond.lays "LectureTurns$Fault" "java/lang/Throwable" "suppressedExceptions" "Ljava/util/List;") ∈ lw_all := lw_g (lw_at lw_m5 210 rfl) rfl
theorem q1236 : (Jvm.Cond.lays "LectureTurns$Fault" "java/lang/Throwable" "detailMessage" "Ljava/lang/String;") ∈ lw_all := lw_g (lw_at lw_m5 211 rfl) rfl
theorem q1237 : (Jvm.Cond.lays "LectureTurns$Fault" "java/lang/Throwable" "backtrace" "Ljava/lang/Object;") ∈ lw_all := lw_g (lw_at lw_m5 212 rfl) rfl
theorem q1239 : (Jvm.Cond.instanceMethod ({ cls := "LectureTurns$Fault", name := "<init>", desc := "(IILjava/lang/Throwable;)V" } : Jvm.MethodName)) ∈ lw_all := lw_g (lw_at lw_m5 214 rfl) rfl
theorem q1240 : (Jvm.Cond.code ({ cls := "LectureTurns$Fault", name := "<init>", desc := "(IILjava/lang/Throwable;)V" } : Jvm.MethodName) prog_4_method_1_code (4 : Nat) (Option.none : Option Jvm.ClassFile.FieldType)) ∈ lw_all := lw_g (lw_at lw_m5 215 rfl) rfl
theorem q1241 : (Jvm.Cond.stringRef "LectureTurns$Fault" (3 : Nat) "a fault") ∈ lw_tbl := lw_at lw_m5 216 rfl
theorem q1242 : (Jvm.Cond.methodLink "LectureTurns$Fault" (5 : Nat) ({ cls := "java/lang/Exception", name := "<init>", desc := "(Ljava/lang/String;Ljava/lang/Throwable;)V" } : Jvm.MethodName)) ∈ lw_all := lw_g (lw_at lw_m5 217 rfl) rfl
theorem q1243 : (Jvm.Cond.fieldLink "LectureTurns$Fault" (11 : Nat) "LectureTurns$Fault" "begins" "I") ∈ lw_all := lw_g (lw_at lw_m5 218 rfl) rfl
theorem q1244 : (Jvm.Cond.fieldLink "LectureTurns$Fault" (17 : Nat) "LectureTurns$Fault" "breaks" "I") ∈ lw_all := lw_g (lw_at lw_m5 219 rfl) rfl
theorem q1245 : (Jvm.Cond.laysFinal "LectureTurns$Fault" "LectureTurns$Fault" "begins" "I") ∈ lw_all := lw_g (lw_at lw_m5 220 rfl) rfl
theorem q1246 : (Jvm.Cond.soleField "LectureTurns$Fault" "begins") ∈ lw_all := lw_g (lw_at lw_m5 221 rfl) rfl
theorem q1247 : (Jvm.Cond.laysFinal "LectureTurns$Fault" "LectureTurns$Fault" "breaks" "I") ∈ lw_all := lw_g (lw_at lw_m5 222 rfl) rfl
theorem q1248 : (Jvm.Cond.soleField "LectureTurns$Fault" "breaks") ∈ lw_all := lw_g (lw_at lw_m5 223 rfl) rfl
theorem q1249 : (Jvm.Cond.lays "LectureTurns$Fault" "java/lang/Throwable" "depth" "I") ∈ lw_all := lw_g (lw_at lw_m5 224 rfl) rfl
theorem q1250 : (Jvm.Cond.superclass "LectureTurns$Fault" "java/lang/Exception") ∈ lw_all := lw_g (lw_at lw_m5 225 rfl) rfl
theorem q1253 : (Jvm.Cond.instanceMethod ({ cls := "LectureTurns$Fault", name := "told", desc := "(I)I" } : Jvm.MethodName)) ∈ lw_all := lw_g (lw_at lw_m5 228 rfl) rfl
theorem q1254 : (Jvm.Cond.selects "LectureTurns$Fault" ({ cls := "LectureTurns$Fault", name := "told", desc := "(I)I" } : Jvm.MethodName) ({ cls := "LectureTurns$Fault", name := "told", desc := "(I)I" } : Jvm.MethodName)) ∈ lw_all := lw_g (lw_at lw_m5 229 rfl) rfl
theorem q1255 : (Jvm.Cond.code ({ cls := "LectureTurns$Fault", name := "told", desc := "(I)I" } : Jvm.MethodName) prog_4_method_2_code (3 : Nat) (Option.some Jvm.ClassFile.FieldType.int)) ∈ lw_all := lw_g (lw_at lw_m5 230 rfl) rfl
theorem q1256 : (Jvm.Cond.methodLink "LectureTurns$Fault" (20 : Nat) ({ cls := "LectureTurns$Fault", name := "getCause", desc := "()Ljava/lang/Throwable;" } : Jvm.MethodName)) ∈ lw_all := lw_g (lw_at lw_m5 231 rfl) rfl
theorem q1257 : (Jvm.Cond.sameMethod "LectureTurns$Fault" "java/lang/Throwable" "getCause" "()Ljava/lang/Throwable;") ∈ lw_all := lw_g (lw_at lw_m5 232 rfl) rfl
theorem q1259 : (Jvm.Cond.selects "LectureTurns$Fault" ({ cls := "LectureTurns$Fault", name := "getCause", desc := "()Ljava/lang/Throwable;" } : Jvm.MethodName) ({ cls := "java/lang/Throwable", name := "getCause", desc := "()Ljava/lang/Throwable;" } : Jvm.MethodName)) ∈ lw_all := lw_g (lw_at lw_m5 234 rfl) rfl
theorem q1262 : (Jvm.Cond.classLink "LectureTurns$Fault" (24 : Nat) "LectureTurns$Refused") ∈ lw_all := lw_g (lw_at lw_m5 237 rfl) rfl
theorem q1642 : (Jvm.Cond.castable "LectureTurns$Fault" "java/lang/Object") ∈ lw_tbl := lw_at lw_m7 137 rfl
theorem in_X8 : ∀ w ∈ wsX80, w ∈ lw_all := lw_in wsX80 [1233, 1234, 1235, 1236, 1237, 1249, 1245, 1247] (by decide +kernel) (by decide +kernel)
