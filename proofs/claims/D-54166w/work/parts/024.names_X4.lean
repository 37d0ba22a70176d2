/-! LectureTurns$Turn -/
set_option maxRecDepth 100000
def RX4 : String := "LectureTurns$Turn"
def TX4 : u_T := fun k => match k with
  | 0 => ("LectureTurns$Turn", "begin", "I", true)
  | 1 => ("LectureTurns$Turn", "end", "I", false)
  | 2 => ("LectureTurns$Turn", "pitch", "I", true)
  | 3 => ("LectureTurns$Turn", "speaker", "I", false)
  | _ => ("LectureTurns$Turn", "terms", "Ljava/util/ArrayList;", true)
def tyX4 : Nat → FieldType := fun k => match k with
  | 0 => .int
  | 1 => .int
  | 2 => .int
  | 3 => .int
  | _ => .object "java/util/ArrayList"
abbrev wsX40 : List Cond := u_ws RX4 TX4 5
theorem nmX4 : ∀ a, a < 5 → ∀ b, b < 5 → a ≠ b → (TX4 a).2.1 ≠ (TX4 b).2.1 := by decide +kernel
theorem tyX4_ok : ∀ k, k < 5 → parseFieldDescriptor (TX4 k).2.2.1 = some (tyX4 k) := by decide +kernel
abbrev cX4_init : ByteArray := prog_10_method_2_code
def yX4_init : MethodName := ⟨RX4, "<init>", "(LLectureTurns$Turn;)V"⟩
def dkwX4_init_2 : List UInt8 := [192, 0, 48, 78, 42, 180, 0, 18, 45, 182, 0, 50, 87, 167, 255, 228, 177]
abbrev dktX4_init_2 : List UInt8 := dkwX4_init_2 ++ []
def dkwX4_init_1 : List UInt8 := [43, 180, 0, 18, 182, 0, 34, 77, 44, 185, 0, 38, 1, 0, 153, 0, 25, 44, 185, 0, 44, 1, 0]
abbrev dktX4_init_1 : List UInt8 := dkwX4_init_1 ++ dktX4_init_2
def dkwX4_init_0 : List UInt8 := [42, 43, 180, 0, 22, 43, 180, 0, 25, 43, 180, 0, 28, 183, 0, 31, 42, 43, 180, 0, 9, 181, 0, 9]
abbrev dktX4_init_0 : List UInt8 := dkwX4_init_0 ++ dktX4_init_1
theorem dksX4_init_0 : cX4_init.data.toList.drop 0 = dktX4_init_0 := by decide +kernel
theorem dksX4_init_1 : cX4_init.data.toList.drop 24 = dktX4_init_1 := dk_seg dksX4_init_0 24 rfl rfl
theorem dksX4_init_2 : cX4_init.data.toList.drop 47 = dktX4_init_2 := dk_seg dksX4_init_1 23 rfl rfl
theorem dX4_init_0 : decode cX4_init 0 = .ok (.aload_n 0, 1) := dk_42 (dk_at dksX4_init_0 0 rfl rfl)
theorem dX4_init_1 : decode cX4_init 1 = .ok (.aload_n 1, 1) := dk_43 (dk_at dksX4_init_0 1 rfl rfl)
theorem dX4_init_2 : decode cX4_init 2 = .ok (.getfield 22, 3) := dk_180 0 22 (dk_at dksX4_init_0 2 rfl rfl)
theorem dX4_init_5 : decode cX4_init 5 = .ok (.aload_n 1, 1) := dk_43 (dk_at dksX4_init_0 5 rfl rfl)
theorem dX4_init_6 : decode cX4_init 6 = .ok (.getfield 25, 3) := dk_180 0 25 (dk_at dksX4_init_0 6 rfl rfl)
theorem dX4_init_9 : decode cX4_init 9 = .ok (.aload_n 1, 1) := dk_43 (dk_at dksX4_init_0 9 rfl rfl)
theorem dX4_init_10 : decode cX4_init 10 = .ok (.getfield 28, 3) := dk_180 0 28 (dk_at dksX4_init_0 10 rfl rfl)
theorem dX4_init_13 : decode cX4_init 13 = .ok (.invokespecial 31, 3) := dk_183 0 31 (dk_at dksX4_init_0 13 rfl rfl)
theorem dX4_init_16 : decode cX4_init 16 = .ok (.aload_n 0, 1) := dk_42 (dk_at dksX4_init_0 16 rfl rfl)
theorem dX4_init_17 : decode cX4_init 17 = .ok (.aload_n 1, 1) := dk_43 (dk_at dksX4_init_0 17 rfl rfl)
theorem dX4_init_18 : decode cX4_init 18 = .ok (.getfield 9, 3) := dk_180 0 9 (dk_at dksX4_init_0 18 rfl rfl)
theorem dX4_init_21 : decode cX4_init 21 = .ok (.putfield 9, 3) := dk_181 0 9 (dk_at dksX4_init_0 21 rfl rfl)
theorem dX4_init_24 : decode cX4_init 24 = .ok (.aload_n 1, 1) := dk_43 (dk_at dksX4_init_1 0 rfl rfl)
theorem dX4_init_25 : decode cX4_init 25 = .ok (.getfield 18, 3) := dk_180 0 18 (dk_at dksX4_init_1 1 rfl rfl)
theorem dX4_init_28 : decode cX4_init 28 = .ok (.invokevirtual 34, 3) := dk_182 0 34 (dk_at dksX4_init_1 4 rfl rfl)
theorem dX4_init_31 : decode cX4_init 31 = .ok (.astore_n 2, 1) := dk_77 (dk_at dksX4_init_1 7 rfl rfl)
theorem dX4_init_32 : decode cX4_init 32 = .ok (.aload_n 2, 1) := dk_44 (dk_at dksX4_init_1 8 rfl rfl)
theorem dX4_init_33 : decode cX4_init 33 = .ok (.invokeinterface 38 1, 5) := by decide +kernel
theorem dX4_init_38 : decode cX4_init 38 = .ok (.ifCond .eq 25, 3) := dk_153 0 25 (dk_at dksX4_init_1 14 rfl rfl)
theorem dX4_init_41 : decode cX4_init 41 = .ok (.aload_n 2, 1) := dk_44 (dk_at dksX4_init_1 17 rfl rfl)
theorem dX4_init_42 : decode cX4_init 42 = .ok (.invokeinterface 44 1, 5) := by decide +kernel
theorem dX4_init_47 : decode cX4_init 47 = .ok (.checkcast 48, 3) := dk_192 0 48 (dk_at dksX4_init_2 0 rfl rfl)
theorem dX4_init_50 : decode cX4_init 50 = .ok (.astore_n 3, 1) := dk_78 (dk_at dksX4_init_2 3 rfl rfl)
theorem dX4_init_51 : decode cX4_init 51 = .ok (.aload_n 0, 1) := dk_42 (dk_at dksX4_init_2 4 rfl rfl)
theorem dX4_init_52 : decode cX4_init 52 = .ok (.getfield 18, 3) := dk_180 0 18 (dk_at dksX4_init_2 5 rfl rfl)
theorem dX4_init_55 : decode cX4_init 55 = .ok (.aload_n 3, 1) := dk_45 (dk_at dksX4_init_2 8 rfl rfl)
theorem dX4_init_56 : decode cX4_init 56 = .ok (.invokevirtual 50, 3) := dk_182 0 50 (dk_at dksX4_init_2 9 rfl rfl)
theorem dX4_init_59 : decode cX4_init 59 = .ok (.pop, 1) := dk_87 (dk_at dksX4_init_2 12 rfl rfl)
theorem dX4_init_60 : decode cX4_init 60 = .ok (.goto (-28), 3) := dk_167 255 228 (dk_at dksX4_init_2 13 rfl rfl)
theorem dX4_init_63 : decode cX4_init 63 = .ok (.return_, 1) := dk_177 (dk_at dksX4_init_2 16 rfl rfl)
abbrev cX4_init_2 : ByteArray := prog_10_method_1_code
def yX4_init_2 : MethodName := ⟨RX4, "<init>", "(III)V"⟩
def dkwX4_init_2_1 : List UInt8 := [181, 0, 22, 42, 28, 181, 0, 25, 42, 29, 181, 0, 28, 177]
abbrev dktX4_init_2_1 : List UInt8 := dkwX4_init_2_1 ++ []
def dkwX4_init_2_0 : List UInt8 := [42, 183, 0, 3, 42, 2, 181, 0, 9, 42, 187, 0, 15, 89, 183, 0, 17, 181, 0, 18, 42, 27]
abbrev dktX4_init_2_0 : List UInt8 := dkwX4_init_2_0 ++ dktX4_init_2_1
theorem dksX4_init_2_0 : cX4_init_2.data.toList.drop 0 = dktX4_init_2_0 := by decide +kernel
theorem dksX4_init_2_1 : cX4_init_2.data.toList.drop 22 = dktX4_init_2_1 := dk_seg dksX4_init_2_0 22 rfl rfl
theorem dX4_init_2_0 : decode cX4_init_2 0 = .ok (.aload_n 0, 1) := dk_42 (dk_at dksX4_init_2_0 0 rfl rfl)
theorem dX4_init_2_1 : decode cX4_init_2 1 = .ok (.invokespecial 3, 3) := dk_183 0 3 (dk_at dksX4_init_2_0 1 rfl rfl)
theorem dX4_init_2_4 : decode cX4_init_2 4 = .ok (.aload_n 0, 1) := dk_42 (dk_at dksX4_init_2_0 4 rfl rfl)
theorem dX4_init_2_5 : decode cX4_init_2 5 = .ok (.iconst (-1), 1) := dk_2 (dk_at dksX4_init_2_0 5 rfl rfl)
theorem dX4_init_2_6 : decode cX4_init_2 6 = .ok (.putfield 9, 3) := dk_181 0 9 (dk_at dksX4_init_2_0 6 rfl rfl)
theorem dX4_init_2_9 : decode cX4_init_2 9 = .ok (.aload_n 0, 1) := dk_42 (dk_at dksX4_init_2_0 9 rfl rfl)
theorem dX4_init_2_10 : decode cX4_init_2 10 = .ok (.new 15, 3) := dk_187 0 15 (dk_at dksX4_init_2_0 10 rfl rfl)
theorem dX4_init_2_13 : decode cX4_init_2 13 = .ok (.dup, 1) := dk_89 (dk_at dksX4_init_2_0 13 rfl rfl)
theorem dX4_init_2_14 : decode cX4_init_2 14 = .ok (.invokespecial 17, 3) := dk_183 0 17 (dk_at dksX4_init_2_0 14 rfl rfl)
theorem dX4_init_2_17 : decode cX4_init_2 17 = .ok (.putfield 18, 3) := dk_181 0 18 (dk_at dksX4_init_2_0 17 rfl rfl)
theorem dX4_init_2_20 : decode cX4_init_2 20 = .ok (.aload_n 0, 1) := dk_42 (dk_at dksX4_init_2_0 20 rfl rfl)
theorem dX4_init_2_21 : decode cX4_init_2 21 = .ok (.iload_n 1, 1) := dk_27 (dk_at dksX4_init_2_0 21 rfl rfl)
theorem dX4_init_2_22 : decode cX4_init_2 22 = .ok (.putfield 22, 3) := dk_181 0 22 (dk_at dksX4_init_2_1 0 rfl rfl)
theorem dX4_init_2_25 : decode cX4_init_2 25 = .ok (.aload_n 0, 1) := dk_42 (dk_at dksX4_init_2_1 3 rfl rfl)
theorem dX4_init_2_26 : decode cX4_init_2 26 = .ok (.iload_n 2, 1) := dk_28 (dk_at dksX4_init_2_1 4 rfl rfl)
theorem dX4_init_2_27 : decode cX4_init_2 27 = .ok (.putfield 25, 3) := dk_181 0 25 (dk_at dksX4_init_2_1 5 rfl rfl)
theorem dX4_init_2_30 : decode cX4_init_2 30 = .ok (.aload_n 0, 1) := dk_42 (dk_at dksX4_init_2_1 8 rfl rfl)
theorem dX4_init_2_31 : decode cX4_init_2 31 = .ok (.iload_n 3, 1) := dk_29 (dk_at dksX4_init_2_1 9 rfl rfl)
theorem dX4_init_2_32 : decode cX4_init_2 32 = .ok (.putfield 28, 3) := dk_181 0 28 (dk_at dksX4_init_2_1 10 rfl rfl)
theorem dX4_init_2_35 : decode cX4_init_2 35 = .ok (.return_, 1) := dk_177 (dk_at dksX4_init_2_1 13 rfl rfl)
abbrev cX4_begins : ByteArray := prog_10_method_3_code
def yX4_begins : MethodName := ⟨RX4, "begins", "()I"⟩
theorem dX4_begins_0 : decode cX4_begins 0 = .ok (.aload_n 0, 1) := by decide +kernel
theorem dX4_begins_1 : decode cX4_begins 1 = .ok (.getfield 22, 3) := by decide +kernel
theorem dX4_begins_4 : decode cX4_begins 4 = .ok (.ireturn, 1) := by decide +kernel
abbrev cX4_meets : ByteArray := prog_10_method_4_code
def yX4_meets : MethodName := ⟨RX4, "meets", "(LLectureTurns$Turn;)Z"⟩
def dkwX4_meets_1 : List UInt8 := [167, 0, 4, 3, 172]
abbrev dktX4_meets_1 : List UInt8 := dkwX4_meets_1 ++ []
def dkwX4_meets_0 : List UInt8 := [42, 180, 0, 22, 43, 180, 0, 25, 162, 0, 18, 43, 180, 0, 22, 42, 180, 0, 25, 162, 0, 7, 4]
abbrev dktX4_meets_0 : List UInt8 := dkwX4_meets_0 ++ dktX4_meets_1
theorem dksX4_meets_0 : cX4_meets.data.toList.drop 0 = dktX4_meets_0 := by decide +kernel
theorem dksX4_meets_1 : cX4_meets.data.toList.drop 23 = dktX4_meets_1 := dk_seg dksX4_meets_0 23 rfl rfl
theorem dX4_meets_0 : decode cX4_meets 0 = .ok (.aload_n 0, 1) := dk_42 (dk_at dksX4_meets_0 0 rfl rfl)
theorem dX4_meets_1 : decode cX4_meets 1 = .ok (.getfield 22, 3) := dk_180 0 22 (dk_at dksX4_meets_0 1 rfl rfl)
theorem dX4_meets_4 : decode cX4_meets 4 = .ok (.aload_n 1, 1) := dk_43 (dk_at dksX4_meets_0 4 rfl rfl)
theorem dX4_meets_5 : decode cX4_meets 5 = .ok (.getfield 25, 3) := dk_180 0 25 (dk_at dksX4_meets_0 5 rfl rfl)
theorem dX4_meets_8 : decode cX4_meets 8 = .ok (.if_icmp .ge 18, 3) := dk_162 0 18 (dk_at dksX4_meets_0 8 rfl rfl)
theorem dX4_meets_11 : decode cX4_meets 11 = .ok (.aload_n 1, 1) := dk_43 (dk_at dksX4_meets_0 11 rfl rfl)
theorem dX4_meets_12 : decode cX4_meets 12 = .ok (.getfield 22, 3) := dk_180 0 22 (dk_at dksX4_meets_0 12 rfl rfl)
theorem dX4_meets_15 : decode cX4_meets 15 = .ok (.aload_n 0, 1) := dk_42 (dk_at dksX4_meets_0 15 rfl rfl)
theorem dX4_meets_16 : decode cX4_meets 16 = .ok (.getfield 25, 3) := dk_180 0 25 (dk_at dksX4_meets_0 16 rfl rfl)
theorem dX4_meets_19 : decode cX4_meets 19 = .ok (.if_icmp .ge 7, 3) := dk_162 0 7 (dk_at dksX4_meets_0 19 rfl rfl)
theorem dX4_meets_22 : decode cX4_meets 22 = .ok (.iconst 1, 1) := dk_4 (dk_at dksX4_meets_0 22 rfl rfl)
theorem dX4_meets_23 : decode cX4_meets 23 = .ok (.goto 4, 3) := dk_167 0 4 (dk_at dksX4_meets_1 0 rfl rfl)
theorem dX4_meets_26 : decode cX4_meets 26 = .ok (.iconst 0, 1) := dk_3 (dk_at dksX4_meets_1 3 rfl rfl)
theorem dX4_meets_27 : decode cX4_meets 27 = .ok (.ireturn, 1) := dk_172 (dk_at dksX4_meets_1 4 rfl rfl)
abbrev cX4_breaksInto : ByteArray := prog_10_method_6_code
def yX4_breaksInto : MethodName := ⟨RX4, "breaksInto", "(LLectureTurns$Turn;)Z"⟩
def dkwX4_breaksInto_2 : List UInt8 := [159, 0, 7, 4, 167, 0, 4, 3, 172]
abbrev dktX4_breaksInto_2 : List UInt8 := dkwX4_breaksInto_2 ++ []
def dkwX4_breaksInto_1 : List UInt8 := [180, 0, 9, 2, 159, 0, 26, 43, 180, 0, 9, 2, 159, 0, 18, 42, 180, 0, 9, 43, 180, 0, 9]
abbrev dktX4_breaksInto_1 : List UInt8 := dkwX4_breaksInto_1 ++ dktX4_breaksInto_2
def dkwX4_breaksInto_0 : List UInt8 := [42, 180, 0, 22, 43, 180, 0, 22, 164, 0, 45, 42, 180, 0, 22, 43, 180, 0, 25, 162, 0, 34, 42]
abbrev dktX4_breaksInto_0 : List UInt8 := dkwX4_breaksInto_0 ++ dktX4_breaksInto_1
theorem dksX4_breaksInto_0 : cX4_breaksInto.data.toList.drop 0 = dktX4_breaksInto_0 := by decide +kernel
theorem dksX4_breaksInto_1 : cX4_breaksInto.data.toList.drop 23 = dktX4_breaksInto_1 := dk_seg dksX4_breaksInto_0 23 rfl rfl
theorem dksX4_breaksInto_2 : cX4_breaksInto.data.toList.drop 46 = dktX4_breaksInto_2 := dk_seg dksX4_breaksInto_1 23 rfl rfl
theorem dX4_breaksInto_0 : decode cX4_breaksInto 0 = .ok (.aload_n 0, 1) := dk_42 (dk_at dksX4_breaksInto_0 0 rfl rfl)
theorem dX4_breaksInto_1 : decode cX4_breaksInto 1 = .ok (.getfield 22, 3) := dk_180 0 22 (dk_at dksX4_breaksInto_0 1 rfl rfl)
theorem dX4_breaksInto_4 : decode cX4_breaksInto 4 = .ok (.aload_n 1, 1) := dk_43 (dk_at dksX4_breaksInto_0 4 rfl rfl)
theorem dX4_breaksInto_5 : decode cX4_breaksInto 5 = .ok (.getfield 22, 3) := dk_180 0 22 (dk_at dksX4_breaksInto_0 5 rfl rfl)
theorem dX4_breaksInto_8 : decode cX4_breaksInto 8 = .ok (.if_icmp .le 45, 3) := dk_164 0 45 (dk_at dksX4_breaksInto_0 8 rfl rfl)
theorem dX4_breaksInto_11 : decode cX4_breaksInto 11 = .ok (.aload_n 0, 1) := dk_42 (dk_at dksX4_breaksInto_0 11 rfl rfl)
theorem dX4_breaksInto_12 : decode cX4_breaksInto 12 = .ok (.getfield 22, 3) := dk_180 0 22 (dk_at dksX4_breaksInto_0 12 rfl rfl)
theorem dX4_breaksInto_15 : decode cX4_breaksInto 15 = .ok (.aload_n 1, 1) := dk_43 (dk_at dksX4_breaksInto_0 15 rfl rfl)
theorem dX4_breaksInto_16 : decode cX4_breaksInto 16 = .ok (.getfield 25, 3) := dk_180 0 25 (dk_at dksX4_breaksInto_0 16 rfl rfl)
theorem dX4_breaksInto_19 : decode cX4_breaksInto 19 = .ok (.if_icmp .ge 34, 3) := dk_162 0 34 (dk_at dksX4_breaksInto_0 19 rfl rfl)
theorem dX4_breaksInto_22 : decode cX4_breaksInto 22 = .ok (.aload_n 0, 1) := dk_42 (dk_at dksX4_breaksInto_0 22 rfl rfl)
theorem dX4_breaksInto_23 : decode cX4_breaksInto 23 = .ok (.getfield 9, 3) := dk_180 0 9 (dk_at dksX4_breaksInto_1 0 rfl rfl)
theorem dX4_breaksInto_26 : decode cX4_breaksInto 26 = .ok (.iconst (-1), 1) := dk_2 (dk_at dksX4_breaksInto_1 3 rfl rfl)
theorem dX4_breaksInto_27 : decode cX4_breaksInto 27 = .ok (.if_icmp .eq 26, 3) := dk_159 0 26 (dk_at dksX4_breaksInto_1 4 rfl rfl)
theorem dX4_breaksInto_30 : decode cX4_breaksInto 30 = .ok (.aload_n 1, 1) := dk_43 (dk_at dksX4_breaksInto_1 7 rfl rfl)
theorem dX4_breaksInto_31 : decode cX4_breaksInto 31 = .ok (.getfield 9, 3) := dk_180 0 9 (dk_at dksX4_breaksInto_1 8 rfl rfl)
theorem dX4_breaksInto_34 : decode cX4_breaksInto 34 = .ok (.iconst (-1), 1) := dk_2 (dk_at dksX4_breaksInto_1 11 rfl rfl)
theorem dX4_breaksInto_35 : decode cX4_breaksInto 35 = .ok (.if_icmp .eq 18, 3) := dk_159 0 18 (dk_at dksX4_breaksInto_1 12 rfl rfl)
theorem dX4_breaksInto_38 : decode cX4_breaksInto 38 = .ok (.aload_n 0, 1) := dk_42 (dk_at dksX4_breaksInto_1 15 rfl rfl)
theorem dX4_breaksInto_39 : decode cX4_breaksInto 39 = .ok (.getfield 9, 3) := dk_180 0 9 (dk_at dksX4_breaksInto_1 16 rfl rfl)
theorem dX4_breaksInto_42 : decode cX4_breaksInto 42 = .ok (.aload_n 1, 1) := dk_43 (dk_at dksX4_breaksInto_1 19 rfl rfl)
theorem dX4_breaksInto_43 : decode cX4_breaksInto 43 = .ok (.getfield 9, 3) := dk_180 0 9 (dk_at dksX4_breaksInto_1 20 rfl rfl)
theorem dX4_breaksInto_46 : decode cX4_breaksInto 46 = .ok (.if_icmp .eq 7, 3) := dk_159 0 7 (dk_at dksX4_breaksInto_2 0 rfl rfl)
theorem dX4_breaksInto_49 : decode cX4_breaksInto 49 = .ok (.iconst 1, 1) := dk_4 (dk_at dksX4_breaksInto_2 3 rfl rfl)
theorem dX4_breaksInto_50 : decode cX4_breaksInto 50 = .ok (.goto 4, 3) := dk_167 0 4 (dk_at dksX4_breaksInto_2 4 rfl rfl)
theorem dX4_breaksInto_53 : decode cX4_breaksInto 53 = .ok (.iconst 0, 1) := dk_3 (dk_at dksX4_breaksInto_2 7 rfl rfl)
theorem dX4_breaksInto_54 : decode cX4_breaksInto 54 = .ok (.ireturn, 1) := dk_172 (dk_at dksX4_breaksInto_2 8 rfl rfl)
abbrev cX4_goesOn : ByteArray := prog_10_method_5_code
def yX4_goesOn : MethodName := ⟨RX4, "goesOn", "(I)Z"⟩
def dkwX4_goesOn_0 : List UInt8 := [27, 42, 180, 0, 22, 161, 0, 15, 27, 42, 180, 0, 25, 162, 0, 7, 4, 167, 0, 4, 3, 172]
abbrev dktX4_goesOn_0 : List UInt8 := dkwX4_goesOn_0 ++ []
theorem dksX4_goesOn_0 : cX4_goesOn.data.toList.drop 0 = dktX4_goesOn_0 := by decide +kernel
theorem dX4_goesOn_0 : decode cX4_goesOn 0 = .ok (.iload_n 1, 1) := dk_27 (dk_at dksX4_goesOn_0 0 rfl rfl)
theorem dX4_goesOn_1 : decode cX4_goesOn 1 = .ok (.aload_n 0, 1) := dk_42 (dk_at dksX4_goesOn_0 1 rfl rfl)
theorem dX4_goesOn_2 : decode cX4_goesOn 2 = .ok (.getfield 22, 3) := dk_180 0 22 (dk_at dksX4_goesOn_0 2 rfl rfl)
theorem dX4_goesOn_5 : decode cX4_goesOn 5 = .ok (.if_icmp .lt 15, 3) := dk_161 0 15 (dk_at dksX4_goesOn_0 5 rfl rfl)
theorem dX4_goesOn_8 : decode cX4_goesOn 8 = .ok (.iload_n 1, 1) := dk_27 (dk_at dksX4_goesOn_0 8 rfl rfl)
theorem dX4_goesOn_9 : decode cX4_goesOn 9 = .ok (.aload_n 0, 1) := dk_42 (dk_at dksX4_goesOn_0 9 rfl rfl)
theorem dX4_goesOn_10 : decode cX4_goesOn 10 = .ok (.getfield 25, 3) := dk_180 0 25 (dk_at dksX4_goesOn_0 10 rfl rfl)
theorem dX4_goesOn_13 : decode cX4_goesOn 13 = .ok (.if_icmp .ge 7, 3) := dk_162 0 7 (dk_at dksX4_goesOn_0 13 rfl rfl)
theorem dX4_goesOn_16 : decode cX4_goesOn 16 = .ok (.iconst 1, 1) := dk_4 (dk_at dksX4_goesOn_0 16 rfl rfl)
theorem dX4_goesOn_17 : decode cX4_goesOn 17 = .ok (.goto 4, 3) := dk_167 0 4 (dk_at dksX4_goesOn_0 17 rfl rfl)
theorem dX4_goesOn_20 : decode cX4_goesOn 20 = .ok (.iconst 0, 1) := dk_3 (dk_at dksX4_goesOn_0 20 rfl rfl)
theorem dX4_goesOn_21 : decode cX4_goesOn 21 = .ok (.ireturn, 1) := dk_172 (dk_at dksX4_goesOn_0 21 rfl rfl)
abbrev cX4_seconds : ByteArray := prog_10_method_7_code
def yX4_seconds : MethodName := ⟨RX4, "seconds", "()I"⟩
def dkwX4_seconds_0 : List UInt8 := [42, 180, 0, 25, 42, 180, 0, 22, 100, 172]
abbrev dktX4_seconds_0 : List UInt8 := dkwX4_seconds_0 ++ []
theorem dksX4_seconds_0 : cX4_seconds.data.toList.drop 0 = dktX4_seconds_0 := by decide +kernel
theorem dX4_seconds_0 : decode cX4_seconds 0 = .ok (.aload_n 0, 1) := dk_42 (dk_at dksX4_seconds_0 0 rfl rfl)
theorem dX4_seconds_1 : decode cX4_seconds 1 = .ok (.getfield 25, 3) := dk_180 0 25 (dk_at dksX4_seconds_0 1 rfl rfl)
theorem dX4_seconds_4 : decode cX4_seconds 4 = .ok (.aload_n 0, 1) := dk_42 (dk_at dksX4_seconds_0 4 rfl rfl)
theorem dX4_seconds_5 : decode cX4_seconds 5 = .ok (.getfield 22, 3) := dk_180 0 22 (dk_at dksX4_seconds_0 5 rfl rfl)
theorem dX4_seconds_8 : decode cX4_seconds 8 = .ok (.isub, 1) := dk_100 (dk_at dksX4_seconds_0 8 rfl rfl)
theorem dX4_seconds_9 : decode cX4_seconds 9 = .ok (.ireturn, 1) := dk_172 (dk_at dksX4_seconds_0 9 rfl rfl)
theorem q78 : (Jvm.Cond.initialized "LectureTurns$Turn") ∈ lw_all := lw_g (lw_at lw_m1 13 rfl) rfl
theorem q252 : (Jvm.Cond.instantiable "LectureTurns$Turn" (5 : Nat)) ∈ lw_all := lw_g (lw_at lw_m1 187 rfl) rfl
theorem q273 : (Jvm.Cond.instanceMethod ({ cls := "LectureTurns$Turn", name := "<init>", desc := "(LLectureTurns$Turn;)V" } : Jvm.MethodName)) ∈ lw_all := lw_g (lw_at lw_m1 208 rfl) rfl
theorem q274 : (Jvm.Cond.code ({ cls := "LectureTurns$Turn", name := "<init>", desc := "(LLectureTurns$Turn;)V" } : Jvm.MethodName) prog_10_method_2_code (4 : Nat) (Option.none : Option Jvm.ClassFile.FieldType)) ∈ lw_all := lw_g (lw_at lw_m1 209 rfl) rfl
theorem q275 : (Jvm.Cond.methodLink "LectureTurns$Turn" (31 : Nat) ({ cls := "LectureTurns$Turn", name := "<init>", desc := "(III)V" } : Jvm.MethodName)) ∈ lw_all := lw_g (lw_at lw_m1 210 rfl) rfl
theorem q276 : (Jvm.Cond.instanceMethod ({ cls := "LectureTurns$Turn", name := "<init>", desc := "(III)V" } : Jvm.MethodName)) ∈ lw_all := lw_g (lw_at lw_m1 211 rfl) rfl
theorem q277 : (Jvm.Cond.code ({ cls := "LectureTurns$Turn", name := "<init>", desc := "(III)V" } : Jvm.MethodName) prog_10_method_1_code (4 : Nat) (Option.none : Option Jvm.ClassFile.FieldType)) ∈ lw_all := lw_g (lw_at lw_m1 212 rfl) rfl
theorem q278 : (Jvm.Cond.methodLink "LectureTurns$Turn" (3 : Nat) ({ cls := "java/lang/Object", name := "<init>", desc := "()V" } : Jvm.MethodName)) ∈ lw_all := lw_g (lw_at lw_m1 213 rfl) rfl
theorem q279 : (Jvm.Cond.classLink "LectureTurns$Turn" (15 : Nat) "java/util/ArrayList") ∈ lw_all := lw_g (lw_at lw_m1 214 rfl) rfl
theorem q280 : (Jvm.Cond.methodLink "LectureTurns$Turn" (17 : Nat) ({ cls := "java/util/ArrayList", name := "<init>", desc := "()V" } : Jvm.MethodName)) ∈ lw_all := lw_g (lw_at lw_m1 215 rfl) rfl
theorem q281 : (Jvm.Cond.fieldLink "LectureTurns$Turn" (22 : Nat) "LectureTurns$Turn" "begin" "I") ∈ lw_all := lw_g (lw_at lw_m1 216 rfl) rfl
theorem q284 : (Jvm.Cond.fieldLink "LectureTurns$Turn" (25 : Nat) "LectureTurns$Turn" "end" "I") ∈ lw_all := lw_g (lw_at lw_m1 219 rfl) rfl
theorem q287 : (Jvm.Cond.fieldLink "LectureTurns$Turn" (28 : Nat) "LectureTurns$Turn" "pitch" "I") ∈ lw_all := lw_g (lw_at lw_m1 222 rfl) rfl
theorem q290 : (Jvm.Cond.fieldLink "LectureTurns$Turn" (9 : Nat) "LectureTurns$Turn" "speaker" "I") ∈ lw_all := lw_g (lw_at lw_m1 225 rfl) rfl
theorem q293 : (Jvm.Cond.fieldLink "LectureTurns$Turn" (18 : Nat) "LectureTurns$Turn" "terms" "Ljava/util/ArrayList;") ∈ lw_all := lw_g (lw_at lw_m1 228 rfl) rfl
theorem q296 : (Jvm.Cond.laysFinal "LectureTurns$Turn" "LectureTurns$Turn" "begin" "I") ∈ lw_all := lw_g (lw_at lw_m1 231 rfl) rfl
theorem q297 : (Jvm.Cond.soleField "LectureTurns$Turn" "begin") ∈ lw_all := lw_g (lw_at lw_m1 232 rfl) rfl
theorem q298 : (Jvm.Cond.lays "LectureTurns$Turn" "LectureTurns$Turn" "end" "I") ∈ lw_all := lw_g (lw_at lw_m1 233 rfl) rfl
theorem q299 : (Jvm.Cond.soleField "LectureTurns$Turn" "end") ∈ lw_all := lw_g (lw_at lw_m1 234 rfl) rfl
theorem q300 : (Jvm.Cond.laysFinal "LectureTurns$Turn" "LectureTurns$Turn" "pitch" "I") ∈ lw_all := lw_g (lw_at lw_m1 235 rfl) rfl
theorem q301 : (Jvm.Cond.soleField "LectureTurns$Turn" "pitch") ∈ lw_all := lw_g (lw_at lw_m1 236 rfl) rfl
theorem q302 : (Jvm.Cond.lays "LectureTurns$Turn" "LectureTurns$Turn" "speaker" "I") ∈ lw_all := lw_g (lw_at lw_m1 237 rfl) rfl
theorem q303 : (Jvm.Cond.soleField "LectureTurns$Turn" "speaker") ∈ lw_all := lw_g (lw_at lw_m1 238 rfl) rfl
theorem q304 : (Jvm.Cond.laysFinal "LectureTurns$Turn" "LectureTurns$Turn" "terms" "Ljava/util/ArrayList;") ∈ lw_all := lw_g (lw_at lw_m1 239 rfl) rfl
theorem q305 : (Jvm.Cond.soleField "LectureTurns$Turn" "terms") ∈ lw_all := lw_g (lw_at lw_m2 0 rfl) rfl
theorem q306 : (Jvm.Cond.superclass "LectureTurns$Turn" "java/lang/Object") ∈ lw_all := lw_g (lw_at lw_m2 1 rfl) rfl
theorem q307 : (Jvm.Cond.methodLink "LectureTurns$Turn" (34 : Nat) ({ cls := "java/util/ArrayList", name := "iterator", desc := "()Ljava/util/Iterator;" } : Jvm.MethodName)) ∈ lw_all := lw_g (lw_at lw_m2 2 rfl) rfl
theorem q330 : (Jvm.Cond.interfaceEntry "LectureTurns$Turn" (38 : Nat)) ∈ lw_tbl := lw_at lw_m2 25 rfl
theorem q331 : (Jvm.Cond.methodLink "LectureTurns$Turn" (38 : Nat) ({ cls := "java/util/Iterator", name := "hasNext", desc := "()Z" } : Jvm.MethodName)) ∈ lw_all := lw_g (lw_at lw_m2 26 rfl) rfl
theorem q340 : (Jvm.Cond.interfaceEntry "LectureTurns$Turn" (44 : Nat)) ∈ lw_tbl := lw_at lw_m2 35 rfl
theorem q341 : (Jvm.Cond.methodLink "LectureTurns$Turn" (44 : Nat) ({ cls := "java/util/Iterator", name := "next", desc := "()Ljava/lang/Object;" } : Jvm.MethodName)) ∈ lw_all := lw_g (lw_at lw_m2 36 rfl) rfl
theorem q353 : (Jvm.Cond.classLink "LectureTurns$Turn" (48 : Nat) "java/lang/Integer") ∈ lw_all := lw_g (lw_at lw_m2 48 rfl) rfl
theorem q354 : (Jvm.Cond.methodLink "LectureTurns$Turn" (50 : Nat) ({ cls := "java/util/ArrayList", name := "add", desc := "(Ljava/lang/Object;)Z" } : Jvm.MethodName)) ∈ lw_all := lw_g (lw_at lw_m2 49 rfl) rfl
theorem q393 : (Jvm.Cond.selects "LectureTurns$Turn" ({ cls := "java/lang/Object", name := "getClass", desc := "()Ljava/lang/Class;" } : Jvm.MethodName) ({ cls := "java/lang/Object", name := "getClass", desc := "()Ljava/lang/Class;" } : Jvm.MethodName)) ∈ lw_all := lw_g (lw_at lw_m2 88 rfl) rfl
theorem q422 : (Jvm.Cond.castable "LectureTurns$Turn" "LectureTurns$Begun") ∈ lw_tbl := lw_at lw_m2 117 rfl
theorem q423 : (Jvm.Cond.selects "LectureTurns$Turn" ({ cls := "LectureTurns$Begun", name := "begins", desc := "()I" } : Jvm.MethodName) ({ cls := "LectureTurns$Turn", name := "begins", desc := "()I" } : Jvm.MethodName)) ∈ lw_all := lw_g (lw_at lw_m2 118 rfl) rfl
theorem q424 : (Jvm.Cond.unhidden "LectureTurns$Turn" "begins" "()I") ∈ lw_tbl := lw_at lw_m2 119 rfl
theorem q425 : (Jvm.Cond.instanceMethod ({ cls := "LectureTurns$Turn", name := "begins", desc := "()I" } : Jvm.MethodName)) ∈ lw_all := lw_g (lw_at lw_m2 120 rfl) rfl
theorem q426 : (Jvm.Cond.publicMethod ({ cls := "LectureTurns$Turn", name := "begins", desc := "()I" } : Jvm.MethodName)) ∈ lw_tbl := lw_at lw_m2 121 rfl
theorem q427 : (Jvm.Cond.code ({ cls := "LectureTurns$Turn", name := "begins", desc := "()I" } : Jvm.MethodName) prog_10_method_3_code (1 : Nat) (Option.some Jvm.ClassFile.FieldType.int)) ∈ lw_all := lw_g (lw_at lw_m2 122 rfl) rfl
theorem q794 : (Jvm.Cond.instanceMethod ({ cls := "LectureTurns$Turn", name := "meets", desc := "(LLectureTurns$Turn;)Z" } : Jvm.MethodName)) ∈ lw_all := lw_g (lw_at lw_m4 9 rfl) rfl
theorem q795 : (Jvm.Cond.selects "LectureTurns$Turn" ({ cls := "LectureTurns$Turn", name := "meets", desc := "(LLectureTurns$Turn;)Z" } : Jvm.MethodName) ({ cls := "LectureTurns$Turn", name := "meets", desc := "(LLectureTurns$Turn;)Z" } : Jvm.MethodName)) ∈ lw_all := lw_g (lw_at lw_m4 10 rfl) rfl
theorem q796 : (Jvm.Cond.code ({ cls := "LectureTurns$Turn", name := "meets", desc := "(LLectureTurns$Turn;)Z" } : Jvm.MethodName) prog_10_method_4_code (2 : Nat) (Option.some Jvm.ClassFile.FieldType.boolean)) ∈ lw_all := lw_g (lw_at lw_m4 11 rfl) rfl
theorem q804 : (Jvm.Cond.instanceMethod ({ cls := "LectureTurns$Turn", name := "breaksInto", desc := "(LLectureTurns$Turn;)Z" } : Jvm.MethodName)) ∈ lw_all := lw_g (lw_at lw_m4 19 rfl) rfl
theorem q805 : (Jvm.Cond.selects "LectureTurns$Turn" ({ cls := "LectureTurns$Turn", name := "breaksInto", desc := "(LLectureTurns$Turn;)Z" } : Jvm.MethodName) ({ cls := "LectureTurns$Turn", name := "breaksInto", desc := "(LLectureTurns$Turn;)Z" } : Jvm.MethodName)) ∈ lw_all := lw_g (lw_at lw_m4 20 rfl) rfl
theorem q806 : (Jvm.Cond.code ({ cls := "LectureTurns$Turn", name := "breaksInto", desc := "(LLectureTurns$Turn;)Z" } : Jvm.MethodName) prog_10_method_6_code (2 : Nat) (Option.some Jvm.ClassFile.FieldType.boolean)) ∈ lw_all := lw_g (lw_at lw_m4 21 rfl) rfl
theorem q818 : (Jvm.Cond.instanceMethod ({ cls := "LectureTurns$Turn", name := "goesOn", desc := "(I)Z" } : Jvm.MethodName)) ∈ lw_all := lw_g (lw_at lw_m4 33 rfl) rfl
theorem q819 : (Jvm.Cond.selects "LectureTurns$Turn" ({ cls := "LectureTurns$Turn", name := "goesOn", desc := "(I)Z" } : Jvm.MethodName) ({ cls := "LectureTurns$Turn", name := "goesOn", desc := "(I)Z" } : Jvm.MethodName)) ∈ lw_all := lw_g (lw_at lw_m4 34 rfl) rfl
theorem q820 : (Jvm.Cond.code ({ cls := "LectureTurns$Turn", name := "goesOn", desc := "(I)Z" } : Jvm.MethodName) prog_10_method_5_code (2 : Nat) (Option.some Jvm.ClassFile.FieldType.boolean)) ∈ lw_all := lw_g (lw_at lw_m4 35 rfl) rfl
theorem q868 : (Jvm.Cond.instanceMethod ({ cls := "LectureTurns$Turn", name := "seconds", desc := "()I" } : Jvm.MethodName)) ∈ lw_all := lw_g (lw_at lw_m4 83 rfl) rfl
theorem q869 : (Jvm.Cond.selects "LectureTurns$Turn" ({ cls := "LectureTurns$Turn", name := "seconds", desc := "()I" } : Jvm.MethodName) ({ cls := "LectureTurns$Turn", name := "seconds", desc := "()I" } : Jvm.MethodName)) ∈ lw_all := lw_g (lw_at lw_m4 84 rfl) rfl
theorem q870 : (Jvm.Cond.code ({ cls := "LectureTurns$Turn", name := "seconds", desc := "()I" } : Jvm.MethodName) prog_10_method_7_code (1 : Nat) (Option.some Jvm.ClassFile.FieldType.int)) ∈ lw_all := lw_g (lw_at lw_m4 85 rfl) rfl
theorem q1636 : (Jvm.Cond.castable "LectureTurns$Turn" "java/lang/Object") ∈ lw_tbl := lw_at lw_m7 131 rfl
theorem in_X4 : ∀ w ∈ wsX40, w ∈ lw_all := lw_in wsX40 [296, 298, 300, 302, 304] (by decide +kernel) (by decide +kernel)
