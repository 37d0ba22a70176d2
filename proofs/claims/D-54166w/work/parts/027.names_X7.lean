/-! LectureTurns$Reader -/
set_option maxRecDepth 100000
def RX7 : String := "LectureTurns$Reader"
def TX7 : u_T := fun k => match k with
  | 0 => ("LectureTurns$Reader", "trial", "LLectureTurns$Lecture;", true)
  | 1 => ("LectureTurns$Reader", "numbers", "[I", true)
  | 2 => ("LectureTurns$Reader", "at", "I", false)
  | 3 => ("LectureTurns$Reader", "many", "I", false)
  | _ => ("LectureTurns$Reader", "this$0", "LLectureTurns;", true)
def tyX7 : Nat → FieldType := fun k => match k with
  | 0 => .object "LectureTurns$Lecture"
  | 1 => .array .int
  | 2 => .int
  | 3 => .int
  | _ => .object "LectureTurns"
abbrev wsX70 : List Cond := u_ws RX7 TX7 5
theorem nmX7 : ∀ a, a < 5 → ∀ b, b < 5 → a ≠ b → (TX7 a).2.1 ≠ (TX7 b).2.1 := by decide +kernel
theorem tyX7_ok : ∀ k, k < 5 → parseFieldDescriptor (TX7 k).2.2.1 = some (tyX7 k) := by decide +kernel
abbrev cX7_init : ByteArray := prog_6_method_1_code
def yX7_init : MethodName := ⟨RX7, "<init>", "(LLectureTurns;)V"⟩
def dkwX7_init_1 : List UInt8 := [181, 0, 24, 42, 6, 188, 10, 181, 0, 27, 177]
abbrev dktX7_init_1 : List UInt8 := dkwX7_init_1 ++ []
def dkwX7_init_0 : List UInt8 := [42, 43, 181, 0, 1, 42, 183, 0, 7, 42, 187, 0, 13, 89, 42, 180, 0, 1, 180, 0, 15, 183, 0, 21]
abbrev dktX7_init_0 : List UInt8 := dkwX7_init_0 ++ dktX7_init_1
theorem dksX7_init_0 : cX7_init.data.toList.drop 0 = dktX7_init_0 := by decide +kernel
theorem dksX7_init_1 : cX7_init.data.toList.drop 24 = dktX7_init_1 := dk_seg dksX7_init_0 24 rfl rfl
theorem dX7_init_0 : decode cX7_init 0 = .ok (.aload_n 0, 1) := dk_42 (dk_at dksX7_init_0 0 rfl rfl)
theorem dX7_init_1 : decode cX7_init 1 = .ok (.aload_n 1, 1) := dk_43 (dk_at dksX7_init_0 1 rfl rfl)
theorem dX7_init_2 : decode cX7_init 2 = .ok (.putfield 1, 3) := dk_181 0 1 (dk_at dksX7_init_0 2 rfl rfl)
theorem dX7_init_5 : decode cX7_init 5 = .ok (.aload_n 0, 1) := dk_42 (dk_at dksX7_init_0 5 rfl rfl)
theorem dX7_init_6 : decode cX7_init 6 = .ok (.invokespecial 7, 3) := dk_183 0 7 (dk_at dksX7_init_0 6 rfl rfl)
theorem dX7_init_9 : decode cX7_init 9 = .ok (.aload_n 0, 1) := dk_42 (dk_at dksX7_init_0 9 rfl rfl)
theorem dX7_init_10 : decode cX7_init 10 = .ok (.new 13, 3) := dk_187 0 13 (dk_at dksX7_init_0 10 rfl rfl)
theorem dX7_init_13 : decode cX7_init 13 = .ok (.dup, 1) := dk_89 (dk_at dksX7_init_0 13 rfl rfl)
theorem dX7_init_14 : decode cX7_init 14 = .ok (.aload_n 0, 1) := dk_42 (dk_at dksX7_init_0 14 rfl rfl)
theorem dX7_init_15 : decode cX7_init 15 = .ok (.getfield 1, 3) := dk_180 0 1 (dk_at dksX7_init_0 15 rfl rfl)
theorem dX7_init_18 : decode cX7_init 18 = .ok (.getfield 15, 3) := dk_180 0 15 (dk_at dksX7_init_0 18 rfl rfl)
theorem dX7_init_21 : decode cX7_init 21 = .ok (.invokespecial 21, 3) := dk_183 0 21 (dk_at dksX7_init_0 21 rfl rfl)
theorem dX7_init_24 : decode cX7_init 24 = .ok (.putfield 24, 3) := dk_181 0 24 (dk_at dksX7_init_1 0 rfl rfl)
theorem dX7_init_27 : decode cX7_init 27 = .ok (.aload_n 0, 1) := dk_42 (dk_at dksX7_init_1 3 rfl rfl)
theorem dX7_init_28 : decode cX7_init 28 = .ok (.iconst 3, 1) := dk_6 (dk_at dksX7_init_1 4 rfl rfl)
theorem dX7_init_29 : decode cX7_init 29 = .ok (.newarray .int, 2) := dk_188_10 (dk_at dksX7_init_1 5 rfl rfl)
theorem dX7_init_31 : decode cX7_init 31 = .ok (.putfield 27, 3) := dk_181 0 27 (dk_at dksX7_init_1 7 rfl rfl)
theorem dX7_init_34 : decode cX7_init 34 = .ok (.return_, 1) := dk_177 (dk_at dksX7_init_1 10 rfl rfl)
abbrev cX7_all : ByteArray := prog_6_method_6_code
def yX7_all : MethodName := ⟨RX7, "all", "()I"⟩
def dkwX7_all_1 : List UInt8 := [42, 180, 0, 85, 172]
abbrev dktX7_all_1 : List UInt8 := dkwX7_all_1 ++ []
def dkwX7_all_0 : List UInt8 := [42, 180, 0, 31, 42, 180, 0, 1, 180, 0, 35, 182, 0, 39, 162, 0, 10, 42, 182, 0, 90, 167, 255, 235]
abbrev dktX7_all_0 : List UInt8 := dkwX7_all_0 ++ dktX7_all_1
theorem dksX7_all_0 : cX7_all.data.toList.drop 0 = dktX7_all_0 := by decide +kernel
theorem dksX7_all_1 : cX7_all.data.toList.drop 24 = dktX7_all_1 := dk_seg dksX7_all_0 24 rfl rfl
theorem dX7_all_0 : decode cX7_all 0 = .ok (.aload_n 0, 1) := dk_42 (dk_at dksX7_all_0 0 rfl rfl)
theorem dX7_all_1 : decode cX7_all 1 = .ok (.getfield 31, 3) := dk_180 0 31 (dk_at dksX7_all_0 1 rfl rfl)
theorem dX7_all_4 : decode cX7_all 4 = .ok (.aload_n 0, 1) := dk_42 (dk_at dksX7_all_0 4 rfl rfl)
theorem dX7_all_5 : decode cX7_all 5 = .ok (.getfield 1, 3) := dk_180 0 1 (dk_at dksX7_all_0 5 rfl rfl)
theorem dX7_all_8 : decode cX7_all 8 = .ok (.getfield 35, 3) := dk_180 0 35 (dk_at dksX7_all_0 8 rfl rfl)
theorem dX7_all_11 : decode cX7_all 11 = .ok (.invokevirtual 39, 3) := dk_182 0 39 (dk_at dksX7_all_0 11 rfl rfl)
theorem dX7_all_14 : decode cX7_all 14 = .ok (.if_icmp .ge 10, 3) := dk_162 0 10 (dk_at dksX7_all_0 14 rfl rfl)
theorem dX7_all_17 : decode cX7_all 17 = .ok (.aload_n 0, 1) := dk_42 (dk_at dksX7_all_0 17 rfl rfl)
theorem dX7_all_18 : decode cX7_all 18 = .ok (.invokevirtual 90, 3) := dk_182 0 90 (dk_at dksX7_all_0 18 rfl rfl)
theorem dX7_all_21 : decode cX7_all 21 = .ok (.goto (-21), 3) := dk_167 255 235 (dk_at dksX7_all_0 21 rfl rfl)
theorem dX7_all_24 : decode cX7_all 24 = .ok (.aload_n 0, 1) := dk_42 (dk_at dksX7_all_1 0 rfl rfl)
theorem dX7_all_25 : decode cX7_all 25 = .ok (.getfield 85, 3) := dk_180 0 85 (dk_at dksX7_all_1 1 rfl rfl)
theorem dX7_all_28 : decode cX7_all 28 = .ok (.ireturn, 1) := dk_172 (dk_at dksX7_all_1 4 rfl rfl)
abbrev cX7_order : ByteArray := prog_6_method_5_code
def yX7_order : MethodName := ⟨RX7, "order", "()V"⟩
def dkwX7_order_6 : List UInt8 := [183, 0, 78, 191, 177]
abbrev dktX7_order_6 : List UInt8 := dkwX7_order_6 ++ []
def dkwX7_order_5 : List UInt8 := [96, 181, 0, 85, 167, 0, 22, 58, 4, 187, 0, 76, 89, 27, 42, 180, 0, 31, 27, 100, 25, 4]
abbrev dktX7_order_5 : List UInt8 := dkwX7_order_5 ++ dktX7_order_6
def dkwX7_order_4 : List UInt8 := [183, 0, 78, 191, 42, 180, 0, 24, 28, 42, 180, 0, 27, 184, 0, 81, 54, 4, 42, 89, 180, 0, 85, 4]
abbrev dktX7_order_4 : List UInt8 := dkwX7_order_4 ++ dktX7_order_5
def dkwX7_order_3 : List UInt8 := [181, 0, 31, 42, 29, 182, 0, 73, 154, 0, 19, 187, 0, 76, 89, 27, 42, 180, 0, 31, 27, 100, 1]
abbrev dktX7_order_3 : List UInt8 := dkwX7_order_3 ++ dktX7_order_4
def dkwX7_order_2 : List UInt8 := [160, 0, 7, 4, 167, 0, 4, 3, 62, 42, 89, 180, 0, 31, 29, 154, 0, 7, 3, 167, 0, 4, 4, 96]
abbrev dktX7_order_2 : List UInt8 := dkwX7_order_2 ++ dktX7_order_3
def dkwX7_order_1 : List UInt8 := [160, 0, 7, 6, 167, 0, 27, 18, 65, 28, 182, 0, 67, 155, 0, 7, 5, 167, 0, 14, 28, 16, 115]
abbrev dktX7_order_1 : List UInt8 := dkwX7_order_1 ++ dktX7_order_2
def dkwX7_order_0 : List UInt8 := [42, 180, 0, 31, 60, 42, 180, 0, 1, 180, 0, 35, 42, 180, 0, 31, 182, 0, 45, 61, 28, 16, 116]
abbrev dktX7_order_0 : List UInt8 := dkwX7_order_0 ++ dktX7_order_1
theorem dksX7_order_0 : cX7_order.data.toList.drop 0 = dktX7_order_0 := by decide +kernel
theorem dksX7_order_1 : cX7_order.data.toList.drop 23 = dktX7_order_1 := dk_seg dksX7_order_0 23 rfl rfl
theorem dksX7_order_2 : cX7_order.data.toList.drop 46 = dktX7_order_2 := dk_seg dksX7_order_1 23 rfl rfl
theorem dksX7_order_3 : cX7_order.data.toList.drop 70 = dktX7_order_3 := dk_seg dksX7_order_2 24 rfl rfl
theorem dksX7_order_4 : cX7_order.data.toList.drop 93 = dktX7_order_4 := dk_seg dksX7_order_3 23 rfl rfl
theorem dksX7_order_5 : cX7_order.data.toList.drop 117 = dktX7_order_5 := dk_seg dksX7_order_4 24 rfl rfl
theorem dksX7_order_6 : cX7_order.data.toList.drop 139 = dktX7_order_6 := dk_seg dksX7_order_5 22 rfl rfl
theorem dX7_order_0 : decode cX7_order 0 = .ok (.aload_n 0, 1) := dk_42 (dk_at dksX7_order_0 0 rfl rfl)
theorem dX7_order_1 : decode cX7_order 1 = .ok (.getfield 31, 3) := dk_180 0 31 (dk_at dksX7_order_0 1 rfl rfl)
theorem dX7_order_4 : decode cX7_order 4 = .ok (.istore_n 1, 1) := dk_60 (dk_at dksX7_order_0 4 rfl rfl)
theorem dX7_order_5 : decode cX7_order 5 = .ok (.aload_n 0, 1) := dk_42 (dk_at dksX7_order_0 5 rfl rfl)
theorem dX7_order_6 : decode cX7_order 6 = .ok (.getfield 1, 3) := dk_180 0 1 (dk_at dksX7_order_0 6 rfl rfl)
theorem dX7_order_9 : decode cX7_order 9 = .ok (.getfield 35, 3) := dk_180 0 35 (dk_at dksX7_order_0 9 rfl rfl)
theorem dX7_order_12 : decode cX7_order 12 = .ok (.aload_n 0, 1) := dk_42 (dk_at dksX7_order_0 12 rfl rfl)
theorem dX7_order_13 : decode cX7_order 13 = .ok (.getfield 31, 3) := dk_180 0 31 (dk_at dksX7_order_0 13 rfl rfl)
theorem dX7_order_16 : decode cX7_order 16 = .ok (.invokevirtual 45, 3) := dk_182 0 45 (dk_at dksX7_order_0 16 rfl rfl)
theorem dX7_order_19 : decode cX7_order 19 = .ok (.istore_n 2, 1) := dk_61 (dk_at dksX7_order_0 19 rfl rfl)
theorem dX7_order_20 : decode cX7_order 20 = .ok (.iload_n 2, 1) := dk_28 (dk_at dksX7_order_0 20 rfl rfl)
theorem dX7_order_21 : decode cX7_order 21 = .ok (.bipush 116, 2) := dk_16 116 (dk_at dksX7_order_0 21 rfl rfl)
theorem dX7_order_23 : decode cX7_order 23 = .ok (.if_icmp .ne 7, 3) := dk_160 0 7 (dk_at dksX7_order_1 0 rfl rfl)
theorem dX7_order_26 : decode cX7_order 26 = .ok (.iconst 3, 1) := dk_6 (dk_at dksX7_order_1 3 rfl rfl)
theorem dX7_order_27 : decode cX7_order 27 = .ok (.goto 27, 3) := dk_167 0 27 (dk_at dksX7_order_1 4 rfl rfl)
theorem dX7_order_30 : decode cX7_order 30 = .ok (.ldc 65, 2) := dk_18 65 (dk_at dksX7_order_1 7 rfl rfl)
theorem dX7_order_32 : decode cX7_order 32 = .ok (.iload_n 2, 1) := dk_28 (dk_at dksX7_order_1 9 rfl rfl)
theorem dX7_order_33 : decode cX7_order 33 = .ok (.invokevirtual 67, 3) := dk_182 0 67 (dk_at dksX7_order_1 10 rfl rfl)
theorem dX7_order_36 : decode cX7_order 36 = .ok (.ifCond .lt 7, 3) := dk_155 0 7 (dk_at dksX7_order_1 13 rfl rfl)
theorem dX7_order_39 : decode cX7_order 39 = .ok (.iconst 2, 1) := dk_5 (dk_at dksX7_order_1 16 rfl rfl)
theorem dX7_order_40 : decode cX7_order 40 = .ok (.goto 14, 3) := dk_167 0 14 (dk_at dksX7_order_1 17 rfl rfl)
theorem dX7_order_43 : decode cX7_order 43 = .ok (.iload_n 2, 1) := dk_28 (dk_at dksX7_order_1 20 rfl rfl)
theorem dX7_order_44 : decode cX7_order 44 = .ok (.bipush 115, 2) := dk_16 115 (dk_at dksX7_order_1 21 rfl rfl)
theorem dX7_order_46 : decode cX7_order 46 = .ok (.if_icmp .ne 7, 3) := dk_160 0 7 (dk_at dksX7_order_2 0 rfl rfl)
theorem dX7_order_49 : decode cX7_order 49 = .ok (.iconst 1, 1) := dk_4 (dk_at dksX7_order_2 3 rfl rfl)
theorem dX7_order_50 : decode cX7_order 50 = .ok (.goto 4, 3) := dk_167 0 4 (dk_at dksX7_order_2 4 rfl rfl)
theorem dX7_order_53 : decode cX7_order 53 = .ok (.iconst 0, 1) := dk_3 (dk_at dksX7_order_2 7 rfl rfl)
theorem dX7_order_54 : decode cX7_order 54 = .ok (.istore_n 3, 1) := dk_62 (dk_at dksX7_order_2 8 rfl rfl)
theorem dX7_order_55 : decode cX7_order 55 = .ok (.aload_n 0, 1) := dk_42 (dk_at dksX7_order_2 9 rfl rfl)
theorem dX7_order_56 : decode cX7_order 56 = .ok (.dup, 1) := dk_89 (dk_at dksX7_order_2 10 rfl rfl)
theorem dX7_order_57 : decode cX7_order 57 = .ok (.getfield 31, 3) := dk_180 0 31 (dk_at dksX7_order_2 11 rfl rfl)
theorem dX7_order_60 : decode cX7_order 60 = .ok (.iload_n 3, 1) := dk_29 (dk_at dksX7_order_2 14 rfl rfl)
theorem dX7_order_61 : decode cX7_order 61 = .ok (.ifCond .ne 7, 3) := dk_154 0 7 (dk_at dksX7_order_2 15 rfl rfl)
theorem dX7_order_64 : decode cX7_order 64 = .ok (.iconst 0, 1) := dk_3 (dk_at dksX7_order_2 18 rfl rfl)
theorem dX7_order_65 : decode cX7_order 65 = .ok (.goto 4, 3) := dk_167 0 4 (dk_at dksX7_order_2 19 rfl rfl)
theorem dX7_order_68 : decode cX7_order 68 = .ok (.iconst 1, 1) := dk_4 (dk_at dksX7_order_2 22 rfl rfl)
theorem dX7_order_69 : decode cX7_order 69 = .ok (.iadd, 1) := dk_96 (dk_at dksX7_order_2 23 rfl rfl)
theorem dX7_order_70 : decode cX7_order 70 = .ok (.putfield 31, 3) := dk_181 0 31 (dk_at dksX7_order_3 0 rfl rfl)
theorem dX7_order_73 : decode cX7_order 73 = .ok (.aload_n 0, 1) := dk_42 (dk_at dksX7_order_3 3 rfl rfl)
theorem dX7_order_74 : decode cX7_order 74 = .ok (.iload_n 3, 1) := dk_29 (dk_at dksX7_order_3 4 rfl rfl)
theorem dX7_order_75 : decode cX7_order 75 = .ok (.invokevirtual 73, 3) := dk_182 0 73 (dk_at dksX7_order_3 5 rfl rfl)
theorem dX7_order_78 : decode cX7_order 78 = .ok (.ifCond .ne 19, 3) := dk_154 0 19 (dk_at dksX7_order_3 8 rfl rfl)
theorem dX7_order_81 : decode cX7_order 81 = .ok (.new 76, 3) := dk_187 0 76 (dk_at dksX7_order_3 11 rfl rfl)
theorem dX7_order_84 : decode cX7_order 84 = .ok (.dup, 1) := dk_89 (dk_at dksX7_order_3 14 rfl rfl)
theorem dX7_order_85 : decode cX7_order 85 = .ok (.iload_n 1, 1) := dk_27 (dk_at dksX7_order_3 15 rfl rfl)
theorem dX7_order_86 : decode cX7_order 86 = .ok (.aload_n 0, 1) := dk_42 (dk_at dksX7_order_3 16 rfl rfl)
theorem dX7_order_87 : decode cX7_order 87 = .ok (.getfield 31, 3) := dk_180 0 31 (dk_at dksX7_order_3 17 rfl rfl)
theorem dX7_order_90 : decode cX7_order 90 = .ok (.iload_n 1, 1) := dk_27 (dk_at dksX7_order_3 20 rfl rfl)
theorem dX7_order_91 : decode cX7_order 91 = .ok (.isub, 1) := dk_100 (dk_at dksX7_order_3 21 rfl rfl)
theorem dX7_order_92 : decode cX7_order 92 = .ok (.aconst_null, 1) := dk_1 (dk_at dksX7_order_3 22 rfl rfl)
theorem dX7_order_93 : decode cX7_order 93 = .ok (.invokespecial 78, 3) := dk_183 0 78 (dk_at dksX7_order_4 0 rfl rfl)
theorem dX7_order_96 : decode cX7_order 96 = .ok (.athrow, 1) := dk_191 (dk_at dksX7_order_4 3 rfl rfl)
theorem dX7_order_97 : decode cX7_order 97 = .ok (.aload_n 0, 1) := dk_42 (dk_at dksX7_order_4 4 rfl rfl)
theorem dX7_order_98 : decode cX7_order 98 = .ok (.getfield 24, 3) := dk_180 0 24 (dk_at dksX7_order_4 5 rfl rfl)
theorem dX7_order_101 : decode cX7_order 101 = .ok (.iload_n 2, 1) := dk_28 (dk_at dksX7_order_4 8 rfl rfl)
theorem dX7_order_102 : decode cX7_order 102 = .ok (.aload_n 0, 1) := dk_42 (dk_at dksX7_order_4 9 rfl rfl)
theorem dX7_order_103 : decode cX7_order 103 = .ok (.getfield 27, 3) := dk_180 0 27 (dk_at dksX7_order_4 10 rfl rfl)
theorem dX7_order_106 : decode cX7_order 106 = .ok (.invokestatic 81, 3) := dk_184 0 81 (dk_at dksX7_order_4 13 rfl rfl)
theorem dX7_order_109 : decode cX7_order 109 = .ok (.istore 4, 2) := dk_54 4 (dk_at dksX7_order_4 16 rfl rfl)
theorem dX7_order_111 : decode cX7_order 111 = .ok (.aload_n 0, 1) := dk_42 (dk_at dksX7_order_4 18 rfl rfl)
theorem dX7_order_112 : decode cX7_order 112 = .ok (.dup, 1) := dk_89 (dk_at dksX7_order_4 19 rfl rfl)
theorem dX7_order_113 : decode cX7_order 113 = .ok (.getfield 85, 3) := dk_180 0 85 (dk_at dksX7_order_4 20 rfl rfl)
theorem dX7_order_116 : decode cX7_order 116 = .ok (.iconst 1, 1) := dk_4 (dk_at dksX7_order_4 23 rfl rfl)
theorem dX7_order_117 : decode cX7_order 117 = .ok (.iadd, 1) := dk_96 (dk_at dksX7_order_5 0 rfl rfl)
theorem dX7_order_118 : decode cX7_order 118 = .ok (.putfield 85, 3) := dk_181 0 85 (dk_at dksX7_order_5 1 rfl rfl)
theorem dX7_order_121 : decode cX7_order 121 = .ok (.goto 22, 3) := dk_167 0 22 (dk_at dksX7_order_5 4 rfl rfl)
theorem dX7_order_124 : decode cX7_order 124 = .ok (.astore 4, 2) := dk_58 4 (dk_at dksX7_order_5 7 rfl rfl)
theorem dX7_order_126 : decode cX7_order 126 = .ok (.new 76, 3) := dk_187 0 76 (dk_at dksX7_order_5 9 rfl rfl)
theorem dX7_order_129 : decode cX7_order 129 = .ok (.dup, 1) := dk_89 (dk_at dksX7_order_5 12 rfl rfl)
theorem dX7_order_130 : decode cX7_order 130 = .ok (.iload_n 1, 1) := dk_27 (dk_at dksX7_order_5 13 rfl rfl)
theorem dX7_order_131 : decode cX7_order 131 = .ok (.aload_n 0, 1) := dk_42 (dk_at dksX7_order_5 14 rfl rfl)
theorem dX7_order_132 : decode cX7_order 132 = .ok (.getfield 31, 3) := dk_180 0 31 (dk_at dksX7_order_5 15 rfl rfl)
theorem dX7_order_135 : decode cX7_order 135 = .ok (.iload_n 1, 1) := dk_27 (dk_at dksX7_order_5 18 rfl rfl)
theorem dX7_order_136 : decode cX7_order 136 = .ok (.isub, 1) := dk_100 (dk_at dksX7_order_5 19 rfl rfl)
theorem dX7_order_137 : decode cX7_order 137 = .ok (.aload 4, 2) := dk_25 4 (dk_at dksX7_order_5 20 rfl rfl)
theorem dX7_order_139 : decode cX7_order 139 = .ok (.invokespecial 78, 3) := dk_183 0 78 (dk_at dksX7_order_6 0 rfl rfl)
theorem dX7_order_142 : decode cX7_order 142 = .ok (.athrow, 1) := dk_191 (dk_at dksX7_order_6 3 rfl rfl)
theorem dX7_order_143 : decode cX7_order 143 = .ok (.return_, 1) := dk_177 (dk_at dksX7_order_6 4 rfl rfl)
abbrev cX7_isOfForm : ByteArray := prog_6_method_4_code
def yX7_isOfForm : MethodName := ⟨RX7, "isOfForm", "(I)Z"⟩
def dkwX7_isOfForm_3 : List UInt8 := [167, 0, 4, 3, 172]
abbrev dktX7_isOfForm_3 : List UInt8 := dkwX7_isOfForm_3 ++ []
def dkwX7_isOfForm_2 : List UInt8 := [3, 61, 132, 3, 1, 167, 255, 217, 28, 153, 0, 16, 42, 16, 59, 182, 0, 57, 153, 0, 7, 4]
abbrev dktX7_isOfForm_2 : List UInt8 := dkwX7_isOfForm_2 ++ dktX7_isOfForm_3
def dkwX7_isOfForm_1 : List UInt8 := [153, 0, 12, 42, 16, 44, 182, 0, 57, 153, 0, 15, 42, 29, 182, 0, 61, 153, 0, 7, 4, 167, 0, 4]
abbrev dktX7_isOfForm_1 : List UInt8 := dkwX7_isOfForm_1 ++ dktX7_isOfForm_2
def dkwX7_isOfForm_0 : List UInt8 := [27, 158, 0, 7, 4, 167, 0, 4, 3, 61, 3, 62, 29, 27, 162, 0, 40, 28, 153, 0, 36, 29]
abbrev dktX7_isOfForm_0 : List UInt8 := dkwX7_isOfForm_0 ++ dktX7_isOfForm_1
theorem dksX7_isOfForm_0 : cX7_isOfForm.data.toList.drop 0 = dktX7_isOfForm_0 := by decide +kernel
theorem dksX7_isOfForm_1 : cX7_isOfForm.data.toList.drop 22 = dktX7_isOfForm_1 := dk_seg dksX7_isOfForm_0 22 rfl rfl
theorem dksX7_isOfForm_2 : cX7_isOfForm.data.toList.drop 46 = dktX7_isOfForm_2 := dk_seg dksX7_isOfForm_1 24 rfl rfl
theorem dksX7_isOfForm_3 : cX7_isOfForm.data.toList.drop 68 = dktX7_isOfForm_3 := dk_seg dksX7_isOfForm_2 22 rfl rfl
theorem dX7_isOfForm_0 : decode cX7_isOfForm 0 = .ok (.iload_n 1, 1) := dk_27 (dk_at dksX7_isOfForm_0 0 rfl rfl)
theorem dX7_isOfForm_1 : decode cX7_isOfForm 1 = .ok (.ifCond .le 7, 3) := dk_158 0 7 (dk_at dksX7_isOfForm_0 1 rfl rfl)
theorem dX7_isOfForm_4 : decode cX7_isOfForm 4 = .ok (.iconst 1, 1) := dk_4 (dk_at dksX7_isOfForm_0 4 rfl rfl)
theorem dX7_isOfForm_5 : decode cX7_isOfForm 5 = .ok (.goto 4, 3) := dk_167 0 4 (dk_at dksX7_isOfForm_0 5 rfl rfl)
theorem dX7_isOfForm_8 : decode cX7_isOfForm 8 = .ok (.iconst 0, 1) := dk_3 (dk_at dksX7_isOfForm_0 8 rfl rfl)
theorem dX7_isOfForm_9 : decode cX7_isOfForm 9 = .ok (.istore_n 2, 1) := dk_61 (dk_at dksX7_isOfForm_0 9 rfl rfl)
theorem dX7_isOfForm_10 : decode cX7_isOfForm 10 = .ok (.iconst 0, 1) := dk_3 (dk_at dksX7_isOfForm_0 10 rfl rfl)
theorem dX7_isOfForm_11 : decode cX7_isOfForm 11 = .ok (.istore_n 3, 1) := dk_62 (dk_at dksX7_isOfForm_0 11 rfl rfl)
theorem dX7_isOfForm_12 : decode cX7_isOfForm 12 = .ok (.iload_n 3, 1) := dk_29 (dk_at dksX7_isOfForm_0 12 rfl rfl)
theorem dX7_isOfForm_13 : decode cX7_isOfForm 13 = .ok (.iload_n 1, 1) := dk_27 (dk_at dksX7_isOfForm_0 13 rfl rfl)
theorem dX7_isOfForm_14 : decode cX7_isOfForm 14 = .ok (.if_icmp .ge 40, 3) := dk_162 0 40 (dk_at dksX7_isOfForm_0 14 rfl rfl)
theorem dX7_isOfForm_17 : decode cX7_isOfForm 17 = .ok (.iload_n 2, 1) := dk_28 (dk_at dksX7_isOfForm_0 17 rfl rfl)
theorem dX7_isOfForm_18 : decode cX7_isOfForm 18 = .ok (.ifCond .eq 36, 3) := dk_153 0 36 (dk_at dksX7_isOfForm_0 18 rfl rfl)
theorem dX7_isOfForm_21 : decode cX7_isOfForm 21 = .ok (.iload_n 3, 1) := dk_29 (dk_at dksX7_isOfForm_0 21 rfl rfl)
theorem dX7_isOfForm_22 : decode cX7_isOfForm 22 = .ok (.ifCond .eq 12, 3) := dk_153 0 12 (dk_at dksX7_isOfForm_1 0 rfl rfl)
theorem dX7_isOfForm_25 : decode cX7_isOfForm 25 = .ok (.aload_n 0, 1) := dk_42 (dk_at dksX7_isOfForm_1 3 rfl rfl)
theorem dX7_isOfForm_26 : decode cX7_isOfForm 26 = .ok (.bipush 44, 2) := dk_16 44 (dk_at dksX7_isOfForm_1 4 rfl rfl)
theorem dX7_isOfForm_28 : decode cX7_isOfForm 28 = .ok (.invokevirtual 57, 3) := dk_182 0 57 (dk_at dksX7_isOfForm_1 6 rfl rfl)
theorem dX7_isOfForm_31 : decode cX7_isOfForm 31 = .ok (.ifCond .eq 15, 3) := dk_153 0 15 (dk_at dksX7_isOfForm_1 9 rfl rfl)
theorem dX7_isOfForm_34 : decode cX7_isOfForm 34 = .ok (.aload_n 0, 1) := dk_42 (dk_at dksX7_isOfForm_1 12 rfl rfl)
theorem dX7_isOfForm_35 : decode cX7_isOfForm 35 = .ok (.iload_n 3, 1) := dk_29 (dk_at dksX7_isOfForm_1 13 rfl rfl)
theorem dX7_isOfForm_36 : decode cX7_isOfForm 36 = .ok (.invokevirtual 61, 3) := dk_182 0 61 (dk_at dksX7_isOfForm_1 14 rfl rfl)
theorem dX7_isOfForm_39 : decode cX7_isOfForm 39 = .ok (.ifCond .eq 7, 3) := dk_153 0 7 (dk_at dksX7_isOfForm_1 17 rfl rfl)
theorem dX7_isOfForm_42 : decode cX7_isOfForm 42 = .ok (.iconst 1, 1) := dk_4 (dk_at dksX7_isOfForm_1 20 rfl rfl)
theorem dX7_isOfForm_43 : decode cX7_isOfForm 43 = .ok (.goto 4, 3) := dk_167 0 4 (dk_at dksX7_isOfForm_1 21 rfl rfl)
theorem dX7_isOfForm_46 : decode cX7_isOfForm 46 = .ok (.iconst 0, 1) := dk_3 (dk_at dksX7_isOfForm_2 0 rfl rfl)
theorem dX7_isOfForm_47 : decode cX7_isOfForm 47 = .ok (.istore_n 2, 1) := dk_61 (dk_at dksX7_isOfForm_2 1 rfl rfl)
theorem dX7_isOfForm_48 : decode cX7_isOfForm 48 = .ok (.iinc 3 1, 3) := dk_132 3 1 (dk_at dksX7_isOfForm_2 2 rfl rfl)
theorem dX7_isOfForm_51 : decode cX7_isOfForm 51 = .ok (.goto (-39), 3) := dk_167 255 217 (dk_at dksX7_isOfForm_2 5 rfl rfl)
theorem dX7_isOfForm_54 : decode cX7_isOfForm 54 = .ok (.iload_n 2, 1) := dk_28 (dk_at dksX7_isOfForm_2 8 rfl rfl)
theorem dX7_isOfForm_55 : decode cX7_isOfForm 55 = .ok (.ifCond .eq 16, 3) := dk_153 0 16 (dk_at dksX7_isOfForm_2 9 rfl rfl)
theorem dX7_isOfForm_58 : decode cX7_isOfForm 58 = .ok (.aload_n 0, 1) := dk_42 (dk_at dksX7_isOfForm_2 12 rfl rfl)
theorem dX7_isOfForm_59 : decode cX7_isOfForm 59 = .ok (.bipush 59, 2) := dk_16 59 (dk_at dksX7_isOfForm_2 13 rfl rfl)
theorem dX7_isOfForm_61 : decode cX7_isOfForm 61 = .ok (.invokevirtual 57, 3) := dk_182 0 57 (dk_at dksX7_isOfForm_2 15 rfl rfl)
theorem dX7_isOfForm_64 : decode cX7_isOfForm 64 = .ok (.ifCond .eq 7, 3) := dk_153 0 7 (dk_at dksX7_isOfForm_2 18 rfl rfl)
theorem dX7_isOfForm_67 : decode cX7_isOfForm 67 = .ok (.iconst 1, 1) := dk_4 (dk_at dksX7_isOfForm_2 21 rfl rfl)
theorem dX7_isOfForm_68 : decode cX7_isOfForm 68 = .ok (.goto 4, 3) := dk_167 0 4 (dk_at dksX7_isOfForm_3 0 rfl rfl)
theorem dX7_isOfForm_71 : decode cX7_isOfForm 71 = .ok (.iconst 0, 1) := dk_3 (dk_at dksX7_isOfForm_3 3 rfl rfl)
theorem dX7_isOfForm_72 : decode cX7_isOfForm 72 = .ok (.ireturn, 1) := dk_172 (dk_at dksX7_isOfForm_3 4 rfl rfl)
abbrev cX7_accepts : ByteArray := prog_6_method_2_code
def yX7_accepts : MethodName := ⟨RX7, "accepts", "(C)Z"⟩
def dkwX7_accepts_2 : List UInt8 := [153, 0, 7, 4, 167, 0, 4, 3, 96, 181, 0, 31, 28, 172]
abbrev dktX7_accepts_2 : List UInt8 := dkwX7_accepts_2 ++ []
def dkwX7_accepts_1 : List UInt8 := [42, 180, 0, 31, 182, 0, 45, 27, 160, 0, 7, 4, 167, 0, 4, 3, 61, 42, 89, 180, 0, 31, 28]
abbrev dktX7_accepts_1 : List UInt8 := dkwX7_accepts_1 ++ dktX7_accepts_2
def dkwX7_accepts_0 : List UInt8 := [42, 180, 0, 31, 42, 180, 0, 1, 180, 0, 35, 182, 0, 39, 162, 0, 25, 42, 180, 0, 1, 180, 0, 35]
abbrev dktX7_accepts_0 : List UInt8 := dkwX7_accepts_0 ++ dktX7_accepts_1
theorem dksX7_accepts_0 : cX7_accepts.data.toList.drop 0 = dktX7_accepts_0 := by decide +kernel
theorem dksX7_accepts_1 : cX7_accepts.data.toList.drop 24 = dktX7_accepts_1 := dk_seg dksX7_accepts_0 24 rfl rfl
theorem dksX7_accepts_2 : cX7_accepts.data.toList.drop 47 = dktX7_accepts_2 := dk_seg dksX7_accepts_1 23 rfl rfl
theorem dX7_accepts_0 : decode cX7_accepts 0 = .ok (.aload_n 0, 1) := dk_42 (dk_at dksX7_accepts_0 0 rfl rfl)
theorem dX7_accepts_1 : decode cX7_accepts 1 = .ok (.getfield 31, 3) := dk_180 0 31 (dk_at dksX7_accepts_0 1 rfl rfl)
theorem dX7_accepts_4 : decode cX7_accepts 4 = .ok (.aload_n 0, 1) := dk_42 (dk_at dksX7_accepts_0 4 rfl rfl)
theorem dX7_accepts_5 : decode cX7_accepts 5 = .ok (.getfield 1, 3) := dk_180 0 1 (dk_at dksX7_accepts_0 5 rfl rfl)
theorem dX7_accepts_8 : decode cX7_accepts 8 = .ok (.getfield 35, 3) := dk_180 0 35 (dk_at dksX7_accepts_0 8 rfl rfl)
theorem dX7_accepts_11 : decode cX7_accepts 11 = .ok (.invokevirtual 39, 3) := dk_182 0 39 (dk_at dksX7_accepts_0 11 rfl rfl)
theorem dX7_accepts_14 : decode cX7_accepts 14 = .ok (.if_icmp .ge 25, 3) := dk_162 0 25 (dk_at dksX7_accepts_0 14 rfl rfl)
theorem dX7_accepts_17 : decode cX7_accepts 17 = .ok (.aload_n 0, 1) := dk_42 (dk_at dksX7_accepts_0 17 rfl rfl)
theorem dX7_accepts_18 : decode cX7_accepts 18 = .ok (.getfield 1, 3) := dk_180 0 1 (dk_at dksX7_accepts_0 18 rfl rfl)
theorem dX7_accepts_21 : decode cX7_accepts 21 = .ok (.getfield 35, 3) := dk_180 0 35 (dk_at dksX7_accepts_0 21 rfl rfl)
theorem dX7_accepts_24 : decode cX7_accepts 24 = .ok (.aload_n 0, 1) := dk_42 (dk_at dksX7_accepts_1 0 rfl rfl)
theorem dX7_accepts_25 : decode cX7_accepts 25 = .ok (.getfield 31, 3) := dk_180 0 31 (dk_at dksX7_accepts_1 1 rfl rfl)
theorem dX7_accepts_28 : decode cX7_accepts 28 = .ok (.invokevirtual 45, 3) := dk_182 0 45 (dk_at dksX7_accepts_1 4 rfl rfl)
theorem dX7_accepts_31 : decode cX7_accepts 31 = .ok (.iload_n 1, 1) := dk_27 (dk_at dksX7_accepts_1 7 rfl rfl)
theorem dX7_accepts_32 : decode cX7_accepts 32 = .ok (.if_icmp .ne 7, 3) := dk_160 0 7 (dk_at dksX7_accepts_1 8 rfl rfl)
theorem dX7_accepts_35 : decode cX7_accepts 35 = .ok (.iconst 1, 1) := dk_4 (dk_at dksX7_accepts_1 11 rfl rfl)
theorem dX7_accepts_36 : decode cX7_accepts 36 = .ok (.goto 4, 3) := dk_167 0 4 (dk_at dksX7_accepts_1 12 rfl rfl)
theorem dX7_accepts_39 : decode cX7_accepts 39 = .ok (.iconst 0, 1) := dk_3 (dk_at dksX7_accepts_1 15 rfl rfl)
theorem dX7_accepts_40 : decode cX7_accepts 40 = .ok (.istore_n 2, 1) := dk_61 (dk_at dksX7_accepts_1 16 rfl rfl)
theorem dX7_accepts_41 : decode cX7_accepts 41 = .ok (.aload_n 0, 1) := dk_42 (dk_at dksX7_accepts_1 17 rfl rfl)
theorem dX7_accepts_42 : decode cX7_accepts 42 = .ok (.dup, 1) := dk_89 (dk_at dksX7_accepts_1 18 rfl rfl)
theorem dX7_accepts_43 : decode cX7_accepts 43 = .ok (.getfield 31, 3) := dk_180 0 31 (dk_at dksX7_accepts_1 19 rfl rfl)
theorem dX7_accepts_46 : decode cX7_accepts 46 = .ok (.iload_n 2, 1) := dk_28 (dk_at dksX7_accepts_1 22 rfl rfl)
theorem dX7_accepts_47 : decode cX7_accepts 47 = .ok (.ifCond .eq 7, 3) := dk_153 0 7 (dk_at dksX7_accepts_2 0 rfl rfl)
theorem dX7_accepts_50 : decode cX7_accepts 50 = .ok (.iconst 1, 1) := dk_4 (dk_at dksX7_accepts_2 3 rfl rfl)
theorem dX7_accepts_51 : decode cX7_accepts 51 = .ok (.goto 4, 3) := dk_167 0 4 (dk_at dksX7_accepts_2 4 rfl rfl)
theorem dX7_accepts_54 : decode cX7_accepts 54 = .ok (.iconst 0, 1) := dk_3 (dk_at dksX7_accepts_2 7 rfl rfl)
theorem dX7_accepts_55 : decode cX7_accepts 55 = .ok (.iadd, 1) := dk_96 (dk_at dksX7_accepts_2 8 rfl rfl)
theorem dX7_accepts_56 : decode cX7_accepts 56 = .ok (.putfield 31, 3) := dk_181 0 31 (dk_at dksX7_accepts_2 9 rfl rfl)
theorem dX7_accepts_59 : decode cX7_accepts 59 = .ok (.iload_n 2, 1) := dk_28 (dk_at dksX7_accepts_2 12 rfl rfl)
theorem dX7_accepts_60 : decode cX7_accepts 60 = .ok (.ireturn, 1) := dk_172 (dk_at dksX7_accepts_2 13 rfl rfl)
abbrev cX7_number : ByteArray := prog_6_method_3_code
def yX7_number : MethodName := ⟨RX7, "number", "(I)Z"⟩
def dkwX7_number_4 : List UInt8 := [42, 89, 180, 0, 31, 4, 96, 181, 0, 31, 167, 255, 161, 28, 158, 0, 7, 4, 167, 0, 4, 3, 172]
abbrev dktX7_number_4 : List UInt8 := dkwX7_number_4 ++ []
def dkwX7_number_3 : List UInt8 := [46, 104, 42, 180, 0, 1, 180, 0, 35, 42, 180, 0, 31, 182, 0, 45, 96, 16, 48, 100, 79, 132, 2, 1]
abbrev dktX7_number_3 : List UInt8 := dkwX7_number_3 ++ dktX7_number_4
def dkwX7_number_2 : List UInt8 := [20, 0, 49, 20, 0, 51, 184, 0, 53, 153, 0, 52, 42, 180, 0, 27, 27, 16, 10, 42, 180, 0, 27, 27]
abbrev dktX7_number_2 : List UInt8 := dkwX7_number_2 ++ dktX7_number_3
def dkwX7_number_1 : List UInt8 := [180, 0, 35, 182, 0, 39, 162, 0, 79, 42, 180, 0, 1, 180, 0, 35, 42, 180, 0, 31, 182, 0, 45, 133]
abbrev dktX7_number_1 : List UInt8 := dkwX7_number_1 ++ dktX7_number_2
def dkwX7_number_0 : List UInt8 := [3, 61, 42, 180, 0, 27, 27, 3, 79, 28, 7, 162, 0, 96, 42, 180, 0, 31, 42, 180, 0, 1]
abbrev dktX7_number_0 : List UInt8 := dkwX7_number_0 ++ dktX7_number_1
theorem dksX7_number_0 : cX7_number.data.toList.drop 0 = dktX7_number_0 := by decide +kernel
theorem dksX7_number_1 : cX7_number.data.toList.drop 22 = dktX7_number_1 := dk_seg dksX7_number_0 22 rfl rfl
theorem dksX7_number_2 : cX7_number.data.toList.drop 46 = dktX7_number_2 := dk_seg dksX7_number_1 24 rfl rfl
theorem dksX7_number_3 : cX7_number.data.toList.drop 70 = dktX7_number_3 := dk_seg dksX7_number_2 24 rfl rfl
theorem dksX7_number_4 : cX7_number.data.toList.drop 94 = dktX7_number_4 := dk_seg dksX7_number_3 24 rfl rfl
theorem dX7_number_0 : decode cX7_number 0 = .ok (.iconst 0, 1) := dk_3 (dk_at dksX7_number_0 0 rfl rfl)
theorem dX7_number_1 : decode cX7_number 1 = .ok (.istore_n 2, 1) := dk_61 (dk_at dksX7_number_0 1 rfl rfl)
theorem dX7_number_2 : decode cX7_number 2 = .ok (.aload_n 0, 1) := dk_42 (dk_at dksX7_number_0 2 rfl rfl)
theorem dX7_number_3 : decode cX7_number 3 = .ok (.getfield 27, 3) := dk_180 0 27 (dk_at dksX7_number_0 3 rfl rfl)
theorem dX7_number_6 : decode cX7_number 6 = .ok (.iload_n 1, 1) := dk_27 (dk_at dksX7_number_0 6 rfl rfl)
theorem dX7_number_7 : decode cX7_number 7 = .ok (.iconst 0, 1) := dk_3 (dk_at dksX7_number_0 7 rfl rfl)
theorem dX7_number_8 : decode cX7_number 8 = .ok (.iastore, 1) := dk_79 (dk_at dksX7_number_0 8 rfl rfl)
theorem dX7_number_9 : decode cX7_number 9 = .ok (.iload_n 2, 1) := dk_28 (dk_at dksX7_number_0 9 rfl rfl)
theorem dX7_number_10 : decode cX7_number 10 = .ok (.iconst 4, 1) := dk_7 (dk_at dksX7_number_0 10 rfl rfl)
theorem dX7_number_11 : decode cX7_number 11 = .ok (.if_icmp .ge 96, 3) := dk_162 0 96 (dk_at dksX7_number_0 11 rfl rfl)
theorem dX7_number_14 : decode cX7_number 14 = .ok (.aload_n 0, 1) := dk_42 (dk_at dksX7_number_0 14 rfl rfl)
theorem dX7_number_15 : decode cX7_number 15 = .ok (.getfield 31, 3) := dk_180 0 31 (dk_at dksX7_number_0 15 rfl rfl)
theorem dX7_number_18 : decode cX7_number 18 = .ok (.aload_n 0, 1) := dk_42 (dk_at dksX7_number_0 18 rfl rfl)
theorem dX7_number_19 : decode cX7_number 19 = .ok (.getfield 1, 3) := dk_180 0 1 (dk_at dksX7_number_0 19 rfl rfl)
theorem dX7_number_22 : decode cX7_number 22 = .ok (.getfield 35, 3) := dk_180 0 35 (dk_at dksX7_number_1 0 rfl rfl)
theorem dX7_number_25 : decode cX7_number 25 = .ok (.invokevirtual 39, 3) := dk_182 0 39 (dk_at dksX7_number_1 3 rfl rfl)
theorem dX7_number_28 : decode cX7_number 28 = .ok (.if_icmp .ge 79, 3) := dk_162 0 79 (dk_at dksX7_number_1 6 rfl rfl)
theorem dX7_number_31 : decode cX7_number 31 = .ok (.aload_n 0, 1) := dk_42 (dk_at dksX7_number_1 9 rfl rfl)
theorem dX7_number_32 : decode cX7_number 32 = .ok (.getfield 1, 3) := dk_180 0 1 (dk_at dksX7_number_1 10 rfl rfl)
theorem dX7_number_35 : decode cX7_number 35 = .ok (.getfield 35, 3) := dk_180 0 35 (dk_at dksX7_number_1 13 rfl rfl)
theorem dX7_number_38 : decode cX7_number 38 = .ok (.aload_n 0, 1) := dk_42 (dk_at dksX7_number_1 16 rfl rfl)
theorem dX7_number_39 : decode cX7_number 39 = .ok (.getfield 31, 3) := dk_180 0 31 (dk_at dksX7_number_1 17 rfl rfl)
theorem dX7_number_42 : decode cX7_number 42 = .ok (.invokevirtual 45, 3) := dk_182 0 45 (dk_at dksX7_number_1 20 rfl rfl)
theorem dX7_number_45 : decode cX7_number 45 = .ok (.i2l, 1) := dk_133 (dk_at dksX7_number_1 23 rfl rfl)
theorem dX7_number_46 : decode cX7_number 46 = .ok (.ldc2_w 49, 3) := dk_20 0 49 (dk_at dksX7_number_2 0 rfl rfl)
theorem dX7_number_49 : decode cX7_number 49 = .ok (.ldc2_w 51, 3) := dk_20 0 51 (dk_at dksX7_number_2 3 rfl rfl)
theorem dX7_number_52 : decode cX7_number 52 = .ok (.invokestatic 53, 3) := dk_184 0 53 (dk_at dksX7_number_2 6 rfl rfl)
theorem dX7_number_55 : decode cX7_number 55 = .ok (.ifCond .eq 52, 3) := dk_153 0 52 (dk_at dksX7_number_2 9 rfl rfl)
theorem dX7_number_58 : decode cX7_number 58 = .ok (.aload_n 0, 1) := dk_42 (dk_at dksX7_number_2 12 rfl rfl)
theorem dX7_number_59 : decode cX7_number 59 = .ok (.getfield 27, 3) := dk_180 0 27 (dk_at dksX7_number_2 13 rfl rfl)
theorem dX7_number_62 : decode cX7_number 62 = .ok (.iload_n 1, 1) := dk_27 (dk_at dksX7_number_2 16 rfl rfl)
theorem dX7_number_63 : decode cX7_number 63 = .ok (.bipush 10, 2) := dk_16 10 (dk_at dksX7_number_2 17 rfl rfl)
theorem dX7_number_65 : decode cX7_number 65 = .ok (.aload_n 0, 1) := dk_42 (dk_at dksX7_number_2 19 rfl rfl)
theorem dX7_number_66 : decode cX7_number 66 = .ok (.getfield 27, 3) := dk_180 0 27 (dk_at dksX7_number_2 20 rfl rfl)
theorem dX7_number_69 : decode cX7_number 69 = .ok (.iload_n 1, 1) := dk_27 (dk_at dksX7_number_2 23 rfl rfl)
theorem dX7_number_70 : decode cX7_number 70 = .ok (.iaload, 1) := dk_46 (dk_at dksX7_number_3 0 rfl rfl)
theorem dX7_number_71 : decode cX7_number 71 = .ok (.imul, 1) := dk_104 (dk_at dksX7_number_3 1 rfl rfl)
theorem dX7_number_72 : decode cX7_number 72 = .ok (.aload_n 0, 1) := dk_42 (dk_at dksX7_number_3 2 rfl rfl)
theorem dX7_number_73 : decode cX7_number 73 = .ok (.getfield 1, 3) := dk_180 0 1 (dk_at dksX7_number_3 3 rfl rfl)
theorem dX7_number_76 : decode cX7_number 76 = .ok (.getfield 35, 3) := dk_180 0 35 (dk_at dksX7_number_3 6 rfl rfl)
theorem dX7_number_79 : decode cX7_number 79 = .ok (.aload_n 0, 1) := dk_42 (dk_at dksX7_number_3 9 rfl rfl)
theorem dX7_number_80 : decode cX7_number 80 = .ok (.getfield 31, 3) := dk_180 0 31 (dk_at dksX7_number_3 10 rfl rfl)
theorem dX7_number_83 : decode cX7_number 83 = .ok (.invokevirtual 45, 3) := dk_182 0 45 (dk_at dksX7_number_3 13 rfl rfl)
theorem dX7_number_86 : decode cX7_number 86 = .ok (.iadd, 1) := dk_96 (dk_at dksX7_number_3 16 rfl rfl)
theorem dX7_number_87 : decode cX7_number 87 = .ok (.bipush 48, 2) := dk_16 48 (dk_at dksX7_number_3 17 rfl rfl)
theorem dX7_number_89 : decode cX7_number 89 = .ok (.isub, 1) := dk_100 (dk_at dksX7_number_3 19 rfl rfl)
theorem dX7_number_90 : decode cX7_number 90 = .ok (.iastore, 1) := dk_79 (dk_at dksX7_number_3 20 rfl rfl)
theorem dX7_number_91 : decode cX7_number 91 = .ok (.iinc 2 1, 3) := dk_132 2 1 (dk_at dksX7_number_3 21 rfl rfl)
theorem dX7_number_94 : decode cX7_number 94 = .ok (.aload_n 0, 1) := dk_42 (dk_at dksX7_number_4 0 rfl rfl)
theorem dX7_number_95 : decode cX7_number 95 = .ok (.dup, 1) := dk_89 (dk_at dksX7_number_4 1 rfl rfl)
theorem dX7_number_96 : decode cX7_number 96 = .ok (.getfield 31, 3) := dk_180 0 31 (dk_at dksX7_number_4 2 rfl rfl)
theorem dX7_number_99 : decode cX7_number 99 = .ok (.iconst 1, 1) := dk_4 (dk_at dksX7_number_4 5 rfl rfl)
theorem dX7_number_100 : decode cX7_number 100 = .ok (.iadd, 1) := dk_96 (dk_at dksX7_number_4 6 rfl rfl)
theorem dX7_number_101 : decode cX7_number 101 = .ok (.putfield 31, 3) := dk_181 0 31 (dk_at dksX7_number_4 7 rfl rfl)
theorem dX7_number_104 : decode cX7_number 104 = .ok (.goto (-95), 3) := dk_167 255 161 (dk_at dksX7_number_4 10 rfl rfl)
theorem dX7_number_107 : decode cX7_number 107 = .ok (.iload_n 2, 1) := dk_28 (dk_at dksX7_number_4 13 rfl rfl)
theorem dX7_number_108 : decode cX7_number 108 = .ok (.ifCond .le 7, 3) := dk_158 0 7 (dk_at dksX7_number_4 14 rfl rfl)
theorem dX7_number_111 : decode cX7_number 111 = .ok (.iconst 1, 1) := dk_4 (dk_at dksX7_number_4 17 rfl rfl)
theorem dX7_number_112 : decode cX7_number 112 = .ok (.goto 4, 3) := dk_167 0 4 (dk_at dksX7_number_4 18 rfl rfl)
theorem dX7_number_115 : decode cX7_number 115 = .ok (.iconst 0, 1) := dk_3 (dk_at dksX7_number_4 21 rfl rfl)
theorem dX7_number_116 : decode cX7_number 116 = .ok (.ireturn, 1) := dk_172 (dk_at dksX7_number_4 22 rfl rfl)
theorem q95 : (Jvm.Cond.initialized "LectureTurns$Reader") ∈ lw_all := lw_g (lw_at lw_m1 30 rfl) rfl
theorem q219 : (Jvm.Cond.fieldLinkNest "LectureTurns$Reader" (15 : Nat) "LectureTurns" "lecture" "LLectureTurns$Lecture;" "LectureTurns") ∈ lw_tbl := lw_at lw_m1 154 rfl
theorem q222 : (Jvm.Cond.fieldLinkNest "LectureTurns$Reader" (35 : Nat) "LectureTurns" "text" "Ljava/lang/StringBuilder;" "LectureTurns") ∈ lw_tbl := lw_at lw_m1 157 rfl
theorem q390 : (Jvm.Cond.selects "LectureTurns$Reader" ({ cls := "java/lang/Object", name := "getClass", desc := "()Ljava/lang/Class;" } : Jvm.MethodName) ({ cls := "java/lang/Object", name := "getClass", desc := "()Ljava/lang/Class;" } : Jvm.MethodName)) ∈ lw_all := lw_g (lw_at lw_m2 85 rfl) rfl
theorem q1099 : (Jvm.Cond.instantiable "LectureTurns$Reader" (5 : Nat)) ∈ lw_all := lw_g (lw_at lw_m5 74 rfl) rfl
theorem q1101 : (Jvm.Cond.instanceMethod ({ cls := "LectureTurns$Reader", name := "<init>", desc := "(LLectureTurns;)V" } : Jvm.MethodName)) ∈ lw_all := lw_g (lw_at lw_m5 76 rfl) rfl
theorem q1102 : (Jvm.Cond.code ({ cls := "LectureTurns$Reader", name := "<init>", desc := "(LLectureTurns;)V" } : Jvm.MethodName) prog_6_method_1_code (2 : Nat) (Option.none : Option Jvm.ClassFile.FieldType)) ∈ lw_all := lw_g (lw_at lw_m5 77 rfl) rfl
theorem q1103 : (Jvm.Cond.methodLink "LectureTurns$Reader" (7 : Nat) ({ cls := "java/lang/Object", name := "<init>", desc := "()V" } : Jvm.MethodName)) ∈ lw_all := lw_g (lw_at lw_m5 78 rfl) rfl
theorem q1104 : (Jvm.Cond.classLink "LectureTurns$Reader" (13 : Nat) "LectureTurns$Lecture") ∈ lw_all := lw_g (lw_at lw_m5 79 rfl) rfl
theorem q1105 : (Jvm.Cond.methodLink "LectureTurns$Reader" (21 : Nat) ({ cls := "LectureTurns$Lecture", name := "<init>", desc := "(LLectureTurns$Lecture;)V" } : Jvm.MethodName)) ∈ lw_all := lw_g (lw_at lw_m5 80 rfl) rfl
theorem q1106 : (Jvm.Cond.fieldLink "LectureTurns$Reader" (24 : Nat) "LectureTurns$Reader" "trial" "LLectureTurns$Lecture;") ∈ lw_all := lw_g (lw_at lw_m5 81 rfl) rfl
theorem q1108 : (Jvm.Cond.fieldLink "LectureTurns$Reader" (27 : Nat) "LectureTurns$Reader" "numbers" "[I") ∈ lw_all := lw_g (lw_at lw_m5 83 rfl) rfl
theorem q1109 : (Jvm.Cond.fieldLink "LectureTurns$Reader" (31 : Nat) "LectureTurns$Reader" "at" "I") ∈ lw_all := lw_g (lw_at lw_m5 84 rfl) rfl
theorem q1110 : (Jvm.Cond.fieldLink "LectureTurns$Reader" (85 : Nat) "LectureTurns$Reader" "many" "I") ∈ lw_all := lw_g (lw_at lw_m5 85 rfl) rfl
theorem q1111 : (Jvm.Cond.fieldLink "LectureTurns$Reader" (1 : Nat) "LectureTurns$Reader" "this$0" "LLectureTurns;") ∈ lw_all := lw_g (lw_at lw_m5 86 rfl) rfl
theorem q1112 : (Jvm.Cond.laysFinal "LectureTurns$Reader" "LectureTurns$Reader" "trial" "LLectureTurns$Lecture;") ∈ lw_all := lw_g (lw_at lw_m5 87 rfl) rfl
theorem q1113 : (Jvm.Cond.soleField "LectureTurns$Reader" "trial") ∈ lw_all := lw_g (lw_at lw_m5 88 rfl) rfl
theorem q1114 : (Jvm.Cond.laysFinal "LectureTurns$Reader" "LectureTurns$Reader" "numbers" "[I") ∈ lw_all := lw_g (lw_at lw_m5 89 rfl) rfl
theorem q1115 : (Jvm.Cond.soleField "LectureTurns$Reader" "numbers") ∈ lw_all := lw_g (lw_at lw_m5 90 rfl) rfl
theorem q1116 : (Jvm.Cond.lays "LectureTurns$Reader" "LectureTurns$Reader" "at" "I") ∈ lw_all := lw_g (lw_at lw_m5 91 rfl) rfl
theorem q1117 : (Jvm.Cond.soleField "LectureTurns$Reader" "at") ∈ lw_all := lw_g (lw_at lw_m5 92 rfl) rfl
theorem q1118 : (Jvm.Cond.lays "LectureTurns$Reader" "LectureTurns$Reader" "many" "I") ∈ lw_all := lw_g (lw_at lw_m5 93 rfl) rfl
theorem q1119 : (Jvm.Cond.soleField "LectureTurns$Reader" "many") ∈ lw_all := lw_g (lw_at lw_m5 94 rfl) rfl
theorem q1120 : (Jvm.Cond.laysFinal "LectureTurns$Reader" "LectureTurns$Reader" "this$0" "LLectureTurns;") ∈ lw_all := lw_g (lw_at lw_m5 95 rfl) rfl
theorem q1121 : (Jvm.Cond.soleField "LectureTurns$Reader" "this$0") ∈ lw_all := lw_g (lw_at lw_m5 96 rfl) rfl
theorem q1122 : (Jvm.Cond.superclass "LectureTurns$Reader" "java/lang/Object") ∈ lw_all := lw_g (lw_at lw_m5 97 rfl) rfl
theorem q1124 : (Jvm.Cond.instanceMethod ({ cls := "LectureTurns$Reader", name := "all", desc := "()I" } : Jvm.MethodName)) ∈ lw_all := lw_g (lw_at lw_m5 99 rfl) rfl
theorem q1125 : (Jvm.Cond.selects "LectureTurns$Reader" ({ cls := "LectureTurns$Reader", name := "all", desc := "()I" } : Jvm.MethodName) ({ cls := "LectureTurns$Reader", name := "all", desc := "()I" } : Jvm.MethodName)) ∈ lw_all := lw_g (lw_at lw_m5 100 rfl) rfl
theorem q1126 : (Jvm.Cond.code ({ cls := "LectureTurns$Reader", name := "all", desc := "()I" } : Jvm.MethodName) prog_6_method_6_code (1 : Nat) (Option.some Jvm.ClassFile.FieldType.int)) ∈ lw_all := lw_g (lw_at lw_m5 101 rfl) rfl
theorem q1127 : (Jvm.Cond.methodLink "LectureTurns$Reader" (39 : Nat) ({ cls := "java/lang/StringBuilder", name := "length", desc := "()I" } : Jvm.MethodName)) ∈ lw_all := lw_g (lw_at lw_m5 102 rfl) rfl
theorem q1128 : (Jvm.Cond.methodLink "LectureTurns$Reader" (90 : Nat) ({ cls := "LectureTurns$Reader", name := "order", desc := "()V" } : Jvm.MethodName)) ∈ lw_all := lw_g (lw_at lw_m5 103 rfl) rfl
theorem q1129 : (Jvm.Cond.privateMethod ({ cls := "LectureTurns$Reader", name := "order", desc := "()V" } : Jvm.MethodName)) ∈ lw_tbl := lw_at lw_m5 104 rfl
theorem q1130 : (Jvm.Cond.instanceMethod ({ cls := "LectureTurns$Reader", name := "order", desc := "()V" } : Jvm.MethodName)) ∈ lw_all := lw_g (lw_at lw_m5 105 rfl) rfl
theorem q1131 : (Jvm.Cond.codeWith ({ cls := "LectureTurns$Reader", name := "order", desc := "()V" } : Jvm.MethodName) prog_6_method_5_code (5 : Nat) (Option.none : Option Jvm.ClassFile.FieldType) [((97 : Nat), (121 : Nat), (124 : Nat), (88 : Nat))]) ∈ lw_all := lw_g (lw_at lw_m5 106 rfl) rfl
theorem q1132 : (Jvm.Cond.classLink "LectureTurns$Reader" (88 : Nat) "LectureTurns$Refused") ∈ lw_all := lw_g (lw_at lw_m5 107 rfl) rfl
theorem q1133 : (Jvm.Cond.methodLink "LectureTurns$Reader" (45 : Nat) ({ cls := "java/lang/StringBuilder", name := "charAt", desc := "(I)C" } : Jvm.MethodName)) ∈ lw_all := lw_g (lw_at lw_m5 108 rfl) rfl
theorem q1145 : (Jvm.Cond.stringRef "LectureTurns$Reader" (65 : Nat) "wcg") ∈ lw_tbl := lw_at lw_m5 120 rfl
theorem q1146 : (Jvm.Cond.methodLink "LectureTurns$Reader" (67 : Nat) ({ cls := "java/lang/String", name := "indexOf", desc := "(I)I" } : Jvm.MethodName)) ∈ lw_all := lw_g (lw_at lw_m5 121 rfl) rfl
theorem q1214 : (Jvm.Cond.methodLink "LectureTurns$Reader" (73 : Nat) ({ cls := "LectureTurns$Reader", name := "isOfForm", desc := "(I)Z" } : Jvm.MethodName)) ∈ lw_all := lw_g (lw_at lw_m5 189 rfl) rfl
theorem q1215 : (Jvm.Cond.privateMethod ({ cls := "LectureTurns$Reader", name := "isOfForm", desc := "(I)Z" } : Jvm.MethodName)) ∈ lw_tbl := lw_at lw_m5 190 rfl
theorem q1216 : (Jvm.Cond.instanceMethod ({ cls := "LectureTurns$Reader", name := "isOfForm", desc := "(I)Z" } : Jvm.MethodName)) ∈ lw_all := lw_g (lw_at lw_m5 191 rfl) rfl
theorem q1217 : (Jvm.Cond.code ({ cls := "LectureTurns$Reader", name := "isOfForm", desc := "(I)Z" } : Jvm.MethodName) prog_6_method_4_code (4 : Nat) (Option.some Jvm.ClassFile.FieldType.boolean)) ∈ lw_all := lw_g (lw_at lw_m5 192 rfl) rfl
theorem q1218 : (Jvm.Cond.methodLink "LectureTurns$Reader" (57 : Nat) ({ cls := "LectureTurns$Reader", name := "accepts", desc := "(C)Z" } : Jvm.MethodName)) ∈ lw_all := lw_g (lw_at lw_m5 193 rfl) rfl
theorem q1219 : (Jvm.Cond.privateMethod ({ cls := "LectureTurns$Reader", name := "accepts", desc := "(C)Z" } : Jvm.MethodName)) ∈ lw_tbl := lw_at lw_m5 194 rfl
theorem q1220 : (Jvm.Cond.instanceMethod ({ cls := "LectureTurns$Reader", name := "accepts", desc := "(C)Z" } : Jvm.MethodName)) ∈ lw_all := lw_g (lw_at lw_m5 195 rfl) rfl
theorem q1221 : (Jvm.Cond.code ({ cls := "LectureTurns$Reader", name := "accepts", desc := "(C)Z" } : Jvm.MethodName) prog_6_method_2_code (3 : Nat) (Option.some Jvm.ClassFile.FieldType.boolean)) ∈ lw_all := lw_g (lw_at lw_m5 196 rfl) rfl
theorem q1222 : (Jvm.Cond.methodLink "LectureTurns$Reader" (61 : Nat) ({ cls := "LectureTurns$Reader", name := "number", desc := "(I)Z" } : Jvm.MethodName)) ∈ lw_all := lw_g (lw_at lw_m5 197 rfl) rfl
theorem q1223 : (Jvm.Cond.privateMethod ({ cls := "LectureTurns$Reader", name := "number", desc := "(I)Z" } : Jvm.MethodName)) ∈ lw_tbl := lw_at lw_m5 198 rfl
theorem q1224 : (Jvm.Cond.instanceMethod ({ cls := "LectureTurns$Reader", name := "number", desc := "(I)Z" } : Jvm.MethodName)) ∈ lw_all := lw_g (lw_at lw_m5 199 rfl) rfl
theorem q1225 : (Jvm.Cond.code ({ cls := "LectureTurns$Reader", name := "number", desc := "(I)Z" } : Jvm.MethodName) prog_6_method_3_code (3 : Nat) (Option.some Jvm.ClassFile.FieldType.boolean)) ∈ lw_all := lw_g (lw_at lw_m5 200 rfl) rfl
theorem q1226 : (Jvm.Cond.constantLong "LectureTurns$Reader" (49 : Nat) (48 : Int64)) ∈ lw_all := lw_g (lw_at lw_m5 201 rfl) rfl
theorem q1227 : (Jvm.Cond.constantLong "LectureTurns$Reader" (51 : Nat) (57 : Int64)) ∈ lw_all := lw_g (lw_at lw_m5 202 rfl) rfl
theorem q1228 : (Jvm.Cond.methodLinkNest "LectureTurns$Reader" (53 : Nat) ({ cls := "LectureTurns", name := "isBetween", desc := "(JJJ)Z" } : Jvm.MethodName) "LectureTurns") ∈ lw_tbl := lw_at lw_m5 203 rfl
theorem q1229 : (Jvm.Cond.classLink "LectureTurns$Reader" (76 : Nat) "LectureTurns$Fault") ∈ lw_all := lw_g (lw_at lw_m5 204 rfl) rfl
theorem q1238 : (Jvm.Cond.methodLink "LectureTurns$Reader" (78 : Nat) ({ cls := "LectureTurns$Fault", name := "<init>", desc := "(IILjava/lang/Throwable;)V" } : Jvm.MethodName)) ∈ lw_all := lw_g (lw_at lw_m5 213 rfl) rfl
theorem q1251 : (Jvm.Cond.methodLinkNest "LectureTurns$Reader" (81 : Nat) ({ cls := "LectureTurns", name := "done", desc := "(LLectureTurns$Lecture;C[I)I" } : Jvm.MethodName) "LectureTurns") ∈ lw_tbl := lw_at lw_m5 226 rfl
theorem q1641 : (Jvm.Cond.castable "LectureTurns$Reader" "java/lang/Object") ∈ lw_tbl := lw_at lw_m7 136 rfl
theorem in_X7 : ∀ w ∈ wsX70, w ∈ lw_all := lw_in wsX70 [1112, 1114, 1116, 1118, 1120] (by decide +kernel) (by decide +kernel)
