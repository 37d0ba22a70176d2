/-! LectureTurnsModel -/
set_option maxRecDepth 100000
def RX3 : String := "LectureTurnsModel"
def TX3 : u_T := fun k => match k with
  | 0 => ("LectureTurnsModel", "s", "[I", true)
  | 1 => ("LectureTurnsModel", "past", "[I", true)
  | 2 => ("LectureTurnsModel", "held", "[I", true)
  | 3 => ("LectureTurnsModel", "pasts", "I", false)
  | 4 => ("LectureTurnsModel", "runs", "Z", false)
  | 5 => ("LectureTurnsModel", "text", "[I", true)
  | 6 => ("LectureTurnsModel", "typed", "I", false)
  | 7 => ("LectureTurnsModel", "parted", "[I", true)
  | 8 => ("LectureTurnsModel", "asShown", "[I", true)
  | 9 => ("LectureTurnsModel", "spot", "I", false)
  | 10 => ("LectureTurnsModel", "from", "I", false)
  | 11 => ("LectureTurnsModel", "reason", "I", false)
  | 12 => ("LectureTurnsModel", "cause", "I", false)
  | 13 => ("LectureTurnsModel", "orders", "I", false)
  | 14 => ("LectureTurnsModel", "order", "I", false)
  | _ => ("LectureTurnsModel", "told", "[I", true)
def tyX3 : Nat → FieldType := fun k => match k with
  | 0 => .array .int
  | 1 => .array .int
  | 2 => .array .int
  | 3 => .int
  | 4 => .boolean
  | 5 => .array .int
  | 6 => .int
  | 7 => .array .int
  | 8 => .array .int
  | 9 => .int
  | 10 => .int
  | 11 => .int
  | 12 => .int
  | 13 => .int
  | 14 => .int
  | _ => .array .int
abbrev wsX30 : List Cond := u_ws RX3 TX3 16
set_option maxRecDepth 100000 in
theorem nmX3 : ∀ a, a < 16 → ∀ b, b < 16 → a ≠ b → (TX3 a).2.1 ≠ (TX3 b).2.1 := by decide +kernel
set_option maxRecDepth 100000 in
theorem tyX3_ok : ∀ k, k < 16 → parseFieldDescriptor (TX3 k).2.2.1 = some (tyX3 k) := by decide +kernel
abbrev cX3_init : ByteArray := prog_12_method_1_code
def yX3_init : MethodName := ⟨RX3, "<init>", "()V"⟩
def dkwX3_init_4 : List UInt8 := [16, 30, 79, 177]
abbrev dktX3_init_4 : List UInt8 := dkwX3_init_4 ++ []
def dkwX3_init_3 : List UInt8 := [180, 0, 7, 17, 1, 4, 27, 96, 2, 79, 132, 1, 1, 167, 255, 236, 42, 180, 0, 7, 17, 1, 27]
abbrev dktX3_init_3 : List UInt8 := dkwX3_init_3 ++ dktX3_init_4
def dkwX3_init_2 : List UInt8 := [42, 16, 16, 188, 10, 181, 0, 25, 42, 6, 188, 10, 181, 0, 28, 3, 60, 27, 16, 16, 162, 0, 20, 42]
abbrev dktX3_init_2 : List UInt8 := dkwX3_init_2 ++ dktX3_init_3
def dkwX3_init_1 : List UInt8 := [17, 1, 28, 188, 10, 181, 0, 16, 42, 16, 60, 188, 10, 181, 0, 19, 42, 16, 13, 188, 10, 181, 0, 22]
abbrev dktX3_init_1 : List UInt8 := dkwX3_init_1 ++ dktX3_init_2
def dkwX3_init_0 : List UInt8 := [42, 183, 0, 1, 42, 17, 1, 28, 188, 10, 181, 0, 7, 42, 17, 4, 112, 188, 10, 181, 0, 13, 42]
abbrev dktX3_init_0 : List UInt8 := dkwX3_init_0 ++ dktX3_init_1
theorem dksX3_init_0 : cX3_init.data.toList.drop 0 = dktX3_init_0 := by decide +kernel
theorem dksX3_init_1 : cX3_init.data.toList.drop 23 = dktX3_init_1 := dk_seg dksX3_init_0 23 rfl rfl
theorem dksX3_init_2 : cX3_init.data.toList.drop 47 = dktX3_init_2 := dk_seg dksX3_init_1 24 rfl rfl
theorem dksX3_init_3 : cX3_init.data.toList.drop 71 = dktX3_init_3 := dk_seg dksX3_init_2 24 rfl rfl
theorem dksX3_init_4 : cX3_init.data.toList.drop 94 = dktX3_init_4 := dk_seg dksX3_init_3 23 rfl rfl
theorem dX3_init_0 : decode cX3_init 0 = .ok (.aload_n 0, 1) := dk_42 (dk_at dksX3_init_0 0 rfl rfl)
theorem dX3_init_1 : decode cX3_init 1 = .ok (.invokespecial 1, 3) := dk_183 0 1 (dk_at dksX3_init_0 1 rfl rfl)
theorem dX3_init_4 : decode cX3_init 4 = .ok (.aload_n 0, 1) := dk_42 (dk_at dksX3_init_0 4 rfl rfl)
theorem dX3_init_5 : decode cX3_init 5 = .ok (.sipush 284, 3) := dk_17 1 28 (dk_at dksX3_init_0 5 rfl rfl)
theorem dX3_init_8 : decode cX3_init 8 = .ok (.newarray .int, 2) := dk_188_10 (dk_at dksX3_init_0 8 rfl rfl)
theorem dX3_init_10 : decode cX3_init 10 = .ok (.putfield 7, 3) := dk_181 0 7 (dk_at dksX3_init_0 10 rfl rfl)
theorem dX3_init_13 : decode cX3_init 13 = .ok (.aload_n 0, 1) := dk_42 (dk_at dksX3_init_0 13 rfl rfl)
theorem dX3_init_14 : decode cX3_init 14 = .ok (.sipush 1136, 3) := dk_17 4 112 (dk_at dksX3_init_0 14 rfl rfl)
theorem dX3_init_17 : decode cX3_init 17 = .ok (.newarray .int, 2) := dk_188_10 (dk_at dksX3_init_0 17 rfl rfl)
theorem dX3_init_19 : decode cX3_init 19 = .ok (.putfield 13, 3) := dk_181 0 13 (dk_at dksX3_init_0 19 rfl rfl)
theorem dX3_init_22 : decode cX3_init 22 = .ok (.aload_n 0, 1) := dk_42 (dk_at dksX3_init_0 22 rfl rfl)
theorem dX3_init_23 : decode cX3_init 23 = .ok (.sipush 284, 3) := dk_17 1 28 (dk_at dksX3_init_1 0 rfl rfl)
theorem dX3_init_26 : decode cX3_init 26 = .ok (.newarray .int, 2) := dk_188_10 (dk_at dksX3_init_1 3 rfl rfl)
theorem dX3_init_28 : decode cX3_init 28 = .ok (.putfield 16, 3) := dk_181 0 16 (dk_at dksX3_init_1 5 rfl rfl)
theorem dX3_init_31 : decode cX3_init 31 = .ok (.aload_n 0, 1) := dk_42 (dk_at dksX3_init_1 8 rfl rfl)
theorem dX3_init_32 : decode cX3_init 32 = .ok (.bipush 60, 2) := dk_16 60 (dk_at dksX3_init_1 9 rfl rfl)
theorem dX3_init_34 : decode cX3_init 34 = .ok (.newarray .int, 2) := dk_188_10 (dk_at dksX3_init_1 11 rfl rfl)
theorem dX3_init_36 : decode cX3_init 36 = .ok (.putfield 19, 3) := dk_181 0 19 (dk_at dksX3_init_1 13 rfl rfl)
theorem dX3_init_39 : decode cX3_init 39 = .ok (.aload_n 0, 1) := dk_42 (dk_at dksX3_init_1 16 rfl rfl)
theorem dX3_init_40 : decode cX3_init 40 = .ok (.bipush 13, 2) := dk_16 13 (dk_at dksX3_init_1 17 rfl rfl)
theorem dX3_init_42 : decode cX3_init 42 = .ok (.newarray .int, 2) := dk_188_10 (dk_at dksX3_init_1 19 rfl rfl)
theorem dX3_init_44 : decode cX3_init 44 = .ok (.putfield 22, 3) := dk_181 0 22 (dk_at dksX3_init_1 21 rfl rfl)
theorem dX3_init_47 : decode cX3_init 47 = .ok (.aload_n 0, 1) := dk_42 (dk_at dksX3_init_2 0 rfl rfl)
theorem dX3_init_48 : decode cX3_init 48 = .ok (.bipush 16, 2) := dk_16 16 (dk_at dksX3_init_2 1 rfl rfl)
theorem dX3_init_50 : decode cX3_init 50 = .ok (.newarray .int, 2) := dk_188_10 (dk_at dksX3_init_2 3 rfl rfl)
theorem dX3_init_52 : decode cX3_init 52 = .ok (.putfield 25, 3) := dk_181 0 25 (dk_at dksX3_init_2 5 rfl rfl)
theorem dX3_init_55 : decode cX3_init 55 = .ok (.aload_n 0, 1) := dk_42 (dk_at dksX3_init_2 8 rfl rfl)
theorem dX3_init_56 : decode cX3_init 56 = .ok (.iconst 3, 1) := dk_6 (dk_at dksX3_init_2 9 rfl rfl)
theorem dX3_init_57 : decode cX3_init 57 = .ok (.newarray .int, 2) := dk_188_10 (dk_at dksX3_init_2 10 rfl rfl)
theorem dX3_init_59 : decode cX3_init 59 = .ok (.putfield 28, 3) := dk_181 0 28 (dk_at dksX3_init_2 12 rfl rfl)
theorem dX3_init_62 : decode cX3_init 62 = .ok (.iconst 0, 1) := dk_3 (dk_at dksX3_init_2 15 rfl rfl)
theorem dX3_init_63 : decode cX3_init 63 = .ok (.istore_n 1, 1) := dk_60 (dk_at dksX3_init_2 16 rfl rfl)
theorem dX3_init_64 : decode cX3_init 64 = .ok (.iload_n 1, 1) := dk_27 (dk_at dksX3_init_2 17 rfl rfl)
theorem dX3_init_65 : decode cX3_init 65 = .ok (.bipush 16, 2) := dk_16 16 (dk_at dksX3_init_2 18 rfl rfl)
theorem dX3_init_67 : decode cX3_init 67 = .ok (.if_icmp .ge 20, 3) := dk_162 0 20 (dk_at dksX3_init_2 20 rfl rfl)
theorem dX3_init_70 : decode cX3_init 70 = .ok (.aload_n 0, 1) := dk_42 (dk_at dksX3_init_2 23 rfl rfl)
theorem dX3_init_71 : decode cX3_init 71 = .ok (.getfield 7, 3) := dk_180 0 7 (dk_at dksX3_init_3 0 rfl rfl)
theorem dX3_init_74 : decode cX3_init 74 = .ok (.sipush 260, 3) := dk_17 1 4 (dk_at dksX3_init_3 3 rfl rfl)
theorem dX3_init_77 : decode cX3_init 77 = .ok (.iload_n 1, 1) := dk_27 (dk_at dksX3_init_3 6 rfl rfl)
theorem dX3_init_78 : decode cX3_init 78 = .ok (.iadd, 1) := dk_96 (dk_at dksX3_init_3 7 rfl rfl)
theorem dX3_init_79 : decode cX3_init 79 = .ok (.iconst (-1), 1) := dk_2 (dk_at dksX3_init_3 8 rfl rfl)
theorem dX3_init_80 : decode cX3_init 80 = .ok (.iastore, 1) := dk_79 (dk_at dksX3_init_3 9 rfl rfl)
theorem dX3_init_81 : decode cX3_init 81 = .ok (.iinc 1 1, 3) := dk_132 1 1 (dk_at dksX3_init_3 10 rfl rfl)
theorem dX3_init_84 : decode cX3_init 84 = .ok (.goto (-20), 3) := dk_167 255 236 (dk_at dksX3_init_3 13 rfl rfl)
theorem dX3_init_87 : decode cX3_init 87 = .ok (.aload_n 0, 1) := dk_42 (dk_at dksX3_init_3 16 rfl rfl)
theorem dX3_init_88 : decode cX3_init 88 = .ok (.getfield 7, 3) := dk_180 0 7 (dk_at dksX3_init_3 17 rfl rfl)
theorem dX3_init_91 : decode cX3_init 91 = .ok (.sipush 283, 3) := dk_17 1 27 (dk_at dksX3_init_3 20 rfl rfl)
theorem dX3_init_94 : decode cX3_init 94 = .ok (.bipush 30, 2) := dk_16 30 (dk_at dksX3_init_4 0 rfl rfl)
theorem dX3_init_96 : decode cX3_init 96 = .ok (.iastore, 1) := dk_79 (dk_at dksX3_init_4 2 rfl rfl)
theorem dX3_init_97 : decode cX3_init 97 = .ok (.return_, 1) := dk_177 (dk_at dksX3_init_4 3 rfl rfl)
abbrev cX3_turn : ByteArray := prog_12_method_14_code
def yX3_turn : MethodName := ⟨RX3, "turn", "(III)I"⟩
def dkwX3_turn_4 : List UInt8 := [29, 182, 0, 63, 182, 0, 59, 42, 21, 4, 7, 3, 182, 0, 59, 21, 4, 172]
abbrev dktX3_turn_4 : List UInt8 := dkwX3_turn_4 ++ []
def dkwX3_turn_3 : List UInt8 := [182, 0, 59, 42, 21, 4, 4, 28, 182, 0, 59, 42, 21, 4, 5, 29, 182, 0, 59, 42, 21, 4, 6, 42]
abbrev dktX3_turn_3 : List UInt8 := dkwX3_turn_3 ++ dktX3_turn_4
def dkwX3_turn_2 : List UInt8 := [16, 20, 160, 0, 6, 18, 51, 172, 42, 182, 0, 52, 42, 27, 182, 0, 55, 54, 4, 42, 21, 4, 3, 27]
abbrev dktX3_turn_2 : List UInt8 := dkwX3_turn_2 ++ dktX3_turn_3
def dkwX3_turn_1 : List UInt8 := [29, 16, 50, 17, 1, 244, 184, 0, 39, 154, 0, 6, 18, 50, 172, 42, 180, 0, 7, 17, 1, 26, 46]
abbrev dktX3_turn_1 : List UInt8 := dkwX3_turn_1 ++ dktX3_turn_2
def dkwX3_turn_0 : List UInt8 := [27, 3, 17, 7, 206, 184, 0, 39, 153, 0, 28, 28, 27, 4, 96, 17, 7, 207, 184, 0, 39, 153, 0, 15]
abbrev dktX3_turn_0 : List UInt8 := dkwX3_turn_0 ++ dktX3_turn_1
theorem dksX3_turn_0 : cX3_turn.data.toList.drop 0 = dktX3_turn_0 := by decide +kernel
theorem dksX3_turn_1 : cX3_turn.data.toList.drop 24 = dktX3_turn_1 := dk_seg dksX3_turn_0 24 rfl rfl
theorem dksX3_turn_2 : cX3_turn.data.toList.drop 47 = dktX3_turn_2 := dk_seg dksX3_turn_1 23 rfl rfl
theorem dksX3_turn_3 : cX3_turn.data.toList.drop 71 = dktX3_turn_3 := dk_seg dksX3_turn_2 24 rfl rfl
theorem dksX3_turn_4 : cX3_turn.data.toList.drop 95 = dktX3_turn_4 := dk_seg dksX3_turn_3 24 rfl rfl
theorem dX3_turn_0 : decode cX3_turn 0 = .ok (.iload_n 1, 1) := dk_27 (dk_at dksX3_turn_0 0 rfl rfl)
theorem dX3_turn_1 : decode cX3_turn 1 = .ok (.iconst 0, 1) := dk_3 (dk_at dksX3_turn_0 1 rfl rfl)
theorem dX3_turn_2 : decode cX3_turn 2 = .ok (.sipush 1998, 3) := dk_17 7 206 (dk_at dksX3_turn_0 2 rfl rfl)
theorem dX3_turn_5 : decode cX3_turn 5 = .ok (.invokestatic 39, 3) := dk_184 0 39 (dk_at dksX3_turn_0 5 rfl rfl)
theorem dX3_turn_8 : decode cX3_turn 8 = .ok (.ifCond .eq 28, 3) := dk_153 0 28 (dk_at dksX3_turn_0 8 rfl rfl)
theorem dX3_turn_11 : decode cX3_turn 11 = .ok (.iload_n 2, 1) := dk_28 (dk_at dksX3_turn_0 11 rfl rfl)
theorem dX3_turn_12 : decode cX3_turn 12 = .ok (.iload_n 1, 1) := dk_27 (dk_at dksX3_turn_0 12 rfl rfl)
theorem dX3_turn_13 : decode cX3_turn 13 = .ok (.iconst 1, 1) := dk_4 (dk_at dksX3_turn_0 13 rfl rfl)
theorem dX3_turn_14 : decode cX3_turn 14 = .ok (.iadd, 1) := dk_96 (dk_at dksX3_turn_0 14 rfl rfl)
theorem dX3_turn_15 : decode cX3_turn 15 = .ok (.sipush 1999, 3) := dk_17 7 207 (dk_at dksX3_turn_0 15 rfl rfl)
theorem dX3_turn_18 : decode cX3_turn 18 = .ok (.invokestatic 39, 3) := dk_184 0 39 (dk_at dksX3_turn_0 18 rfl rfl)
theorem dX3_turn_21 : decode cX3_turn 21 = .ok (.ifCond .eq 15, 3) := dk_153 0 15 (dk_at dksX3_turn_0 21 rfl rfl)
theorem dX3_turn_24 : decode cX3_turn 24 = .ok (.iload_n 3, 1) := dk_29 (dk_at dksX3_turn_1 0 rfl rfl)
theorem dX3_turn_25 : decode cX3_turn 25 = .ok (.bipush 50, 2) := dk_16 50 (dk_at dksX3_turn_1 1 rfl rfl)
theorem dX3_turn_27 : decode cX3_turn 27 = .ok (.sipush 500, 3) := dk_17 1 244 (dk_at dksX3_turn_1 3 rfl rfl)
theorem dX3_turn_30 : decode cX3_turn 30 = .ok (.invokestatic 39, 3) := dk_184 0 39 (dk_at dksX3_turn_1 6 rfl rfl)
theorem dX3_turn_33 : decode cX3_turn 33 = .ok (.ifCond .ne 6, 3) := dk_154 0 6 (dk_at dksX3_turn_1 9 rfl rfl)
theorem dX3_turn_36 : decode cX3_turn 36 = .ok (.ldc 50, 2) := dk_18 50 (dk_at dksX3_turn_1 12 rfl rfl)
theorem dX3_turn_38 : decode cX3_turn 38 = .ok (.ireturn, 1) := dk_172 (dk_at dksX3_turn_1 14 rfl rfl)
theorem dX3_turn_39 : decode cX3_turn 39 = .ok (.aload_n 0, 1) := dk_42 (dk_at dksX3_turn_1 15 rfl rfl)
theorem dX3_turn_40 : decode cX3_turn 40 = .ok (.getfield 7, 3) := dk_180 0 7 (dk_at dksX3_turn_1 16 rfl rfl)
theorem dX3_turn_43 : decode cX3_turn 43 = .ok (.sipush 282, 3) := dk_17 1 26 (dk_at dksX3_turn_1 19 rfl rfl)
theorem dX3_turn_46 : decode cX3_turn 46 = .ok (.iaload, 1) := dk_46 (dk_at dksX3_turn_1 22 rfl rfl)
theorem dX3_turn_47 : decode cX3_turn 47 = .ok (.bipush 20, 2) := dk_16 20 (dk_at dksX3_turn_2 0 rfl rfl)
theorem dX3_turn_49 : decode cX3_turn 49 = .ok (.if_icmp .ne 6, 3) := dk_160 0 6 (dk_at dksX3_turn_2 2 rfl rfl)
theorem dX3_turn_52 : decode cX3_turn 52 = .ok (.ldc 51, 2) := dk_18 51 (dk_at dksX3_turn_2 5 rfl rfl)
theorem dX3_turn_54 : decode cX3_turn 54 = .ok (.ireturn, 1) := dk_172 (dk_at dksX3_turn_2 7 rfl rfl)
theorem dX3_turn_55 : decode cX3_turn 55 = .ok (.aload_n 0, 1) := dk_42 (dk_at dksX3_turn_2 8 rfl rfl)
theorem dX3_turn_56 : decode cX3_turn 56 = .ok (.invokevirtual 52, 3) := dk_182 0 52 (dk_at dksX3_turn_2 9 rfl rfl)
theorem dX3_turn_59 : decode cX3_turn 59 = .ok (.aload_n 0, 1) := dk_42 (dk_at dksX3_turn_2 12 rfl rfl)
theorem dX3_turn_60 : decode cX3_turn 60 = .ok (.iload_n 1, 1) := dk_27 (dk_at dksX3_turn_2 13 rfl rfl)
theorem dX3_turn_61 : decode cX3_turn 61 = .ok (.invokevirtual 55, 3) := dk_182 0 55 (dk_at dksX3_turn_2 14 rfl rfl)
theorem dX3_turn_64 : decode cX3_turn 64 = .ok (.istore 4, 2) := dk_54 4 (dk_at dksX3_turn_2 17 rfl rfl)
theorem dX3_turn_66 : decode cX3_turn 66 = .ok (.aload_n 0, 1) := dk_42 (dk_at dksX3_turn_2 19 rfl rfl)
theorem dX3_turn_67 : decode cX3_turn 67 = .ok (.iload 4, 2) := dk_21 4 (dk_at dksX3_turn_2 20 rfl rfl)
theorem dX3_turn_69 : decode cX3_turn 69 = .ok (.iconst 0, 1) := dk_3 (dk_at dksX3_turn_2 22 rfl rfl)
theorem dX3_turn_70 : decode cX3_turn 70 = .ok (.iload_n 1, 1) := dk_27 (dk_at dksX3_turn_2 23 rfl rfl)
theorem dX3_turn_71 : decode cX3_turn 71 = .ok (.invokevirtual 59, 3) := dk_182 0 59 (dk_at dksX3_turn_3 0 rfl rfl)
theorem dX3_turn_74 : decode cX3_turn 74 = .ok (.aload_n 0, 1) := dk_42 (dk_at dksX3_turn_3 3 rfl rfl)
theorem dX3_turn_75 : decode cX3_turn 75 = .ok (.iload 4, 2) := dk_21 4 (dk_at dksX3_turn_3 4 rfl rfl)
theorem dX3_turn_77 : decode cX3_turn 77 = .ok (.iconst 1, 1) := dk_4 (dk_at dksX3_turn_3 6 rfl rfl)
theorem dX3_turn_78 : decode cX3_turn 78 = .ok (.iload_n 2, 1) := dk_28 (dk_at dksX3_turn_3 7 rfl rfl)
theorem dX3_turn_79 : decode cX3_turn 79 = .ok (.invokevirtual 59, 3) := dk_182 0 59 (dk_at dksX3_turn_3 8 rfl rfl)
theorem dX3_turn_82 : decode cX3_turn 82 = .ok (.aload_n 0, 1) := dk_42 (dk_at dksX3_turn_3 11 rfl rfl)
theorem dX3_turn_83 : decode cX3_turn 83 = .ok (.iload 4, 2) := dk_21 4 (dk_at dksX3_turn_3 12 rfl rfl)
theorem dX3_turn_85 : decode cX3_turn 85 = .ok (.iconst 2, 1) := dk_5 (dk_at dksX3_turn_3 14 rfl rfl)
theorem dX3_turn_86 : decode cX3_turn 86 = .ok (.iload_n 3, 1) := dk_29 (dk_at dksX3_turn_3 15 rfl rfl)
theorem dX3_turn_87 : decode cX3_turn 87 = .ok (.invokevirtual 59, 3) := dk_182 0 59 (dk_at dksX3_turn_3 16 rfl rfl)
theorem dX3_turn_90 : decode cX3_turn 90 = .ok (.aload_n 0, 1) := dk_42 (dk_at dksX3_turn_3 19 rfl rfl)
theorem dX3_turn_91 : decode cX3_turn 91 = .ok (.iload 4, 2) := dk_21 4 (dk_at dksX3_turn_3 20 rfl rfl)
theorem dX3_turn_93 : decode cX3_turn 93 = .ok (.iconst 3, 1) := dk_6 (dk_at dksX3_turn_3 22 rfl rfl)
theorem dX3_turn_94 : decode cX3_turn 94 = .ok (.aload_n 0, 1) := dk_42 (dk_at dksX3_turn_3 23 rfl rfl)
theorem dX3_turn_95 : decode cX3_turn 95 = .ok (.iload_n 3, 1) := dk_29 (dk_at dksX3_turn_4 0 rfl rfl)
theorem dX3_turn_96 : decode cX3_turn 96 = .ok (.invokevirtual 63, 3) := dk_182 0 63 (dk_at dksX3_turn_4 1 rfl rfl)
theorem dX3_turn_99 : decode cX3_turn 99 = .ok (.invokevirtual 59, 3) := dk_182 0 59 (dk_at dksX3_turn_4 4 rfl rfl)
theorem dX3_turn_102 : decode cX3_turn 102 = .ok (.aload_n 0, 1) := dk_42 (dk_at dksX3_turn_4 7 rfl rfl)
theorem dX3_turn_103 : decode cX3_turn 103 = .ok (.iload 4, 2) := dk_21 4 (dk_at dksX3_turn_4 8 rfl rfl)
theorem dX3_turn_105 : decode cX3_turn 105 = .ok (.iconst 4, 1) := dk_7 (dk_at dksX3_turn_4 10 rfl rfl)
theorem dX3_turn_106 : decode cX3_turn 106 = .ok (.iconst 0, 1) := dk_3 (dk_at dksX3_turn_4 11 rfl rfl)
theorem dX3_turn_107 : decode cX3_turn 107 = .ok (.invokevirtual 59, 3) := dk_182 0 59 (dk_at dksX3_turn_4 12 rfl rfl)
theorem dX3_turn_110 : decode cX3_turn 110 = .ok (.iload 4, 2) := dk_21 4 (dk_at dksX3_turn_4 15 rfl rfl)
theorem dX3_turn_112 : decode cX3_turn 112 = .ok (.ireturn, 1) := dk_172 (dk_at dksX3_turn_4 17 rfl rfl)
abbrev cX3_in : ByteArray := prog_12_method_3_code
def yX3_in : MethodName := ⟨RX3, "in", "(III)Z"⟩
def dkwX3_in_0 : List UInt8 := [26, 27, 161, 0, 12, 26, 28, 163, 0, 7, 4, 167, 0, 4, 3, 172]
abbrev dktX3_in_0 : List UInt8 := dkwX3_in_0 ++ []
theorem dksX3_in_0 : cX3_in.data.toList.drop 0 = dktX3_in_0 := by decide +kernel
theorem dX3_in_0 : decode cX3_in 0 = .ok (.iload_n 0, 1) := dk_26 (dk_at dksX3_in_0 0 rfl rfl)
theorem dX3_in_1 : decode cX3_in 1 = .ok (.iload_n 1, 1) := dk_27 (dk_at dksX3_in_0 1 rfl rfl)
theorem dX3_in_2 : decode cX3_in 2 = .ok (.if_icmp .lt 12, 3) := dk_161 0 12 (dk_at dksX3_in_0 2 rfl rfl)
theorem dX3_in_5 : decode cX3_in 5 = .ok (.iload_n 0, 1) := dk_26 (dk_at dksX3_in_0 5 rfl rfl)
theorem dX3_in_6 : decode cX3_in 6 = .ok (.iload_n 2, 1) := dk_28 (dk_at dksX3_in_0 6 rfl rfl)
theorem dX3_in_7 : decode cX3_in 7 = .ok (.if_icmp .gt 7, 3) := dk_163 0 7 (dk_at dksX3_in_0 7 rfl rfl)
theorem dX3_in_10 : decode cX3_in 10 = .ok (.iconst 1, 1) := dk_4 (dk_at dksX3_in_0 10 rfl rfl)
theorem dX3_in_11 : decode cX3_in 11 = .ok (.goto 4, 3) := dk_167 0 4 (dk_at dksX3_in_0 11 rfl rfl)
theorem dX3_in_14 : decode cX3_in 14 = .ok (.iconst 0, 1) := dk_3 (dk_at dksX3_in_0 14 rfl rfl)
theorem dX3_in_15 : decode cX3_in 15 = .ok (.ireturn, 1) := dk_172 (dk_at dksX3_in_0 15 rfl rfl)
abbrev cX3_changes : ByteArray := prog_12_method_5_code
def yX3_changes : MethodName := ⟨RX3, "changes", "()V"⟩
def dkwX3_changes_4 : List UInt8 := [167, 255, 225, 42, 89, 180, 0, 35, 4, 96, 181, 0, 35, 177]
abbrev dktX3_changes_4 : List UInt8 := dkwX3_changes_4 ++ []
def dkwX3_changes_3 : List UInt8 := [180, 0, 13, 17, 1, 28, 42, 180, 0, 35, 104, 27, 96, 42, 180, 0, 7, 27, 46, 79, 132, 1, 1]
abbrev dktX3_changes_3 : List UInt8 := dkwX3_changes_3 ++ dktX3_changes_4
def dkwX3_changes_2 : List UInt8 := [167, 255, 230, 42, 89, 180, 0, 35, 4, 100, 181, 0, 35, 3, 60, 27, 17, 1, 28, 162, 0, 30, 42]
abbrev dktX3_changes_2 : List UInt8 := dkwX3_changes_2 ++ dktX3_changes_3
def dkwX3_changes_1 : List UInt8 := [162, 0, 25, 42, 180, 0, 13, 27, 42, 180, 0, 13, 27, 17, 1, 28, 96, 46, 79, 132, 1, 1]
abbrev dktX3_changes_1 : List UInt8 := dkwX3_changes_1 ++ dktX3_changes_2
def dkwX3_changes_0 : List UInt8 := [42, 180, 0, 31, 153, 0, 4, 177, 42, 180, 0, 35, 7, 160, 0, 44, 3, 60, 27, 17, 3, 84]
abbrev dktX3_changes_0 : List UInt8 := dkwX3_changes_0 ++ dktX3_changes_1
theorem dksX3_changes_0 : cX3_changes.data.toList.drop 0 = dktX3_changes_0 := by decide +kernel
theorem dksX3_changes_1 : cX3_changes.data.toList.drop 22 = dktX3_changes_1 := dk_seg dksX3_changes_0 22 rfl rfl
theorem dksX3_changes_2 : cX3_changes.data.toList.drop 44 = dktX3_changes_2 := dk_seg dksX3_changes_1 22 rfl rfl
theorem dksX3_changes_3 : cX3_changes.data.toList.drop 67 = dktX3_changes_3 := dk_seg dksX3_changes_2 23 rfl rfl
theorem dksX3_changes_4 : cX3_changes.data.toList.drop 90 = dktX3_changes_4 := dk_seg dksX3_changes_3 23 rfl rfl
theorem dX3_changes_0 : decode cX3_changes 0 = .ok (.aload_n 0, 1) := dk_42 (dk_at dksX3_changes_0 0 rfl rfl)
theorem dX3_changes_1 : decode cX3_changes 1 = .ok (.getfield 31, 3) := dk_180 0 31 (dk_at dksX3_changes_0 1 rfl rfl)
theorem dX3_changes_4 : decode cX3_changes 4 = .ok (.ifCond .eq 4, 3) := dk_153 0 4 (dk_at dksX3_changes_0 4 rfl rfl)
theorem dX3_changes_7 : decode cX3_changes 7 = .ok (.return_, 1) := dk_177 (dk_at dksX3_changes_0 7 rfl rfl)
theorem dX3_changes_8 : decode cX3_changes 8 = .ok (.aload_n 0, 1) := dk_42 (dk_at dksX3_changes_0 8 rfl rfl)
theorem dX3_changes_9 : decode cX3_changes 9 = .ok (.getfield 35, 3) := dk_180 0 35 (dk_at dksX3_changes_0 9 rfl rfl)
theorem dX3_changes_12 : decode cX3_changes 12 = .ok (.iconst 4, 1) := dk_7 (dk_at dksX3_changes_0 12 rfl rfl)
theorem dX3_changes_13 : decode cX3_changes 13 = .ok (.if_icmp .ne 44, 3) := dk_160 0 44 (dk_at dksX3_changes_0 13 rfl rfl)
theorem dX3_changes_16 : decode cX3_changes 16 = .ok (.iconst 0, 1) := dk_3 (dk_at dksX3_changes_0 16 rfl rfl)
theorem dX3_changes_17 : decode cX3_changes 17 = .ok (.istore_n 1, 1) := dk_60 (dk_at dksX3_changes_0 17 rfl rfl)
theorem dX3_changes_18 : decode cX3_changes 18 = .ok (.iload_n 1, 1) := dk_27 (dk_at dksX3_changes_0 18 rfl rfl)
theorem dX3_changes_19 : decode cX3_changes 19 = .ok (.sipush 852, 3) := dk_17 3 84 (dk_at dksX3_changes_0 19 rfl rfl)
theorem dX3_changes_22 : decode cX3_changes 22 = .ok (.if_icmp .ge 25, 3) := dk_162 0 25 (dk_at dksX3_changes_1 0 rfl rfl)
theorem dX3_changes_25 : decode cX3_changes 25 = .ok (.aload_n 0, 1) := dk_42 (dk_at dksX3_changes_1 3 rfl rfl)
theorem dX3_changes_26 : decode cX3_changes 26 = .ok (.getfield 13, 3) := dk_180 0 13 (dk_at dksX3_changes_1 4 rfl rfl)
theorem dX3_changes_29 : decode cX3_changes 29 = .ok (.iload_n 1, 1) := dk_27 (dk_at dksX3_changes_1 7 rfl rfl)
theorem dX3_changes_30 : decode cX3_changes 30 = .ok (.aload_n 0, 1) := dk_42 (dk_at dksX3_changes_1 8 rfl rfl)
theorem dX3_changes_31 : decode cX3_changes 31 = .ok (.getfield 13, 3) := dk_180 0 13 (dk_at dksX3_changes_1 9 rfl rfl)
theorem dX3_changes_34 : decode cX3_changes 34 = .ok (.iload_n 1, 1) := dk_27 (dk_at dksX3_changes_1 12 rfl rfl)
theorem dX3_changes_35 : decode cX3_changes 35 = .ok (.sipush 284, 3) := dk_17 1 28 (dk_at dksX3_changes_1 13 rfl rfl)
theorem dX3_changes_38 : decode cX3_changes 38 = .ok (.iadd, 1) := dk_96 (dk_at dksX3_changes_1 16 rfl rfl)
theorem dX3_changes_39 : decode cX3_changes 39 = .ok (.iaload, 1) := dk_46 (dk_at dksX3_changes_1 17 rfl rfl)
theorem dX3_changes_40 : decode cX3_changes 40 = .ok (.iastore, 1) := dk_79 (dk_at dksX3_changes_1 18 rfl rfl)
theorem dX3_changes_41 : decode cX3_changes 41 = .ok (.iinc 1 1, 3) := dk_132 1 1 (dk_at dksX3_changes_1 19 rfl rfl)
theorem dX3_changes_44 : decode cX3_changes 44 = .ok (.goto (-26), 3) := dk_167 255 230 (dk_at dksX3_changes_2 0 rfl rfl)
theorem dX3_changes_47 : decode cX3_changes 47 = .ok (.aload_n 0, 1) := dk_42 (dk_at dksX3_changes_2 3 rfl rfl)
theorem dX3_changes_48 : decode cX3_changes 48 = .ok (.dup, 1) := dk_89 (dk_at dksX3_changes_2 4 rfl rfl)
theorem dX3_changes_49 : decode cX3_changes 49 = .ok (.getfield 35, 3) := dk_180 0 35 (dk_at dksX3_changes_2 5 rfl rfl)
theorem dX3_changes_52 : decode cX3_changes 52 = .ok (.iconst 1, 1) := dk_4 (dk_at dksX3_changes_2 8 rfl rfl)
theorem dX3_changes_53 : decode cX3_changes 53 = .ok (.isub, 1) := dk_100 (dk_at dksX3_changes_2 9 rfl rfl)
theorem dX3_changes_54 : decode cX3_changes 54 = .ok (.putfield 35, 3) := dk_181 0 35 (dk_at dksX3_changes_2 10 rfl rfl)
theorem dX3_changes_57 : decode cX3_changes 57 = .ok (.iconst 0, 1) := dk_3 (dk_at dksX3_changes_2 13 rfl rfl)
theorem dX3_changes_58 : decode cX3_changes 58 = .ok (.istore_n 1, 1) := dk_60 (dk_at dksX3_changes_2 14 rfl rfl)
theorem dX3_changes_59 : decode cX3_changes 59 = .ok (.iload_n 1, 1) := dk_27 (dk_at dksX3_changes_2 15 rfl rfl)
theorem dX3_changes_60 : decode cX3_changes 60 = .ok (.sipush 284, 3) := dk_17 1 28 (dk_at dksX3_changes_2 16 rfl rfl)
theorem dX3_changes_63 : decode cX3_changes 63 = .ok (.if_icmp .ge 30, 3) := dk_162 0 30 (dk_at dksX3_changes_2 19 rfl rfl)
theorem dX3_changes_66 : decode cX3_changes 66 = .ok (.aload_n 0, 1) := dk_42 (dk_at dksX3_changes_2 22 rfl rfl)
theorem dX3_changes_67 : decode cX3_changes 67 = .ok (.getfield 13, 3) := dk_180 0 13 (dk_at dksX3_changes_3 0 rfl rfl)
theorem dX3_changes_70 : decode cX3_changes 70 = .ok (.sipush 284, 3) := dk_17 1 28 (dk_at dksX3_changes_3 3 rfl rfl)
theorem dX3_changes_73 : decode cX3_changes 73 = .ok (.aload_n 0, 1) := dk_42 (dk_at dksX3_changes_3 6 rfl rfl)
theorem dX3_changes_74 : decode cX3_changes 74 = .ok (.getfield 35, 3) := dk_180 0 35 (dk_at dksX3_changes_3 7 rfl rfl)
theorem dX3_changes_77 : decode cX3_changes 77 = .ok (.imul, 1) := dk_104 (dk_at dksX3_changes_3 10 rfl rfl)
theorem dX3_changes_78 : decode cX3_changes 78 = .ok (.iload_n 1, 1) := dk_27 (dk_at dksX3_changes_3 11 rfl rfl)
theorem dX3_changes_79 : decode cX3_changes 79 = .ok (.iadd, 1) := dk_96 (dk_at dksX3_changes_3 12 rfl rfl)
theorem dX3_changes_80 : decode cX3_changes 80 = .ok (.aload_n 0, 1) := dk_42 (dk_at dksX3_changes_3 13 rfl rfl)
theorem dX3_changes_81 : decode cX3_changes 81 = .ok (.getfield 7, 3) := dk_180 0 7 (dk_at dksX3_changes_3 14 rfl rfl)
theorem dX3_changes_84 : decode cX3_changes 84 = .ok (.iload_n 1, 1) := dk_27 (dk_at dksX3_changes_3 17 rfl rfl)
theorem dX3_changes_85 : decode cX3_changes 85 = .ok (.iaload, 1) := dk_46 (dk_at dksX3_changes_3 18 rfl rfl)
theorem dX3_changes_86 : decode cX3_changes 86 = .ok (.iastore, 1) := dk_79 (dk_at dksX3_changes_3 19 rfl rfl)
theorem dX3_changes_87 : decode cX3_changes 87 = .ok (.iinc 1 1, 3) := dk_132 1 1 (dk_at dksX3_changes_3 20 rfl rfl)
theorem dX3_changes_90 : decode cX3_changes 90 = .ok (.goto (-31), 3) := dk_167 255 225 (dk_at dksX3_changes_4 0 rfl rfl)
theorem dX3_changes_93 : decode cX3_changes 93 = .ok (.aload_n 0, 1) := dk_42 (dk_at dksX3_changes_4 3 rfl rfl)
theorem dX3_changes_94 : decode cX3_changes 94 = .ok (.dup, 1) := dk_89 (dk_at dksX3_changes_4 4 rfl rfl)
theorem dX3_changes_95 : decode cX3_changes 95 = .ok (.getfield 35, 3) := dk_180 0 35 (dk_at dksX3_changes_4 5 rfl rfl)
theorem dX3_changes_98 : decode cX3_changes 98 = .ok (.iconst 1, 1) := dk_4 (dk_at dksX3_changes_4 8 rfl rfl)
theorem dX3_changes_99 : decode cX3_changes 99 = .ok (.iadd, 1) := dk_96 (dk_at dksX3_changes_4 9 rfl rfl)
theorem dX3_changes_100 : decode cX3_changes 100 = .ok (.putfield 35, 3) := dk_181 0 35 (dk_at dksX3_changes_4 10 rfl rfl)
theorem dX3_changes_103 : decode cX3_changes 103 = .ok (.return_, 1) := dk_177 (dk_at dksX3_changes_4 13 rfl rfl)
abbrev cX3_opens : ByteArray := prog_12_method_13_code
def yX3_opens : MethodName := ⟨RX3, "opens", "(I)I"⟩
def dkwX3_opens_3 : List UInt8 := [132, 3, 255, 167, 255, 230, 42, 180, 0, 7, 17, 1, 26, 92, 46, 4, 96, 79, 28, 172]
abbrev dktX3_opens_3 : List UInt8 := dkwX3_opens_3 ++ []
def dkwX3_opens_2 : List UInt8 := [16, 13, 28, 104, 161, 0, 24, 42, 180, 0, 7, 29, 16, 13, 96, 42, 180, 0, 7, 29, 46, 79]
abbrev dktX3_opens_2 : List UInt8 := dkwX3_opens_2 ++ dktX3_opens_3
def dkwX3_opens_1 : List UInt8 := [164, 0, 9, 132, 2, 255, 167, 255, 237, 16, 13, 42, 180, 0, 7, 17, 1, 26, 46, 104, 4, 100, 62, 29]
abbrev dktX3_opens_1 : List UInt8 := dkwX3_opens_1 ++ dktX3_opens_2
def dkwX3_opens_0 : List UInt8 := [42, 180, 0, 7, 17, 1, 26, 46, 61, 28, 158, 0, 21, 42, 28, 4, 100, 3, 182, 0, 47, 27]
abbrev dktX3_opens_0 : List UInt8 := dkwX3_opens_0 ++ dktX3_opens_1
theorem dksX3_opens_0 : cX3_opens.data.toList.drop 0 = dktX3_opens_0 := by decide +kernel
theorem dksX3_opens_1 : cX3_opens.data.toList.drop 22 = dktX3_opens_1 := dk_seg dksX3_opens_0 22 rfl rfl
theorem dksX3_opens_2 : cX3_opens.data.toList.drop 46 = dktX3_opens_2 := dk_seg dksX3_opens_1 24 rfl rfl
theorem dksX3_opens_3 : cX3_opens.data.toList.drop 68 = dktX3_opens_3 := dk_seg dksX3_opens_2 22 rfl rfl
theorem dX3_opens_0 : decode cX3_opens 0 = .ok (.aload_n 0, 1) := dk_42 (dk_at dksX3_opens_0 0 rfl rfl)
theorem dX3_opens_1 : decode cX3_opens 1 = .ok (.getfield 7, 3) := dk_180 0 7 (dk_at dksX3_opens_0 1 rfl rfl)
theorem dX3_opens_4 : decode cX3_opens 4 = .ok (.sipush 282, 3) := dk_17 1 26 (dk_at dksX3_opens_0 4 rfl rfl)
theorem dX3_opens_7 : decode cX3_opens 7 = .ok (.iaload, 1) := dk_46 (dk_at dksX3_opens_0 7 rfl rfl)
theorem dX3_opens_8 : decode cX3_opens 8 = .ok (.istore_n 2, 1) := dk_61 (dk_at dksX3_opens_0 8 rfl rfl)
theorem dX3_opens_9 : decode cX3_opens 9 = .ok (.iload_n 2, 1) := dk_28 (dk_at dksX3_opens_0 9 rfl rfl)
theorem dX3_opens_10 : decode cX3_opens 10 = .ok (.ifCond .le 21, 3) := dk_158 0 21 (dk_at dksX3_opens_0 10 rfl rfl)
theorem dX3_opens_13 : decode cX3_opens 13 = .ok (.aload_n 0, 1) := dk_42 (dk_at dksX3_opens_0 13 rfl rfl)
theorem dX3_opens_14 : decode cX3_opens 14 = .ok (.iload_n 2, 1) := dk_28 (dk_at dksX3_opens_0 14 rfl rfl)
theorem dX3_opens_15 : decode cX3_opens 15 = .ok (.iconst 1, 1) := dk_4 (dk_at dksX3_opens_0 15 rfl rfl)
theorem dX3_opens_16 : decode cX3_opens 16 = .ok (.isub, 1) := dk_100 (dk_at dksX3_opens_0 16 rfl rfl)
theorem dX3_opens_17 : decode cX3_opens 17 = .ok (.iconst 0, 1) := dk_3 (dk_at dksX3_opens_0 17 rfl rfl)
theorem dX3_opens_18 : decode cX3_opens 18 = .ok (.invokevirtual 47, 3) := dk_182 0 47 (dk_at dksX3_opens_0 18 rfl rfl)
theorem dX3_opens_21 : decode cX3_opens 21 = .ok (.iload_n 1, 1) := dk_27 (dk_at dksX3_opens_0 21 rfl rfl)
theorem dX3_opens_22 : decode cX3_opens 22 = .ok (.if_icmp .le 9, 3) := dk_164 0 9 (dk_at dksX3_opens_1 0 rfl rfl)
theorem dX3_opens_25 : decode cX3_opens 25 = .ok (.iinc 2 (-1), 3) := dk_132 2 255 (dk_at dksX3_opens_1 3 rfl rfl)
theorem dX3_opens_28 : decode cX3_opens 28 = .ok (.goto (-19), 3) := dk_167 255 237 (dk_at dksX3_opens_1 6 rfl rfl)
theorem dX3_opens_31 : decode cX3_opens 31 = .ok (.bipush 13, 2) := dk_16 13 (dk_at dksX3_opens_1 9 rfl rfl)
theorem dX3_opens_33 : decode cX3_opens 33 = .ok (.aload_n 0, 1) := dk_42 (dk_at dksX3_opens_1 11 rfl rfl)
theorem dX3_opens_34 : decode cX3_opens 34 = .ok (.getfield 7, 3) := dk_180 0 7 (dk_at dksX3_opens_1 12 rfl rfl)
theorem dX3_opens_37 : decode cX3_opens 37 = .ok (.sipush 282, 3) := dk_17 1 26 (dk_at dksX3_opens_1 15 rfl rfl)
theorem dX3_opens_40 : decode cX3_opens 40 = .ok (.iaload, 1) := dk_46 (dk_at dksX3_opens_1 18 rfl rfl)
theorem dX3_opens_41 : decode cX3_opens 41 = .ok (.imul, 1) := dk_104 (dk_at dksX3_opens_1 19 rfl rfl)
theorem dX3_opens_42 : decode cX3_opens 42 = .ok (.iconst 1, 1) := dk_4 (dk_at dksX3_opens_1 20 rfl rfl)
theorem dX3_opens_43 : decode cX3_opens 43 = .ok (.isub, 1) := dk_100 (dk_at dksX3_opens_1 21 rfl rfl)
theorem dX3_opens_44 : decode cX3_opens 44 = .ok (.istore_n 3, 1) := dk_62 (dk_at dksX3_opens_1 22 rfl rfl)
theorem dX3_opens_45 : decode cX3_opens 45 = .ok (.iload_n 3, 1) := dk_29 (dk_at dksX3_opens_1 23 rfl rfl)
theorem dX3_opens_46 : decode cX3_opens 46 = .ok (.bipush 13, 2) := dk_16 13 (dk_at dksX3_opens_2 0 rfl rfl)
theorem dX3_opens_48 : decode cX3_opens 48 = .ok (.iload_n 2, 1) := dk_28 (dk_at dksX3_opens_2 2 rfl rfl)
theorem dX3_opens_49 : decode cX3_opens 49 = .ok (.imul, 1) := dk_104 (dk_at dksX3_opens_2 3 rfl rfl)
theorem dX3_opens_50 : decode cX3_opens 50 = .ok (.if_icmp .lt 24, 3) := dk_161 0 24 (dk_at dksX3_opens_2 4 rfl rfl)
theorem dX3_opens_53 : decode cX3_opens 53 = .ok (.aload_n 0, 1) := dk_42 (dk_at dksX3_opens_2 7 rfl rfl)
theorem dX3_opens_54 : decode cX3_opens 54 = .ok (.getfield 7, 3) := dk_180 0 7 (dk_at dksX3_opens_2 8 rfl rfl)
theorem dX3_opens_57 : decode cX3_opens 57 = .ok (.iload_n 3, 1) := dk_29 (dk_at dksX3_opens_2 11 rfl rfl)
theorem dX3_opens_58 : decode cX3_opens 58 = .ok (.bipush 13, 2) := dk_16 13 (dk_at dksX3_opens_2 12 rfl rfl)
theorem dX3_opens_60 : decode cX3_opens 60 = .ok (.iadd, 1) := dk_96 (dk_at dksX3_opens_2 14 rfl rfl)
theorem dX3_opens_61 : decode cX3_opens 61 = .ok (.aload_n 0, 1) := dk_42 (dk_at dksX3_opens_2 15 rfl rfl)
theorem dX3_opens_62 : decode cX3_opens 62 = .ok (.getfield 7, 3) := dk_180 0 7 (dk_at dksX3_opens_2 16 rfl rfl)
theorem dX3_opens_65 : decode cX3_opens 65 = .ok (.iload_n 3, 1) := dk_29 (dk_at dksX3_opens_2 19 rfl rfl)
theorem dX3_opens_66 : decode cX3_opens 66 = .ok (.iaload, 1) := dk_46 (dk_at dksX3_opens_2 20 rfl rfl)
theorem dX3_opens_67 : decode cX3_opens 67 = .ok (.iastore, 1) := dk_79 (dk_at dksX3_opens_2 21 rfl rfl)
theorem dX3_opens_68 : decode cX3_opens 68 = .ok (.iinc 3 (-1), 3) := dk_132 3 255 (dk_at dksX3_opens_3 0 rfl rfl)
theorem dX3_opens_71 : decode cX3_opens 71 = .ok (.goto (-26), 3) := dk_167 255 230 (dk_at dksX3_opens_3 3 rfl rfl)
theorem dX3_opens_74 : decode cX3_opens 74 = .ok (.aload_n 0, 1) := dk_42 (dk_at dksX3_opens_3 6 rfl rfl)
theorem dX3_opens_75 : decode cX3_opens 75 = .ok (.getfield 7, 3) := dk_180 0 7 (dk_at dksX3_opens_3 7 rfl rfl)
theorem dX3_opens_78 : decode cX3_opens 78 = .ok (.sipush 282, 3) := dk_17 1 26 (dk_at dksX3_opens_3 10 rfl rfl)
theorem dX3_opens_81 : decode cX3_opens 81 = .ok (.dup2, 1) := dk_92 (dk_at dksX3_opens_3 13 rfl rfl)
theorem dX3_opens_82 : decode cX3_opens 82 = .ok (.iaload, 1) := dk_46 (dk_at dksX3_opens_3 14 rfl rfl)
theorem dX3_opens_83 : decode cX3_opens 83 = .ok (.iconst 1, 1) := dk_4 (dk_at dksX3_opens_3 15 rfl rfl)
theorem dX3_opens_84 : decode cX3_opens 84 = .ok (.iadd, 1) := dk_96 (dk_at dksX3_opens_3 16 rfl rfl)
theorem dX3_opens_85 : decode cX3_opens 85 = .ok (.iastore, 1) := dk_79 (dk_at dksX3_opens_3 17 rfl rfl)
theorem dX3_opens_86 : decode cX3_opens 86 = .ok (.iload_n 2, 1) := dk_28 (dk_at dksX3_opens_3 18 rfl rfl)
theorem dX3_opens_87 : decode cX3_opens 87 = .ok (.ireturn, 1) := dk_172 (dk_at dksX3_opens_3 19 rfl rfl)
abbrev cX3_of : ByteArray := prog_12_method_6_code
def yX3_of : MethodName := ⟨RX3, "of", "(II)I"⟩
def dkwX3_of_0 : List UInt8 := [42, 180, 0, 7, 16, 13, 27, 104, 28, 96, 46, 172]
abbrev dktX3_of_0 : List UInt8 := dkwX3_of_0 ++ []
theorem dksX3_of_0 : cX3_of.data.toList.drop 0 = dktX3_of_0 := by decide +kernel
theorem dX3_of_0 : decode cX3_of 0 = .ok (.aload_n 0, 1) := dk_42 (dk_at dksX3_of_0 0 rfl rfl)
theorem dX3_of_1 : decode cX3_of 1 = .ok (.getfield 7, 3) := dk_180 0 7 (dk_at dksX3_of_0 1 rfl rfl)
theorem dX3_of_4 : decode cX3_of 4 = .ok (.bipush 13, 2) := dk_16 13 (dk_at dksX3_of_0 4 rfl rfl)
theorem dX3_of_6 : decode cX3_of 6 = .ok (.iload_n 1, 1) := dk_27 (dk_at dksX3_of_0 6 rfl rfl)
theorem dX3_of_7 : decode cX3_of 7 = .ok (.imul, 1) := dk_104 (dk_at dksX3_of_0 7 rfl rfl)
theorem dX3_of_8 : decode cX3_of 8 = .ok (.iload_n 2, 1) := dk_28 (dk_at dksX3_of_0 8 rfl rfl)
theorem dX3_of_9 : decode cX3_of 9 = .ok (.iadd, 1) := dk_96 (dk_at dksX3_of_0 9 rfl rfl)
theorem dX3_of_10 : decode cX3_of 10 = .ok (.iaload, 1) := dk_46 (dk_at dksX3_of_0 10 rfl rfl)
theorem dX3_of_11 : decode cX3_of 11 = .ok (.ireturn, 1) := dk_172 (dk_at dksX3_of_0 11 rfl rfl)
abbrev cX3_sets : ByteArray := prog_12_method_7_code
def yX3_sets : MethodName := ⟨RX3, "sets", "(III)V"⟩
def dkwX3_sets_0 : List UInt8 := [42, 180, 0, 7, 16, 13, 27, 104, 28, 96, 29, 79, 177]
abbrev dktX3_sets_0 : List UInt8 := dkwX3_sets_0 ++ []
theorem dksX3_sets_0 : cX3_sets.data.toList.drop 0 = dktX3_sets_0 := by decide +kernel
theorem dX3_sets_0 : decode cX3_sets 0 = .ok (.aload_n 0, 1) := dk_42 (dk_at dksX3_sets_0 0 rfl rfl)
theorem dX3_sets_1 : decode cX3_sets 1 = .ok (.getfield 7, 3) := dk_180 0 7 (dk_at dksX3_sets_0 1 rfl rfl)
theorem dX3_sets_4 : decode cX3_sets 4 = .ok (.bipush 13, 2) := dk_16 13 (dk_at dksX3_sets_0 4 rfl rfl)
theorem dX3_sets_6 : decode cX3_sets 6 = .ok (.iload_n 1, 1) := dk_27 (dk_at dksX3_sets_0 6 rfl rfl)
theorem dX3_sets_7 : decode cX3_sets 7 = .ok (.imul, 1) := dk_104 (dk_at dksX3_sets_0 7 rfl rfl)
theorem dX3_sets_8 : decode cX3_sets 8 = .ok (.iload_n 2, 1) := dk_28 (dk_at dksX3_sets_0 8 rfl rfl)
theorem dX3_sets_9 : decode cX3_sets 9 = .ok (.iadd, 1) := dk_96 (dk_at dksX3_sets_0 9 rfl rfl)
theorem dX3_sets_10 : decode cX3_sets 10 = .ok (.iload_n 3, 1) := dk_29 (dk_at dksX3_sets_0 10 rfl rfl)
theorem dX3_sets_11 : decode cX3_sets 11 = .ok (.iastore, 1) := dk_79 (dk_at dksX3_sets_0 11 rfl rfl)
theorem dX3_sets_12 : decode cX3_sets 12 = .ok (.return_, 1) := dk_177 (dk_at dksX3_sets_0 12 rfl rfl)
abbrev cX3_voiceFor : ByteArray := prog_12_method_12_code
def yX3_voiceFor : MethodName := ⟨RX3, "voiceFor", "(I)I"⟩
def dkwX3_voiceFor_4 : List UInt8 := [167, 0, 4, 28, 61, 132, 3, 1, 167, 255, 156, 28, 172]
abbrev dktX3_voiceFor_4 : List UInt8 := dkwX3_voiceFor_4 ++ []
def dkwX3_voiceFor_3 : List UInt8 := [96, 46, 27, 184, 0, 43, 42, 180, 0, 7, 17, 1, 20, 28, 96, 46, 27, 184, 0, 43, 162, 0, 7, 29]
abbrev dktX3_voiceFor_3 : List UInt8 := dkwX3_voiceFor_3 ++ dktX3_voiceFor_4
def dkwX3_voiceFor_2 : List UInt8 := [4, 167, 0, 4, 3, 54, 4, 21, 4, 153, 0, 42, 28, 155, 0, 34, 42, 180, 0, 7, 17, 1, 20, 29]
abbrev dktX3_voiceFor_2 : List UInt8 := dkwX3_voiceFor_2 ++ dktX3_voiceFor_3
def dkwX3_voiceFor_1 : List UInt8 := [180, 0, 7, 17, 1, 20, 29, 96, 46, 27, 184, 0, 43, 42, 180, 0, 7, 17, 1, 27, 46, 163, 0, 7]
abbrev dktX3_voiceFor_1 : List UInt8 := dkwX3_voiceFor_1 ++ dktX3_voiceFor_2
def dkwX3_voiceFor_0 : List UInt8 := [2, 61, 3, 62, 29, 16, 6, 162, 0, 100, 42, 180, 0, 7, 17, 1, 20, 29, 96, 46, 158, 0, 32, 42]
abbrev dktX3_voiceFor_0 : List UInt8 := dkwX3_voiceFor_0 ++ dktX3_voiceFor_1
theorem dksX3_voiceFor_0 : cX3_voiceFor.data.toList.drop 0 = dktX3_voiceFor_0 := by decide +kernel
theorem dksX3_voiceFor_1 : cX3_voiceFor.data.toList.drop 24 = dktX3_voiceFor_1 := dk_seg dksX3_voiceFor_0 24 rfl rfl
theorem dksX3_voiceFor_2 : cX3_voiceFor.data.toList.drop 48 = dktX3_voiceFor_2 := dk_seg dksX3_voiceFor_1 24 rfl rfl
theorem dksX3_voiceFor_3 : cX3_voiceFor.data.toList.drop 72 = dktX3_voiceFor_3 := dk_seg dksX3_voiceFor_2 24 rfl rfl
theorem dksX3_voiceFor_4 : cX3_voiceFor.data.toList.drop 96 = dktX3_voiceFor_4 := dk_seg dksX3_voiceFor_3 24 rfl rfl
theorem dX3_voiceFor_0 : decode cX3_voiceFor 0 = .ok (.iconst (-1), 1) := dk_2 (dk_at dksX3_voiceFor_0 0 rfl rfl)
theorem dX3_voiceFor_1 : decode cX3_voiceFor 1 = .ok (.istore_n 2, 1) := dk_61 (dk_at dksX3_voiceFor_0 1 rfl rfl)
theorem dX3_voiceFor_2 : decode cX3_voiceFor 2 = .ok (.iconst 0, 1) := dk_3 (dk_at dksX3_voiceFor_0 2 rfl rfl)
theorem dX3_voiceFor_3 : decode cX3_voiceFor 3 = .ok (.istore_n 3, 1) := dk_62 (dk_at dksX3_voiceFor_0 3 rfl rfl)
theorem dX3_voiceFor_4 : decode cX3_voiceFor 4 = .ok (.iload_n 3, 1) := dk_29 (dk_at dksX3_voiceFor_0 4 rfl rfl)
theorem dX3_voiceFor_5 : decode cX3_voiceFor 5 = .ok (.bipush 6, 2) := dk_16 6 (dk_at dksX3_voiceFor_0 5 rfl rfl)
theorem dX3_voiceFor_7 : decode cX3_voiceFor 7 = .ok (.if_icmp .ge 100, 3) := dk_162 0 100 (dk_at dksX3_voiceFor_0 7 rfl rfl)
theorem dX3_voiceFor_10 : decode cX3_voiceFor 10 = .ok (.aload_n 0, 1) := dk_42 (dk_at dksX3_voiceFor_0 10 rfl rfl)
theorem dX3_voiceFor_11 : decode cX3_voiceFor 11 = .ok (.getfield 7, 3) := dk_180 0 7 (dk_at dksX3_voiceFor_0 11 rfl rfl)
theorem dX3_voiceFor_14 : decode cX3_voiceFor 14 = .ok (.sipush 276, 3) := dk_17 1 20 (dk_at dksX3_voiceFor_0 14 rfl rfl)
theorem dX3_voiceFor_17 : decode cX3_voiceFor 17 = .ok (.iload_n 3, 1) := dk_29 (dk_at dksX3_voiceFor_0 17 rfl rfl)
theorem dX3_voiceFor_18 : decode cX3_voiceFor 18 = .ok (.iadd, 1) := dk_96 (dk_at dksX3_voiceFor_0 18 rfl rfl)
theorem dX3_voiceFor_19 : decode cX3_voiceFor 19 = .ok (.iaload, 1) := dk_46 (dk_at dksX3_voiceFor_0 19 rfl rfl)
theorem dX3_voiceFor_20 : decode cX3_voiceFor 20 = .ok (.ifCond .le 32, 3) := dk_158 0 32 (dk_at dksX3_voiceFor_0 20 rfl rfl)
theorem dX3_voiceFor_23 : decode cX3_voiceFor 23 = .ok (.aload_n 0, 1) := dk_42 (dk_at dksX3_voiceFor_0 23 rfl rfl)
theorem dX3_voiceFor_24 : decode cX3_voiceFor 24 = .ok (.getfield 7, 3) := dk_180 0 7 (dk_at dksX3_voiceFor_1 0 rfl rfl)
theorem dX3_voiceFor_27 : decode cX3_voiceFor 27 = .ok (.sipush 276, 3) := dk_17 1 20 (dk_at dksX3_voiceFor_1 3 rfl rfl)
theorem dX3_voiceFor_30 : decode cX3_voiceFor 30 = .ok (.iload_n 3, 1) := dk_29 (dk_at dksX3_voiceFor_1 6 rfl rfl)
theorem dX3_voiceFor_31 : decode cX3_voiceFor 31 = .ok (.iadd, 1) := dk_96 (dk_at dksX3_voiceFor_1 7 rfl rfl)
theorem dX3_voiceFor_32 : decode cX3_voiceFor 32 = .ok (.iaload, 1) := dk_46 (dk_at dksX3_voiceFor_1 8 rfl rfl)
theorem dX3_voiceFor_33 : decode cX3_voiceFor 33 = .ok (.iload_n 1, 1) := dk_27 (dk_at dksX3_voiceFor_1 9 rfl rfl)
theorem dX3_voiceFor_34 : decode cX3_voiceFor 34 = .ok (.invokestatic 43, 3) := dk_184 0 43 (dk_at dksX3_voiceFor_1 10 rfl rfl)
theorem dX3_voiceFor_37 : decode cX3_voiceFor 37 = .ok (.aload_n 0, 1) := dk_42 (dk_at dksX3_voiceFor_1 13 rfl rfl)
theorem dX3_voiceFor_38 : decode cX3_voiceFor 38 = .ok (.getfield 7, 3) := dk_180 0 7 (dk_at dksX3_voiceFor_1 14 rfl rfl)
theorem dX3_voiceFor_41 : decode cX3_voiceFor 41 = .ok (.sipush 283, 3) := dk_17 1 27 (dk_at dksX3_voiceFor_1 17 rfl rfl)
theorem dX3_voiceFor_44 : decode cX3_voiceFor 44 = .ok (.iaload, 1) := dk_46 (dk_at dksX3_voiceFor_1 20 rfl rfl)
theorem dX3_voiceFor_45 : decode cX3_voiceFor 45 = .ok (.if_icmp .gt 7, 3) := dk_163 0 7 (dk_at dksX3_voiceFor_1 21 rfl rfl)
theorem dX3_voiceFor_48 : decode cX3_voiceFor 48 = .ok (.iconst 1, 1) := dk_4 (dk_at dksX3_voiceFor_2 0 rfl rfl)
theorem dX3_voiceFor_49 : decode cX3_voiceFor 49 = .ok (.goto 4, 3) := dk_167 0 4 (dk_at dksX3_voiceFor_2 1 rfl rfl)
theorem dX3_voiceFor_52 : decode cX3_voiceFor 52 = .ok (.iconst 0, 1) := dk_3 (dk_at dksX3_voiceFor_2 4 rfl rfl)
theorem dX3_voiceFor_53 : decode cX3_voiceFor 53 = .ok (.istore 4, 2) := dk_54 4 (dk_at dksX3_voiceFor_2 5 rfl rfl)
theorem dX3_voiceFor_55 : decode cX3_voiceFor 55 = .ok (.iload 4, 2) := dk_21 4 (dk_at dksX3_voiceFor_2 7 rfl rfl)
theorem dX3_voiceFor_57 : decode cX3_voiceFor 57 = .ok (.ifCond .eq 42, 3) := dk_153 0 42 (dk_at dksX3_voiceFor_2 9 rfl rfl)
theorem dX3_voiceFor_60 : decode cX3_voiceFor 60 = .ok (.iload_n 2, 1) := dk_28 (dk_at dksX3_voiceFor_2 12 rfl rfl)
theorem dX3_voiceFor_61 : decode cX3_voiceFor 61 = .ok (.ifCond .lt 34, 3) := dk_155 0 34 (dk_at dksX3_voiceFor_2 13 rfl rfl)
theorem dX3_voiceFor_64 : decode cX3_voiceFor 64 = .ok (.aload_n 0, 1) := dk_42 (dk_at dksX3_voiceFor_2 16 rfl rfl)
theorem dX3_voiceFor_65 : decode cX3_voiceFor 65 = .ok (.getfield 7, 3) := dk_180 0 7 (dk_at dksX3_voiceFor_2 17 rfl rfl)
theorem dX3_voiceFor_68 : decode cX3_voiceFor 68 = .ok (.sipush 276, 3) := dk_17 1 20 (dk_at dksX3_voiceFor_2 20 rfl rfl)
theorem dX3_voiceFor_71 : decode cX3_voiceFor 71 = .ok (.iload_n 3, 1) := dk_29 (dk_at dksX3_voiceFor_2 23 rfl rfl)
theorem dX3_voiceFor_72 : decode cX3_voiceFor 72 = .ok (.iadd, 1) := dk_96 (dk_at dksX3_voiceFor_3 0 rfl rfl)
theorem dX3_voiceFor_73 : decode cX3_voiceFor 73 = .ok (.iaload, 1) := dk_46 (dk_at dksX3_voiceFor_3 1 rfl rfl)
theorem dX3_voiceFor_74 : decode cX3_voiceFor 74 = .ok (.iload_n 1, 1) := dk_27 (dk_at dksX3_voiceFor_3 2 rfl rfl)
theorem dX3_voiceFor_75 : decode cX3_voiceFor 75 = .ok (.invokestatic 43, 3) := dk_184 0 43 (dk_at dksX3_voiceFor_3 3 rfl rfl)
theorem dX3_voiceFor_78 : decode cX3_voiceFor 78 = .ok (.aload_n 0, 1) := dk_42 (dk_at dksX3_voiceFor_3 6 rfl rfl)
theorem dX3_voiceFor_79 : decode cX3_voiceFor 79 = .ok (.getfield 7, 3) := dk_180 0 7 (dk_at dksX3_voiceFor_3 7 rfl rfl)
theorem dX3_voiceFor_82 : decode cX3_voiceFor 82 = .ok (.sipush 276, 3) := dk_17 1 20 (dk_at dksX3_voiceFor_3 10 rfl rfl)
theorem dX3_voiceFor_85 : decode cX3_voiceFor 85 = .ok (.iload_n 2, 1) := dk_28 (dk_at dksX3_voiceFor_3 13 rfl rfl)
theorem dX3_voiceFor_86 : decode cX3_voiceFor 86 = .ok (.iadd, 1) := dk_96 (dk_at dksX3_voiceFor_3 14 rfl rfl)
theorem dX3_voiceFor_87 : decode cX3_voiceFor 87 = .ok (.iaload, 1) := dk_46 (dk_at dksX3_voiceFor_3 15 rfl rfl)
theorem dX3_voiceFor_88 : decode cX3_voiceFor 88 = .ok (.iload_n 1, 1) := dk_27 (dk_at dksX3_voiceFor_3 16 rfl rfl)
theorem dX3_voiceFor_89 : decode cX3_voiceFor 89 = .ok (.invokestatic 43, 3) := dk_184 0 43 (dk_at dksX3_voiceFor_3 17 rfl rfl)
theorem dX3_voiceFor_92 : decode cX3_voiceFor 92 = .ok (.if_icmp .ge 7, 3) := dk_162 0 7 (dk_at dksX3_voiceFor_3 20 rfl rfl)
theorem dX3_voiceFor_95 : decode cX3_voiceFor 95 = .ok (.iload_n 3, 1) := dk_29 (dk_at dksX3_voiceFor_3 23 rfl rfl)
theorem dX3_voiceFor_96 : decode cX3_voiceFor 96 = .ok (.goto 4, 3) := dk_167 0 4 (dk_at dksX3_voiceFor_4 0 rfl rfl)
theorem dX3_voiceFor_99 : decode cX3_voiceFor 99 = .ok (.iload_n 2, 1) := dk_28 (dk_at dksX3_voiceFor_4 3 rfl rfl)
theorem dX3_voiceFor_100 : decode cX3_voiceFor 100 = .ok (.istore_n 2, 1) := dk_61 (dk_at dksX3_voiceFor_4 4 rfl rfl)
theorem dX3_voiceFor_101 : decode cX3_voiceFor 101 = .ok (.iinc 3 1, 3) := dk_132 3 1 (dk_at dksX3_voiceFor_4 5 rfl rfl)
theorem dX3_voiceFor_104 : decode cX3_voiceFor 104 = .ok (.goto (-100), 3) := dk_167 255 156 (dk_at dksX3_voiceFor_4 8 rfl rfl)
theorem dX3_voiceFor_107 : decode cX3_voiceFor 107 = .ok (.iload_n 2, 1) := dk_28 (dk_at dksX3_voiceFor_4 11 rfl rfl)
theorem dX3_voiceFor_108 : decode cX3_voiceFor 108 = .ok (.ireturn, 1) := dk_172 (dk_at dksX3_voiceFor_4 12 rfl rfl)
abbrev cX3_far : ByteArray := prog_12_method_11_code
def yX3_far : MethodName := ⟨RX3, "far", "(II)I"⟩
def dkwX3_far_0 : List UInt8 := [26, 27, 162, 0, 9, 27, 26, 100, 167, 0, 6, 26, 27, 100, 172]
abbrev dktX3_far_0 : List UInt8 := dkwX3_far_0 ++ []
theorem dksX3_far_0 : cX3_far.data.toList.drop 0 = dktX3_far_0 := by decide +kernel
theorem dX3_far_0 : decode cX3_far 0 = .ok (.iload_n 0, 1) := dk_26 (dk_at dksX3_far_0 0 rfl rfl)
theorem dX3_far_1 : decode cX3_far 1 = .ok (.iload_n 1, 1) := dk_27 (dk_at dksX3_far_0 1 rfl rfl)
theorem dX3_far_2 : decode cX3_far 2 = .ok (.if_icmp .ge 9, 3) := dk_162 0 9 (dk_at dksX3_far_0 2 rfl rfl)
theorem dX3_far_5 : decode cX3_far 5 = .ok (.iload_n 1, 1) := dk_27 (dk_at dksX3_far_0 5 rfl rfl)
theorem dX3_far_6 : decode cX3_far 6 = .ok (.iload_n 0, 1) := dk_26 (dk_at dksX3_far_0 6 rfl rfl)
theorem dX3_far_7 : decode cX3_far 7 = .ok (.isub, 1) := dk_100 (dk_at dksX3_far_0 7 rfl rfl)
theorem dX3_far_8 : decode cX3_far 8 = .ok (.goto 6, 3) := dk_167 0 6 (dk_at dksX3_far_0 8 rfl rfl)
theorem dX3_far_11 : decode cX3_far 11 = .ok (.iload_n 0, 1) := dk_26 (dk_at dksX3_far_0 11 rfl rfl)
theorem dX3_far_12 : decode cX3_far 12 = .ok (.iload_n 1, 1) := dk_27 (dk_at dksX3_far_0 12 rfl rfl)
theorem dX3_far_13 : decode cX3_far 13 = .ok (.isub, 1) := dk_100 (dk_at dksX3_far_0 13 rfl rfl)
theorem dX3_far_14 : decode cX3_far 14 = .ok (.ireturn, 1) := dk_172 (dk_at dksX3_far_0 14 rfl rfl)
abbrev cX3_say : ByteArray := prog_12_method_15_code
def yX3_say : MethodName := ⟨RX3, "say", "(II)I"⟩
def dkwX3_say_2 : List UInt8 := [27, 7, 29, 4, 96, 182, 0, 59, 29, 4, 96, 172]
abbrev dktX3_say_2 : List UInt8 := dkwX3_say_2 ++ []
def dkwX3_say_1 : List UInt8 := [62, 29, 16, 8, 160, 0, 6, 18, 51, 172, 42, 182, 0, 52, 42, 27, 8, 29, 96, 28, 182, 0, 59, 42]
abbrev dktX3_say_1 : List UInt8 := dkwX3_say_1 ++ dktX3_say_2
def dkwX3_say_0 : List UInt8 := [42, 27, 182, 0, 66, 153, 0, 10, 28, 184, 0, 70, 154, 0, 6, 18, 50, 172, 42, 27, 7, 182, 0, 47]
abbrev dktX3_say_0 : List UInt8 := dkwX3_say_0 ++ dktX3_say_1
theorem dksX3_say_0 : cX3_say.data.toList.drop 0 = dktX3_say_0 := by decide +kernel
theorem dksX3_say_1 : cX3_say.data.toList.drop 24 = dktX3_say_1 := dk_seg dksX3_say_0 24 rfl rfl
theorem dksX3_say_2 : cX3_say.data.toList.drop 48 = dktX3_say_2 := dk_seg dksX3_say_1 24 rfl rfl
theorem dX3_say_0 : decode cX3_say 0 = .ok (.aload_n 0, 1) := dk_42 (dk_at dksX3_say_0 0 rfl rfl)
theorem dX3_say_1 : decode cX3_say 1 = .ok (.iload_n 1, 1) := dk_27 (dk_at dksX3_say_0 1 rfl rfl)
theorem dX3_say_2 : decode cX3_say 2 = .ok (.invokevirtual 66, 3) := dk_182 0 66 (dk_at dksX3_say_0 2 rfl rfl)
theorem dX3_say_5 : decode cX3_say 5 = .ok (.ifCond .eq 10, 3) := dk_153 0 10 (dk_at dksX3_say_0 5 rfl rfl)
theorem dX3_say_8 : decode cX3_say 8 = .ok (.iload_n 2, 1) := dk_28 (dk_at dksX3_say_0 8 rfl rfl)
theorem dX3_say_9 : decode cX3_say 9 = .ok (.invokestatic 70, 3) := dk_184 0 70 (dk_at dksX3_say_0 9 rfl rfl)
theorem dX3_say_12 : decode cX3_say 12 = .ok (.ifCond .ne 6, 3) := dk_154 0 6 (dk_at dksX3_say_0 12 rfl rfl)
theorem dX3_say_15 : decode cX3_say 15 = .ok (.ldc 50, 2) := dk_18 50 (dk_at dksX3_say_0 15 rfl rfl)
theorem dX3_say_17 : decode cX3_say 17 = .ok (.ireturn, 1) := dk_172 (dk_at dksX3_say_0 17 rfl rfl)
theorem dX3_say_18 : decode cX3_say 18 = .ok (.aload_n 0, 1) := dk_42 (dk_at dksX3_say_0 18 rfl rfl)
theorem dX3_say_19 : decode cX3_say 19 = .ok (.iload_n 1, 1) := dk_27 (dk_at dksX3_say_0 19 rfl rfl)
theorem dX3_say_20 : decode cX3_say 20 = .ok (.iconst 4, 1) := dk_7 (dk_at dksX3_say_0 20 rfl rfl)
theorem dX3_say_21 : decode cX3_say 21 = .ok (.invokevirtual 47, 3) := dk_182 0 47 (dk_at dksX3_say_0 21 rfl rfl)
theorem dX3_say_24 : decode cX3_say 24 = .ok (.istore_n 3, 1) := dk_62 (dk_at dksX3_say_1 0 rfl rfl)
theorem dX3_say_25 : decode cX3_say 25 = .ok (.iload_n 3, 1) := dk_29 (dk_at dksX3_say_1 1 rfl rfl)
theorem dX3_say_26 : decode cX3_say 26 = .ok (.bipush 8, 2) := dk_16 8 (dk_at dksX3_say_1 2 rfl rfl)
theorem dX3_say_28 : decode cX3_say 28 = .ok (.if_icmp .ne 6, 3) := dk_160 0 6 (dk_at dksX3_say_1 4 rfl rfl)
theorem dX3_say_31 : decode cX3_say 31 = .ok (.ldc 51, 2) := dk_18 51 (dk_at dksX3_say_1 7 rfl rfl)
theorem dX3_say_33 : decode cX3_say 33 = .ok (.ireturn, 1) := dk_172 (dk_at dksX3_say_1 9 rfl rfl)
theorem dX3_say_34 : decode cX3_say 34 = .ok (.aload_n 0, 1) := dk_42 (dk_at dksX3_say_1 10 rfl rfl)
theorem dX3_say_35 : decode cX3_say 35 = .ok (.invokevirtual 52, 3) := dk_182 0 52 (dk_at dksX3_say_1 11 rfl rfl)
theorem dX3_say_38 : decode cX3_say 38 = .ok (.aload_n 0, 1) := dk_42 (dk_at dksX3_say_1 14 rfl rfl)
theorem dX3_say_39 : decode cX3_say 39 = .ok (.iload_n 1, 1) := dk_27 (dk_at dksX3_say_1 15 rfl rfl)
theorem dX3_say_40 : decode cX3_say 40 = .ok (.iconst 5, 1) := dk_8 (dk_at dksX3_say_1 16 rfl rfl)
theorem dX3_say_41 : decode cX3_say 41 = .ok (.iload_n 3, 1) := dk_29 (dk_at dksX3_say_1 17 rfl rfl)
theorem dX3_say_42 : decode cX3_say 42 = .ok (.iadd, 1) := dk_96 (dk_at dksX3_say_1 18 rfl rfl)
theorem dX3_say_43 : decode cX3_say 43 = .ok (.iload_n 2, 1) := dk_28 (dk_at dksX3_say_1 19 rfl rfl)
theorem dX3_say_44 : decode cX3_say 44 = .ok (.invokevirtual 59, 3) := dk_182 0 59 (dk_at dksX3_say_1 20 rfl rfl)
theorem dX3_say_47 : decode cX3_say 47 = .ok (.aload_n 0, 1) := dk_42 (dk_at dksX3_say_1 23 rfl rfl)
theorem dX3_say_48 : decode cX3_say 48 = .ok (.iload_n 1, 1) := dk_27 (dk_at dksX3_say_2 0 rfl rfl)
theorem dX3_say_49 : decode cX3_say 49 = .ok (.iconst 4, 1) := dk_7 (dk_at dksX3_say_2 1 rfl rfl)
theorem dX3_say_50 : decode cX3_say 50 = .ok (.iload_n 3, 1) := dk_29 (dk_at dksX3_say_2 2 rfl rfl)
theorem dX3_say_51 : decode cX3_say 51 = .ok (.iconst 1, 1) := dk_4 (dk_at dksX3_say_2 3 rfl rfl)
theorem dX3_say_52 : decode cX3_say 52 = .ok (.iadd, 1) := dk_96 (dk_at dksX3_say_2 4 rfl rfl)
theorem dX3_say_53 : decode cX3_say 53 = .ok (.invokevirtual 59, 3) := dk_182 0 59 (dk_at dksX3_say_2 5 rfl rfl)
theorem dX3_say_56 : decode cX3_say 56 = .ok (.iload_n 3, 1) := dk_29 (dk_at dksX3_say_2 8 rfl rfl)
theorem dX3_say_57 : decode cX3_say 57 = .ok (.iconst 1, 1) := dk_4 (dk_at dksX3_say_2 9 rfl rfl)
theorem dX3_say_58 : decode cX3_say 58 = .ok (.iadd, 1) := dk_96 (dk_at dksX3_say_2 10 rfl rfl)
theorem dX3_say_59 : decode cX3_say 59 = .ok (.ireturn, 1) := dk_172 (dk_at dksX3_say_2 11 rfl rfl)
abbrev cX3_isTurn : ByteArray := prog_12_method_8_code
def yX3_isTurn : MethodName := ⟨RX3, "isTurn", "(I)Z"⟩
def dkwX3_isTurn_0 : List UInt8 := [27, 155, 0, 19, 27, 42, 180, 0, 7, 17, 1, 26, 46, 162, 0, 7, 4, 167, 0, 4, 3, 172]
abbrev dktX3_isTurn_0 : List UInt8 := dkwX3_isTurn_0 ++ []
theorem dksX3_isTurn_0 : cX3_isTurn.data.toList.drop 0 = dktX3_isTurn_0 := by decide +kernel
theorem dX3_isTurn_0 : decode cX3_isTurn 0 = .ok (.iload_n 1, 1) := dk_27 (dk_at dksX3_isTurn_0 0 rfl rfl)
theorem dX3_isTurn_1 : decode cX3_isTurn 1 = .ok (.ifCond .lt 19, 3) := dk_155 0 19 (dk_at dksX3_isTurn_0 1 rfl rfl)
theorem dX3_isTurn_4 : decode cX3_isTurn 4 = .ok (.iload_n 1, 1) := dk_27 (dk_at dksX3_isTurn_0 4 rfl rfl)
theorem dX3_isTurn_5 : decode cX3_isTurn 5 = .ok (.aload_n 0, 1) := dk_42 (dk_at dksX3_isTurn_0 5 rfl rfl)
theorem dX3_isTurn_6 : decode cX3_isTurn 6 = .ok (.getfield 7, 3) := dk_180 0 7 (dk_at dksX3_isTurn_0 6 rfl rfl)
theorem dX3_isTurn_9 : decode cX3_isTurn 9 = .ok (.sipush 282, 3) := dk_17 1 26 (dk_at dksX3_isTurn_0 9 rfl rfl)
theorem dX3_isTurn_12 : decode cX3_isTurn 12 = .ok (.iaload, 1) := dk_46 (dk_at dksX3_isTurn_0 12 rfl rfl)
theorem dX3_isTurn_13 : decode cX3_isTurn 13 = .ok (.if_icmp .ge 7, 3) := dk_162 0 7 (dk_at dksX3_isTurn_0 13 rfl rfl)
theorem dX3_isTurn_16 : decode cX3_isTurn 16 = .ok (.iconst 1, 1) := dk_4 (dk_at dksX3_isTurn_0 16 rfl rfl)
theorem dX3_isTurn_17 : decode cX3_isTurn 17 = .ok (.goto 4, 3) := dk_167 0 4 (dk_at dksX3_isTurn_0 17 rfl rfl)
theorem dX3_isTurn_20 : decode cX3_isTurn 20 = .ok (.iconst 0, 1) := dk_3 (dk_at dksX3_isTurn_0 20 rfl rfl)
theorem dX3_isTurn_21 : decode cX3_isTurn 21 = .ok (.ireturn, 1) := dk_172 (dk_at dksX3_isTurn_0 21 rfl rfl)
abbrev cX3_isTerm : ByteArray := prog_12_method_10_code
def yX3_isTerm : MethodName := ⟨RX3, "isTerm", "(I)Z"⟩
def dkwX3_isTerm_0 : List UInt8 := [26, 3, 16, 15, 184, 0, 39, 172]
abbrev dktX3_isTerm_0 : List UInt8 := dkwX3_isTerm_0 ++ []
theorem dksX3_isTerm_0 : cX3_isTerm.data.toList.drop 0 = dktX3_isTerm_0 := by decide +kernel
theorem dX3_isTerm_0 : decode cX3_isTerm 0 = .ok (.iload_n 0, 1) := dk_26 (dk_at dksX3_isTerm_0 0 rfl rfl)
theorem dX3_isTerm_1 : decode cX3_isTerm 1 = .ok (.iconst 0, 1) := dk_3 (dk_at dksX3_isTerm_0 1 rfl rfl)
theorem dX3_isTerm_2 : decode cX3_isTerm 2 = .ok (.bipush 15, 2) := dk_16 15 (dk_at dksX3_isTerm_0 2 rfl rfl)
theorem dX3_isTerm_4 : decode cX3_isTerm 4 = .ok (.invokestatic 39, 3) := dk_184 0 39 (dk_at dksX3_isTerm_0 4 rfl rfl)
theorem dX3_isTerm_7 : decode cX3_isTerm 7 = .ok (.ireturn, 1) := dk_172 (dk_at dksX3_isTerm_0 7 rfl rfl)
abbrev cX3_part : ByteArray := prog_12_method_16_code
def yX3_part : MethodName := ⟨RX3, "part", "(III)I"⟩
def dkwX3_part_9 : List UInt8 := [167, 255, 221, 21, 4, 172]
abbrev dktX3_part_9 : List UInt8 := dkwX3_part_9 ++ []
def dkwX3_part_8 : List UInt8 := [42, 21, 4, 8, 21, 5, 96, 29, 100, 42, 180, 0, 22, 8, 21, 5, 96, 46, 182, 0, 59, 132, 5, 1]
abbrev dktX3_part_8 : List UInt8 := dkwX3_part_8 ++ dktX3_part_9
def dkwX3_part_7 : List UInt8 := [180, 0, 22, 7, 46, 29, 100, 182, 0, 59, 29, 54, 5, 21, 5, 42, 180, 0, 22, 7, 46, 162, 0, 30]
abbrev dktX3_part_7 : List UInt8 := dkwX3_part_7 ++ dktX3_part_8
def dkwX3_part_6 : List UInt8 := [182, 0, 59, 132, 5, 1, 167, 255, 231, 42, 21, 4, 3, 28, 182, 0, 59, 42, 21, 4, 7, 42]
abbrev dktX3_part_6 : List UInt8 := dkwX3_part_6 ++ dktX3_part_7
def dkwX3_part_5 : List UInt8 := [3, 54, 5, 21, 5, 16, 13, 162, 0, 24, 42, 21, 4, 21, 5, 42, 180, 0, 22, 21, 5, 46]
abbrev dktX3_part_5 : List UInt8 := dkwX3_part_5 ++ dktX3_part_6
def dkwX3_part_4 : List UInt8 := [167, 255, 232, 42, 27, 4, 28, 182, 0, 59, 42, 27, 7, 29, 182, 0, 59, 42, 28, 182, 0, 55, 54, 4]
abbrev dktX3_part_4 : List UInt8 := dkwX3_part_4 ++ dktX3_part_5
def dkwX3_part_3 : List UInt8 := [16, 13, 162, 0, 23, 42, 180, 0, 22, 21, 4, 42, 27, 21, 4, 182, 0, 47, 79, 132, 4, 1]
abbrev dktX3_part_3 : List UInt8 := dkwX3_part_3 ++ dktX3_part_4
def dkwX3_part_2 : List UInt8 := [180, 0, 7, 17, 1, 26, 46, 16, 20, 160, 0, 6, 18, 51, 172, 42, 182, 0, 52, 3, 54, 4, 21, 4]
abbrev dktX3_part_2 : List UInt8 := dkwX3_part_2 ++ dktX3_part_3
def dkwX3_part_1 : List UInt8 := [182, 0, 47, 162, 0, 17, 29, 3, 42, 27, 7, 182, 0, 47, 184, 0, 39, 154, 0, 6, 18, 50, 172, 42]
abbrev dktX3_part_1 : List UInt8 := dkwX3_part_1 ++ dktX3_part_2
def dkwX3_part_0 : List UInt8 := [42, 27, 182, 0, 66, 153, 0, 37, 28, 42, 27, 3, 182, 0, 47, 164, 0, 27, 28, 42, 27, 4]
abbrev dktX3_part_0 : List UInt8 := dkwX3_part_0 ++ dktX3_part_1
theorem dksX3_part_0 : cX3_part.data.toList.drop 0 = dktX3_part_0 := by decide +kernel
theorem dksX3_part_1 : cX3_part.data.toList.drop 22 = dktX3_part_1 := dk_seg dksX3_part_0 22 rfl rfl
theorem dksX3_part_2 : cX3_part.data.toList.drop 46 = dktX3_part_2 := dk_seg dksX3_part_1 24 rfl rfl
theorem dksX3_part_3 : cX3_part.data.toList.drop 70 = dktX3_part_3 := dk_seg dksX3_part_2 24 rfl rfl
theorem dksX3_part_4 : cX3_part.data.toList.drop 92 = dktX3_part_4 := dk_seg dksX3_part_3 22 rfl rfl
theorem dksX3_part_5 : cX3_part.data.toList.drop 116 = dktX3_part_5 := dk_seg dksX3_part_4 24 rfl rfl
theorem dksX3_part_6 : cX3_part.data.toList.drop 138 = dktX3_part_6 := dk_seg dksX3_part_5 22 rfl rfl
theorem dksX3_part_7 : cX3_part.data.toList.drop 160 = dktX3_part_7 := dk_seg dksX3_part_6 22 rfl rfl
theorem dksX3_part_8 : cX3_part.data.toList.drop 184 = dktX3_part_8 := dk_seg dksX3_part_7 24 rfl rfl
theorem dksX3_part_9 : cX3_part.data.toList.drop 208 = dktX3_part_9 := dk_seg dksX3_part_8 24 rfl rfl
theorem dX3_part_0 : decode cX3_part 0 = .ok (.aload_n 0, 1) := dk_42 (dk_at dksX3_part_0 0 rfl rfl)
theorem dX3_part_1 : decode cX3_part 1 = .ok (.iload_n 1, 1) := dk_27 (dk_at dksX3_part_0 1 rfl rfl)
theorem dX3_part_2 : decode cX3_part 2 = .ok (.invokevirtual 66, 3) := dk_182 0 66 (dk_at dksX3_part_0 2 rfl rfl)
theorem dX3_part_5 : decode cX3_part 5 = .ok (.ifCond .eq 37, 3) := dk_153 0 37 (dk_at dksX3_part_0 5 rfl rfl)
theorem dX3_part_8 : decode cX3_part 8 = .ok (.iload_n 2, 1) := dk_28 (dk_at dksX3_part_0 8 rfl rfl)
theorem dX3_part_9 : decode cX3_part 9 = .ok (.aload_n 0, 1) := dk_42 (dk_at dksX3_part_0 9 rfl rfl)
theorem dX3_part_10 : decode cX3_part 10 = .ok (.iload_n 1, 1) := dk_27 (dk_at dksX3_part_0 10 rfl rfl)
theorem dX3_part_11 : decode cX3_part 11 = .ok (.iconst 0, 1) := dk_3 (dk_at dksX3_part_0 11 rfl rfl)
theorem dX3_part_12 : decode cX3_part 12 = .ok (.invokevirtual 47, 3) := dk_182 0 47 (dk_at dksX3_part_0 12 rfl rfl)
theorem dX3_part_15 : decode cX3_part 15 = .ok (.if_icmp .le 27, 3) := dk_164 0 27 (dk_at dksX3_part_0 15 rfl rfl)
theorem dX3_part_18 : decode cX3_part 18 = .ok (.iload_n 2, 1) := dk_28 (dk_at dksX3_part_0 18 rfl rfl)
theorem dX3_part_19 : decode cX3_part 19 = .ok (.aload_n 0, 1) := dk_42 (dk_at dksX3_part_0 19 rfl rfl)
theorem dX3_part_20 : decode cX3_part 20 = .ok (.iload_n 1, 1) := dk_27 (dk_at dksX3_part_0 20 rfl rfl)
theorem dX3_part_21 : decode cX3_part 21 = .ok (.iconst 1, 1) := dk_4 (dk_at dksX3_part_0 21 rfl rfl)
theorem dX3_part_22 : decode cX3_part 22 = .ok (.invokevirtual 47, 3) := dk_182 0 47 (dk_at dksX3_part_1 0 rfl rfl)
theorem dX3_part_25 : decode cX3_part 25 = .ok (.if_icmp .ge 17, 3) := dk_162 0 17 (dk_at dksX3_part_1 3 rfl rfl)
theorem dX3_part_28 : decode cX3_part 28 = .ok (.iload_n 3, 1) := dk_29 (dk_at dksX3_part_1 6 rfl rfl)
theorem dX3_part_29 : decode cX3_part 29 = .ok (.iconst 0, 1) := dk_3 (dk_at dksX3_part_1 7 rfl rfl)
theorem dX3_part_30 : decode cX3_part 30 = .ok (.aload_n 0, 1) := dk_42 (dk_at dksX3_part_1 8 rfl rfl)
theorem dX3_part_31 : decode cX3_part 31 = .ok (.iload_n 1, 1) := dk_27 (dk_at dksX3_part_1 9 rfl rfl)
theorem dX3_part_32 : decode cX3_part 32 = .ok (.iconst 4, 1) := dk_7 (dk_at dksX3_part_1 10 rfl rfl)
theorem dX3_part_33 : decode cX3_part 33 = .ok (.invokevirtual 47, 3) := dk_182 0 47 (dk_at dksX3_part_1 11 rfl rfl)
theorem dX3_part_36 : decode cX3_part 36 = .ok (.invokestatic 39, 3) := dk_184 0 39 (dk_at dksX3_part_1 14 rfl rfl)
theorem dX3_part_39 : decode cX3_part 39 = .ok (.ifCond .ne 6, 3) := dk_154 0 6 (dk_at dksX3_part_1 17 rfl rfl)
theorem dX3_part_42 : decode cX3_part 42 = .ok (.ldc 50, 2) := dk_18 50 (dk_at dksX3_part_1 20 rfl rfl)
theorem dX3_part_44 : decode cX3_part 44 = .ok (.ireturn, 1) := dk_172 (dk_at dksX3_part_1 22 rfl rfl)
theorem dX3_part_45 : decode cX3_part 45 = .ok (.aload_n 0, 1) := dk_42 (dk_at dksX3_part_1 23 rfl rfl)
theorem dX3_part_46 : decode cX3_part 46 = .ok (.getfield 7, 3) := dk_180 0 7 (dk_at dksX3_part_2 0 rfl rfl)
theorem dX3_part_49 : decode cX3_part 49 = .ok (.sipush 282, 3) := dk_17 1 26 (dk_at dksX3_part_2 3 rfl rfl)
theorem dX3_part_52 : decode cX3_part 52 = .ok (.iaload, 1) := dk_46 (dk_at dksX3_part_2 6 rfl rfl)
theorem dX3_part_53 : decode cX3_part 53 = .ok (.bipush 20, 2) := dk_16 20 (dk_at dksX3_part_2 7 rfl rfl)
theorem dX3_part_55 : decode cX3_part 55 = .ok (.if_icmp .ne 6, 3) := dk_160 0 6 (dk_at dksX3_part_2 9 rfl rfl)
theorem dX3_part_58 : decode cX3_part 58 = .ok (.ldc 51, 2) := dk_18 51 (dk_at dksX3_part_2 12 rfl rfl)
theorem dX3_part_60 : decode cX3_part 60 = .ok (.ireturn, 1) := dk_172 (dk_at dksX3_part_2 14 rfl rfl)
theorem dX3_part_61 : decode cX3_part 61 = .ok (.aload_n 0, 1) := dk_42 (dk_at dksX3_part_2 15 rfl rfl)
theorem dX3_part_62 : decode cX3_part 62 = .ok (.invokevirtual 52, 3) := dk_182 0 52 (dk_at dksX3_part_2 16 rfl rfl)
theorem dX3_part_65 : decode cX3_part 65 = .ok (.iconst 0, 1) := dk_3 (dk_at dksX3_part_2 19 rfl rfl)
theorem dX3_part_66 : decode cX3_part 66 = .ok (.istore 4, 2) := dk_54 4 (dk_at dksX3_part_2 20 rfl rfl)
theorem dX3_part_68 : decode cX3_part 68 = .ok (.iload 4, 2) := dk_21 4 (dk_at dksX3_part_2 22 rfl rfl)
theorem dX3_part_70 : decode cX3_part 70 = .ok (.bipush 13, 2) := dk_16 13 (dk_at dksX3_part_3 0 rfl rfl)
theorem dX3_part_72 : decode cX3_part 72 = .ok (.if_icmp .ge 23, 3) := dk_162 0 23 (dk_at dksX3_part_3 2 rfl rfl)
theorem dX3_part_75 : decode cX3_part 75 = .ok (.aload_n 0, 1) := dk_42 (dk_at dksX3_part_3 5 rfl rfl)
theorem dX3_part_76 : decode cX3_part 76 = .ok (.getfield 22, 3) := dk_180 0 22 (dk_at dksX3_part_3 6 rfl rfl)
theorem dX3_part_79 : decode cX3_part 79 = .ok (.iload 4, 2) := dk_21 4 (dk_at dksX3_part_3 9 rfl rfl)
theorem dX3_part_81 : decode cX3_part 81 = .ok (.aload_n 0, 1) := dk_42 (dk_at dksX3_part_3 11 rfl rfl)
theorem dX3_part_82 : decode cX3_part 82 = .ok (.iload_n 1, 1) := dk_27 (dk_at dksX3_part_3 12 rfl rfl)
theorem dX3_part_83 : decode cX3_part 83 = .ok (.iload 4, 2) := dk_21 4 (dk_at dksX3_part_3 13 rfl rfl)
theorem dX3_part_85 : decode cX3_part 85 = .ok (.invokevirtual 47, 3) := dk_182 0 47 (dk_at dksX3_part_3 15 rfl rfl)
theorem dX3_part_88 : decode cX3_part 88 = .ok (.iastore, 1) := dk_79 (dk_at dksX3_part_3 18 rfl rfl)
theorem dX3_part_89 : decode cX3_part 89 = .ok (.iinc 4 1, 3) := dk_132 4 1 (dk_at dksX3_part_3 19 rfl rfl)
theorem dX3_part_92 : decode cX3_part 92 = .ok (.goto (-24), 3) := dk_167 255 232 (dk_at dksX3_part_4 0 rfl rfl)
theorem dX3_part_95 : decode cX3_part 95 = .ok (.aload_n 0, 1) := dk_42 (dk_at dksX3_part_4 3 rfl rfl)
theorem dX3_part_96 : decode cX3_part 96 = .ok (.iload_n 1, 1) := dk_27 (dk_at dksX3_part_4 4 rfl rfl)
theorem dX3_part_97 : decode cX3_part 97 = .ok (.iconst 1, 1) := dk_4 (dk_at dksX3_part_4 5 rfl rfl)
theorem dX3_part_98 : decode cX3_part 98 = .ok (.iload_n 2, 1) := dk_28 (dk_at dksX3_part_4 6 rfl rfl)
theorem dX3_part_99 : decode cX3_part 99 = .ok (.invokevirtual 59, 3) := dk_182 0 59 (dk_at dksX3_part_4 7 rfl rfl)
theorem dX3_part_102 : decode cX3_part 102 = .ok (.aload_n 0, 1) := dk_42 (dk_at dksX3_part_4 10 rfl rfl)
theorem dX3_part_103 : decode cX3_part 103 = .ok (.iload_n 1, 1) := dk_27 (dk_at dksX3_part_4 11 rfl rfl)
theorem dX3_part_104 : decode cX3_part 104 = .ok (.iconst 4, 1) := dk_7 (dk_at dksX3_part_4 12 rfl rfl)
theorem dX3_part_105 : decode cX3_part 105 = .ok (.iload_n 3, 1) := dk_29 (dk_at dksX3_part_4 13 rfl rfl)
theorem dX3_part_106 : decode cX3_part 106 = .ok (.invokevirtual 59, 3) := dk_182 0 59 (dk_at dksX3_part_4 14 rfl rfl)
theorem dX3_part_109 : decode cX3_part 109 = .ok (.aload_n 0, 1) := dk_42 (dk_at dksX3_part_4 17 rfl rfl)
theorem dX3_part_110 : decode cX3_part 110 = .ok (.iload_n 2, 1) := dk_28 (dk_at dksX3_part_4 18 rfl rfl)
theorem dX3_part_111 : decode cX3_part 111 = .ok (.invokevirtual 55, 3) := dk_182 0 55 (dk_at dksX3_part_4 19 rfl rfl)
theorem dX3_part_114 : decode cX3_part 114 = .ok (.istore 4, 2) := dk_54 4 (dk_at dksX3_part_4 22 rfl rfl)
theorem dX3_part_116 : decode cX3_part 116 = .ok (.iconst 0, 1) := dk_3 (dk_at dksX3_part_5 0 rfl rfl)
theorem dX3_part_117 : decode cX3_part 117 = .ok (.istore 5, 2) := dk_54 5 (dk_at dksX3_part_5 1 rfl rfl)
theorem dX3_part_119 : decode cX3_part 119 = .ok (.iload 5, 2) := dk_21 5 (dk_at dksX3_part_5 3 rfl rfl)
theorem dX3_part_121 : decode cX3_part 121 = .ok (.bipush 13, 2) := dk_16 13 (dk_at dksX3_part_5 5 rfl rfl)
theorem dX3_part_123 : decode cX3_part 123 = .ok (.if_icmp .ge 24, 3) := dk_162 0 24 (dk_at dksX3_part_5 7 rfl rfl)
theorem dX3_part_126 : decode cX3_part 126 = .ok (.aload_n 0, 1) := dk_42 (dk_at dksX3_part_5 10 rfl rfl)
theorem dX3_part_127 : decode cX3_part 127 = .ok (.iload 4, 2) := dk_21 4 (dk_at dksX3_part_5 11 rfl rfl)
theorem dX3_part_129 : decode cX3_part 129 = .ok (.iload 5, 2) := dk_21 5 (dk_at dksX3_part_5 13 rfl rfl)
theorem dX3_part_131 : decode cX3_part 131 = .ok (.aload_n 0, 1) := dk_42 (dk_at dksX3_part_5 15 rfl rfl)
theorem dX3_part_132 : decode cX3_part 132 = .ok (.getfield 22, 3) := dk_180 0 22 (dk_at dksX3_part_5 16 rfl rfl)
theorem dX3_part_135 : decode cX3_part 135 = .ok (.iload 5, 2) := dk_21 5 (dk_at dksX3_part_5 19 rfl rfl)
theorem dX3_part_137 : decode cX3_part 137 = .ok (.iaload, 1) := dk_46 (dk_at dksX3_part_5 21 rfl rfl)
theorem dX3_part_138 : decode cX3_part 138 = .ok (.invokevirtual 59, 3) := dk_182 0 59 (dk_at dksX3_part_6 0 rfl rfl)
theorem dX3_part_141 : decode cX3_part 141 = .ok (.iinc 5 1, 3) := dk_132 5 1 (dk_at dksX3_part_6 3 rfl rfl)
theorem dX3_part_144 : decode cX3_part 144 = .ok (.goto (-25), 3) := dk_167 255 231 (dk_at dksX3_part_6 6 rfl rfl)
theorem dX3_part_147 : decode cX3_part 147 = .ok (.aload_n 0, 1) := dk_42 (dk_at dksX3_part_6 9 rfl rfl)
theorem dX3_part_148 : decode cX3_part 148 = .ok (.iload 4, 2) := dk_21 4 (dk_at dksX3_part_6 10 rfl rfl)
theorem dX3_part_150 : decode cX3_part 150 = .ok (.iconst 0, 1) := dk_3 (dk_at dksX3_part_6 12 rfl rfl)
theorem dX3_part_151 : decode cX3_part 151 = .ok (.iload_n 2, 1) := dk_28 (dk_at dksX3_part_6 13 rfl rfl)
theorem dX3_part_152 : decode cX3_part 152 = .ok (.invokevirtual 59, 3) := dk_182 0 59 (dk_at dksX3_part_6 14 rfl rfl)
theorem dX3_part_155 : decode cX3_part 155 = .ok (.aload_n 0, 1) := dk_42 (dk_at dksX3_part_6 17 rfl rfl)
theorem dX3_part_156 : decode cX3_part 156 = .ok (.iload 4, 2) := dk_21 4 (dk_at dksX3_part_6 18 rfl rfl)
theorem dX3_part_158 : decode cX3_part 158 = .ok (.iconst 4, 1) := dk_7 (dk_at dksX3_part_6 20 rfl rfl)
theorem dX3_part_159 : decode cX3_part 159 = .ok (.aload_n 0, 1) := dk_42 (dk_at dksX3_part_6 21 rfl rfl)
theorem dX3_part_160 : decode cX3_part 160 = .ok (.getfield 22, 3) := dk_180 0 22 (dk_at dksX3_part_7 0 rfl rfl)
theorem dX3_part_163 : decode cX3_part 163 = .ok (.iconst 4, 1) := dk_7 (dk_at dksX3_part_7 3 rfl rfl)
theorem dX3_part_164 : decode cX3_part 164 = .ok (.iaload, 1) := dk_46 (dk_at dksX3_part_7 4 rfl rfl)
theorem dX3_part_165 : decode cX3_part 165 = .ok (.iload_n 3, 1) := dk_29 (dk_at dksX3_part_7 5 rfl rfl)
theorem dX3_part_166 : decode cX3_part 166 = .ok (.isub, 1) := dk_100 (dk_at dksX3_part_7 6 rfl rfl)
theorem dX3_part_167 : decode cX3_part 167 = .ok (.invokevirtual 59, 3) := dk_182 0 59 (dk_at dksX3_part_7 7 rfl rfl)
theorem dX3_part_170 : decode cX3_part 170 = .ok (.iload_n 3, 1) := dk_29 (dk_at dksX3_part_7 10 rfl rfl)
theorem dX3_part_171 : decode cX3_part 171 = .ok (.istore 5, 2) := dk_54 5 (dk_at dksX3_part_7 11 rfl rfl)
theorem dX3_part_173 : decode cX3_part 173 = .ok (.iload 5, 2) := dk_21 5 (dk_at dksX3_part_7 13 rfl rfl)
theorem dX3_part_175 : decode cX3_part 175 = .ok (.aload_n 0, 1) := dk_42 (dk_at dksX3_part_7 15 rfl rfl)
theorem dX3_part_176 : decode cX3_part 176 = .ok (.getfield 22, 3) := dk_180 0 22 (dk_at dksX3_part_7 16 rfl rfl)
theorem dX3_part_179 : decode cX3_part 179 = .ok (.iconst 4, 1) := dk_7 (dk_at dksX3_part_7 19 rfl rfl)
theorem dX3_part_180 : decode cX3_part 180 = .ok (.iaload, 1) := dk_46 (dk_at dksX3_part_7 20 rfl rfl)
theorem dX3_part_181 : decode cX3_part 181 = .ok (.if_icmp .ge 30, 3) := dk_162 0 30 (dk_at dksX3_part_7 21 rfl rfl)
theorem dX3_part_184 : decode cX3_part 184 = .ok (.aload_n 0, 1) := dk_42 (dk_at dksX3_part_8 0 rfl rfl)
theorem dX3_part_185 : decode cX3_part 185 = .ok (.iload 4, 2) := dk_21 4 (dk_at dksX3_part_8 1 rfl rfl)
theorem dX3_part_187 : decode cX3_part 187 = .ok (.iconst 5, 1) := dk_8 (dk_at dksX3_part_8 3 rfl rfl)
theorem dX3_part_188 : decode cX3_part 188 = .ok (.iload 5, 2) := dk_21 5 (dk_at dksX3_part_8 4 rfl rfl)
theorem dX3_part_190 : decode cX3_part 190 = .ok (.iadd, 1) := dk_96 (dk_at dksX3_part_8 6 rfl rfl)
theorem dX3_part_191 : decode cX3_part 191 = .ok (.iload_n 3, 1) := dk_29 (dk_at dksX3_part_8 7 rfl rfl)
theorem dX3_part_192 : decode cX3_part 192 = .ok (.isub, 1) := dk_100 (dk_at dksX3_part_8 8 rfl rfl)
theorem dX3_part_193 : decode cX3_part 193 = .ok (.aload_n 0, 1) := dk_42 (dk_at dksX3_part_8 9 rfl rfl)
theorem dX3_part_194 : decode cX3_part 194 = .ok (.getfield 22, 3) := dk_180 0 22 (dk_at dksX3_part_8 10 rfl rfl)
theorem dX3_part_197 : decode cX3_part 197 = .ok (.iconst 5, 1) := dk_8 (dk_at dksX3_part_8 13 rfl rfl)
theorem dX3_part_198 : decode cX3_part 198 = .ok (.iload 5, 2) := dk_21 5 (dk_at dksX3_part_8 14 rfl rfl)
theorem dX3_part_200 : decode cX3_part 200 = .ok (.iadd, 1) := dk_96 (dk_at dksX3_part_8 16 rfl rfl)
theorem dX3_part_201 : decode cX3_part 201 = .ok (.iaload, 1) := dk_46 (dk_at dksX3_part_8 17 rfl rfl)
theorem dX3_part_202 : decode cX3_part 202 = .ok (.invokevirtual 59, 3) := dk_182 0 59 (dk_at dksX3_part_8 18 rfl rfl)
theorem dX3_part_205 : decode cX3_part 205 = .ok (.iinc 5 1, 3) := dk_132 5 1 (dk_at dksX3_part_8 21 rfl rfl)
theorem dX3_part_208 : decode cX3_part 208 = .ok (.goto (-35), 3) := dk_167 255 221 (dk_at dksX3_part_9 0 rfl rfl)
theorem dX3_part_211 : decode cX3_part 211 = .ok (.iload 4, 2) := dk_21 4 (dk_at dksX3_part_9 3 rfl rfl)
theorem dX3_part_213 : decode cX3_part 213 = .ok (.ireturn, 1) := dk_172 (dk_at dksX3_part_9 5 rfl rfl)
abbrev cX3_remove : ByteArray := prog_12_method_17_code
def yX3_remove : MethodName := ⟨RX3, "remove", "(I)I"⟩
def dkwX3_remove_3 : List UInt8 := [17, 1, 26, 46, 172]
abbrev dktX3_remove_3 : List UInt8 := dkwX3_remove_3 ++ []
def dkwX3_remove_2 : List UInt8 := [180, 0, 7, 28, 42, 180, 0, 7, 28, 16, 13, 96, 46, 79, 132, 2, 1, 167, 255, 223, 42, 180, 0, 7]
abbrev dktX3_remove_2 : List UInt8 := dkwX3_remove_2 ++ dktX3_remove_3
def dkwX3_remove_1 : List UInt8 := [4, 100, 79, 16, 13, 27, 104, 61, 28, 16, 13, 42, 180, 0, 7, 17, 1, 26, 46, 104, 162, 0, 24, 42]
abbrev dktX3_remove_1 : List UInt8 := dkwX3_remove_1 ++ dktX3_remove_2
def dkwX3_remove_0 : List UInt8 := [42, 27, 182, 0, 66, 154, 0, 6, 18, 50, 172, 42, 182, 0, 52, 42, 180, 0, 7, 17, 1, 26, 92, 46]
abbrev dktX3_remove_0 : List UInt8 := dkwX3_remove_0 ++ dktX3_remove_1
theorem dksX3_remove_0 : cX3_remove.data.toList.drop 0 = dktX3_remove_0 := by decide +kernel
theorem dksX3_remove_1 : cX3_remove.data.toList.drop 24 = dktX3_remove_1 := dk_seg dksX3_remove_0 24 rfl rfl
theorem dksX3_remove_2 : cX3_remove.data.toList.drop 48 = dktX3_remove_2 := dk_seg dksX3_remove_1 24 rfl rfl
theorem dksX3_remove_3 : cX3_remove.data.toList.drop 72 = dktX3_remove_3 := dk_seg dksX3_remove_2 24 rfl rfl
theorem dX3_remove_0 : decode cX3_remove 0 = .ok (.aload_n 0, 1) := dk_42 (dk_at dksX3_remove_0 0 rfl rfl)
theorem dX3_remove_1 : decode cX3_remove 1 = .ok (.iload_n 1, 1) := dk_27 (dk_at dksX3_remove_0 1 rfl rfl)
theorem dX3_remove_2 : decode cX3_remove 2 = .ok (.invokevirtual 66, 3) := dk_182 0 66 (dk_at dksX3_remove_0 2 rfl rfl)
theorem dX3_remove_5 : decode cX3_remove 5 = .ok (.ifCond .ne 6, 3) := dk_154 0 6 (dk_at dksX3_remove_0 5 rfl rfl)
theorem dX3_remove_8 : decode cX3_remove 8 = .ok (.ldc 50, 2) := dk_18 50 (dk_at dksX3_remove_0 8 rfl rfl)
theorem dX3_remove_10 : decode cX3_remove 10 = .ok (.ireturn, 1) := dk_172 (dk_at dksX3_remove_0 10 rfl rfl)
theorem dX3_remove_11 : decode cX3_remove 11 = .ok (.aload_n 0, 1) := dk_42 (dk_at dksX3_remove_0 11 rfl rfl)
theorem dX3_remove_12 : decode cX3_remove 12 = .ok (.invokevirtual 52, 3) := dk_182 0 52 (dk_at dksX3_remove_0 12 rfl rfl)
theorem dX3_remove_15 : decode cX3_remove 15 = .ok (.aload_n 0, 1) := dk_42 (dk_at dksX3_remove_0 15 rfl rfl)
theorem dX3_remove_16 : decode cX3_remove 16 = .ok (.getfield 7, 3) := dk_180 0 7 (dk_at dksX3_remove_0 16 rfl rfl)
theorem dX3_remove_19 : decode cX3_remove 19 = .ok (.sipush 282, 3) := dk_17 1 26 (dk_at dksX3_remove_0 19 rfl rfl)
theorem dX3_remove_22 : decode cX3_remove 22 = .ok (.dup2, 1) := dk_92 (dk_at dksX3_remove_0 22 rfl rfl)
theorem dX3_remove_23 : decode cX3_remove 23 = .ok (.iaload, 1) := dk_46 (dk_at dksX3_remove_0 23 rfl rfl)
theorem dX3_remove_24 : decode cX3_remove 24 = .ok (.iconst 1, 1) := dk_4 (dk_at dksX3_remove_1 0 rfl rfl)
theorem dX3_remove_25 : decode cX3_remove 25 = .ok (.isub, 1) := dk_100 (dk_at dksX3_remove_1 1 rfl rfl)
theorem dX3_remove_26 : decode cX3_remove 26 = .ok (.iastore, 1) := dk_79 (dk_at dksX3_remove_1 2 rfl rfl)
theorem dX3_remove_27 : decode cX3_remove 27 = .ok (.bipush 13, 2) := dk_16 13 (dk_at dksX3_remove_1 3 rfl rfl)
theorem dX3_remove_29 : decode cX3_remove 29 = .ok (.iload_n 1, 1) := dk_27 (dk_at dksX3_remove_1 5 rfl rfl)
theorem dX3_remove_30 : decode cX3_remove 30 = .ok (.imul, 1) := dk_104 (dk_at dksX3_remove_1 6 rfl rfl)
theorem dX3_remove_31 : decode cX3_remove 31 = .ok (.istore_n 2, 1) := dk_61 (dk_at dksX3_remove_1 7 rfl rfl)
theorem dX3_remove_32 : decode cX3_remove 32 = .ok (.iload_n 2, 1) := dk_28 (dk_at dksX3_remove_1 8 rfl rfl)
theorem dX3_remove_33 : decode cX3_remove 33 = .ok (.bipush 13, 2) := dk_16 13 (dk_at dksX3_remove_1 9 rfl rfl)
theorem dX3_remove_35 : decode cX3_remove 35 = .ok (.aload_n 0, 1) := dk_42 (dk_at dksX3_remove_1 11 rfl rfl)
theorem dX3_remove_36 : decode cX3_remove 36 = .ok (.getfield 7, 3) := dk_180 0 7 (dk_at dksX3_remove_1 12 rfl rfl)
theorem dX3_remove_39 : decode cX3_remove 39 = .ok (.sipush 282, 3) := dk_17 1 26 (dk_at dksX3_remove_1 15 rfl rfl)
theorem dX3_remove_42 : decode cX3_remove 42 = .ok (.iaload, 1) := dk_46 (dk_at dksX3_remove_1 18 rfl rfl)
theorem dX3_remove_43 : decode cX3_remove 43 = .ok (.imul, 1) := dk_104 (dk_at dksX3_remove_1 19 rfl rfl)
theorem dX3_remove_44 : decode cX3_remove 44 = .ok (.if_icmp .ge 24, 3) := dk_162 0 24 (dk_at dksX3_remove_1 20 rfl rfl)
theorem dX3_remove_47 : decode cX3_remove 47 = .ok (.aload_n 0, 1) := dk_42 (dk_at dksX3_remove_1 23 rfl rfl)
theorem dX3_remove_48 : decode cX3_remove 48 = .ok (.getfield 7, 3) := dk_180 0 7 (dk_at dksX3_remove_2 0 rfl rfl)
theorem dX3_remove_51 : decode cX3_remove 51 = .ok (.iload_n 2, 1) := dk_28 (dk_at dksX3_remove_2 3 rfl rfl)
theorem dX3_remove_52 : decode cX3_remove 52 = .ok (.aload_n 0, 1) := dk_42 (dk_at dksX3_remove_2 4 rfl rfl)
theorem dX3_remove_53 : decode cX3_remove 53 = .ok (.getfield 7, 3) := dk_180 0 7 (dk_at dksX3_remove_2 5 rfl rfl)
theorem dX3_remove_56 : decode cX3_remove 56 = .ok (.iload_n 2, 1) := dk_28 (dk_at dksX3_remove_2 8 rfl rfl)
theorem dX3_remove_57 : decode cX3_remove 57 = .ok (.bipush 13, 2) := dk_16 13 (dk_at dksX3_remove_2 9 rfl rfl)
theorem dX3_remove_59 : decode cX3_remove 59 = .ok (.iadd, 1) := dk_96 (dk_at dksX3_remove_2 11 rfl rfl)
theorem dX3_remove_60 : decode cX3_remove 60 = .ok (.iaload, 1) := dk_46 (dk_at dksX3_remove_2 12 rfl rfl)
theorem dX3_remove_61 : decode cX3_remove 61 = .ok (.iastore, 1) := dk_79 (dk_at dksX3_remove_2 13 rfl rfl)
theorem dX3_remove_62 : decode cX3_remove 62 = .ok (.iinc 2 1, 3) := dk_132 2 1 (dk_at dksX3_remove_2 14 rfl rfl)
theorem dX3_remove_65 : decode cX3_remove 65 = .ok (.goto (-33), 3) := dk_167 255 223 (dk_at dksX3_remove_2 17 rfl rfl)
theorem dX3_remove_68 : decode cX3_remove 68 = .ok (.aload_n 0, 1) := dk_42 (dk_at dksX3_remove_2 20 rfl rfl)
theorem dX3_remove_69 : decode cX3_remove 69 = .ok (.getfield 7, 3) := dk_180 0 7 (dk_at dksX3_remove_2 21 rfl rfl)
theorem dX3_remove_72 : decode cX3_remove 72 = .ok (.sipush 282, 3) := dk_17 1 26 (dk_at dksX3_remove_3 0 rfl rfl)
theorem dX3_remove_75 : decode cX3_remove 75 = .ok (.iaload, 1) := dk_46 (dk_at dksX3_remove_3 3 rfl rfl)
theorem dX3_remove_76 : decode cX3_remove 76 = .ok (.ireturn, 1) := dk_172 (dk_at dksX3_remove_3 4 rfl rfl)
abbrev cX3_correct : ByteArray := prog_12_method_22_code
def yX3_correct : MethodName := ⟨RX3, "correct", "(II)I"⟩
def dkwX3_correct_1 : List UInt8 := [172]
abbrev dktX3_correct_1 : List UInt8 := dkwX3_correct_1 ++ []
def dkwX3_correct_0 : List UInt8 := [42, 27, 28, 182, 0, 81, 62, 29, 156, 0, 5, 29, 172, 42, 182, 0, 52, 42, 27, 28, 4, 182, 0, 84]
abbrev dktX3_correct_0 : List UInt8 := dkwX3_correct_0 ++ dktX3_correct_1
theorem dksX3_correct_0 : cX3_correct.data.toList.drop 0 = dktX3_correct_0 := by decide +kernel
theorem dksX3_correct_1 : cX3_correct.data.toList.drop 24 = dktX3_correct_1 := dk_seg dksX3_correct_0 24 rfl rfl
theorem dX3_correct_0 : decode cX3_correct 0 = .ok (.aload_n 0, 1) := dk_42 (dk_at dksX3_correct_0 0 rfl rfl)
theorem dX3_correct_1 : decode cX3_correct 1 = .ok (.iload_n 1, 1) := dk_27 (dk_at dksX3_correct_0 1 rfl rfl)
theorem dX3_correct_2 : decode cX3_correct 2 = .ok (.iload_n 2, 1) := dk_28 (dk_at dksX3_correct_0 2 rfl rfl)
theorem dX3_correct_3 : decode cX3_correct 3 = .ok (.invokevirtual 81, 3) := dk_182 0 81 (dk_at dksX3_correct_0 3 rfl rfl)
theorem dX3_correct_6 : decode cX3_correct 6 = .ok (.istore_n 3, 1) := dk_62 (dk_at dksX3_correct_0 6 rfl rfl)
theorem dX3_correct_7 : decode cX3_correct 7 = .ok (.iload_n 3, 1) := dk_29 (dk_at dksX3_correct_0 7 rfl rfl)
theorem dX3_correct_8 : decode cX3_correct 8 = .ok (.ifCond .ge 5, 3) := dk_156 0 5 (dk_at dksX3_correct_0 8 rfl rfl)
theorem dX3_correct_11 : decode cX3_correct 11 = .ok (.iload_n 3, 1) := dk_29 (dk_at dksX3_correct_0 11 rfl rfl)
theorem dX3_correct_12 : decode cX3_correct 12 = .ok (.ireturn, 1) := dk_172 (dk_at dksX3_correct_0 12 rfl rfl)
theorem dX3_correct_13 : decode cX3_correct 13 = .ok (.aload_n 0, 1) := dk_42 (dk_at dksX3_correct_0 13 rfl rfl)
theorem dX3_correct_14 : decode cX3_correct 14 = .ok (.invokevirtual 52, 3) := dk_182 0 52 (dk_at dksX3_correct_0 14 rfl rfl)
theorem dX3_correct_17 : decode cX3_correct 17 = .ok (.aload_n 0, 1) := dk_42 (dk_at dksX3_correct_0 17 rfl rfl)
theorem dX3_correct_18 : decode cX3_correct 18 = .ok (.iload_n 1, 1) := dk_27 (dk_at dksX3_correct_0 18 rfl rfl)
theorem dX3_correct_19 : decode cX3_correct 19 = .ok (.iload_n 2, 1) := dk_28 (dk_at dksX3_correct_0 19 rfl rfl)
theorem dX3_correct_20 : decode cX3_correct 20 = .ok (.iconst 1, 1) := dk_4 (dk_at dksX3_correct_0 20 rfl rfl)
theorem dX3_correct_21 : decode cX3_correct 21 = .ok (.invokevirtual 84, 3) := dk_182 0 84 (dk_at dksX3_correct_0 21 rfl rfl)
theorem dX3_correct_24 : decode cX3_correct 24 = .ok (.ireturn, 1) := dk_172 (dk_at dksX3_correct_1 0 rfl rfl)
abbrev cX3_mayCorrect : ByteArray := prog_12_method_21_code
def yX3_mayCorrect : MethodName := ⟨RX3, "mayCorrect", "(II)I"⟩
def dkwX3_mayCorrect_1 : List UInt8 := [42, 27, 28, 182, 0, 76, 153, 0, 8, 18, 80, 167, 0, 4, 3, 172]
abbrev dktX3_mayCorrect_1 : List UInt8 := dkwX3_mayCorrect_1 ++ []
def dkwX3_mayCorrect_0 : List UInt8 := [27, 184, 0, 70, 153, 0, 15, 28, 184, 0, 70, 153, 0, 8, 27, 28, 160, 0, 8, 18, 50, 167, 0, 18]
abbrev dktX3_mayCorrect_0 : List UInt8 := dkwX3_mayCorrect_0 ++ dktX3_mayCorrect_1
theorem dksX3_mayCorrect_0 : cX3_mayCorrect.data.toList.drop 0 = dktX3_mayCorrect_0 := by decide +kernel
theorem dksX3_mayCorrect_1 : cX3_mayCorrect.data.toList.drop 24 = dktX3_mayCorrect_1 := dk_seg dksX3_mayCorrect_0 24 rfl rfl
theorem dX3_mayCorrect_0 : decode cX3_mayCorrect 0 = .ok (.iload_n 1, 1) := dk_27 (dk_at dksX3_mayCorrect_0 0 rfl rfl)
theorem dX3_mayCorrect_1 : decode cX3_mayCorrect 1 = .ok (.invokestatic 70, 3) := dk_184 0 70 (dk_at dksX3_mayCorrect_0 1 rfl rfl)
theorem dX3_mayCorrect_4 : decode cX3_mayCorrect 4 = .ok (.ifCond .eq 15, 3) := dk_153 0 15 (dk_at dksX3_mayCorrect_0 4 rfl rfl)
theorem dX3_mayCorrect_7 : decode cX3_mayCorrect 7 = .ok (.iload_n 2, 1) := dk_28 (dk_at dksX3_mayCorrect_0 7 rfl rfl)
theorem dX3_mayCorrect_8 : decode cX3_mayCorrect 8 = .ok (.invokestatic 70, 3) := dk_184 0 70 (dk_at dksX3_mayCorrect_0 8 rfl rfl)
theorem dX3_mayCorrect_11 : decode cX3_mayCorrect 11 = .ok (.ifCond .eq 8, 3) := dk_153 0 8 (dk_at dksX3_mayCorrect_0 11 rfl rfl)
theorem dX3_mayCorrect_14 : decode cX3_mayCorrect 14 = .ok (.iload_n 1, 1) := dk_27 (dk_at dksX3_mayCorrect_0 14 rfl rfl)
theorem dX3_mayCorrect_15 : decode cX3_mayCorrect 15 = .ok (.iload_n 2, 1) := dk_28 (dk_at dksX3_mayCorrect_0 15 rfl rfl)
theorem dX3_mayCorrect_16 : decode cX3_mayCorrect 16 = .ok (.if_icmp .ne 8, 3) := dk_160 0 8 (dk_at dksX3_mayCorrect_0 16 rfl rfl)
theorem dX3_mayCorrect_19 : decode cX3_mayCorrect 19 = .ok (.ldc 50, 2) := dk_18 50 (dk_at dksX3_mayCorrect_0 19 rfl rfl)
theorem dX3_mayCorrect_21 : decode cX3_mayCorrect 21 = .ok (.goto 18, 3) := dk_167 0 18 (dk_at dksX3_mayCorrect_0 21 rfl rfl)
theorem dX3_mayCorrect_24 : decode cX3_mayCorrect 24 = .ok (.aload_n 0, 1) := dk_42 (dk_at dksX3_mayCorrect_1 0 rfl rfl)
theorem dX3_mayCorrect_25 : decode cX3_mayCorrect 25 = .ok (.iload_n 1, 1) := dk_27 (dk_at dksX3_mayCorrect_1 1 rfl rfl)
theorem dX3_mayCorrect_26 : decode cX3_mayCorrect 26 = .ok (.iload_n 2, 1) := dk_28 (dk_at dksX3_mayCorrect_1 2 rfl rfl)
theorem dX3_mayCorrect_27 : decode cX3_mayCorrect 27 = .ok (.invokevirtual 76, 3) := dk_182 0 76 (dk_at dksX3_mayCorrect_1 3 rfl rfl)
theorem dX3_mayCorrect_30 : decode cX3_mayCorrect 30 = .ok (.ifCond .eq 8, 3) := dk_153 0 8 (dk_at dksX3_mayCorrect_1 6 rfl rfl)
theorem dX3_mayCorrect_33 : decode cX3_mayCorrect 33 = .ok (.ldc 80, 2) := dk_18 80 (dk_at dksX3_mayCorrect_1 9 rfl rfl)
theorem dX3_mayCorrect_35 : decode cX3_mayCorrect 35 = .ok (.goto 4, 3) := dk_167 0 4 (dk_at dksX3_mayCorrect_1 11 rfl rfl)
theorem dX3_mayCorrect_38 : decode cX3_mayCorrect 38 = .ok (.iconst 0, 1) := dk_3 (dk_at dksX3_mayCorrect_1 14 rfl rfl)
theorem dX3_mayCorrect_39 : decode cX3_mayCorrect 39 = .ok (.ireturn, 1) := dk_172 (dk_at dksX3_mayCorrect_1 15 rfl rfl)
abbrev cX3_isOn : ByteArray := prog_12_method_19_code
def yX3_isOn : MethodName := ⟨RX3, "isOn", "(II)Z"⟩
def dkwX3_isOn_1 : List UInt8 := [17, 1, 4, 29, 96, 46, 62, 167, 255, 227, 29, 27, 160, 0, 7, 4, 167, 0, 4, 3, 172]
abbrev dktX3_isOn_1 : List UInt8 := dkwX3_isOn_1 ++ []
def dkwX3_isOn_0 : List UInt8 := [28, 62, 29, 27, 159, 0, 30, 42, 180, 0, 7, 17, 1, 4, 29, 96, 46, 155, 0, 17, 42, 180, 0, 7]
abbrev dktX3_isOn_0 : List UInt8 := dkwX3_isOn_0 ++ dktX3_isOn_1
theorem dksX3_isOn_0 : cX3_isOn.data.toList.drop 0 = dktX3_isOn_0 := by decide +kernel
theorem dksX3_isOn_1 : cX3_isOn.data.toList.drop 24 = dktX3_isOn_1 := dk_seg dksX3_isOn_0 24 rfl rfl
theorem dX3_isOn_0 : decode cX3_isOn 0 = .ok (.iload_n 2, 1) := dk_28 (dk_at dksX3_isOn_0 0 rfl rfl)
theorem dX3_isOn_1 : decode cX3_isOn 1 = .ok (.istore_n 3, 1) := dk_62 (dk_at dksX3_isOn_0 1 rfl rfl)
theorem dX3_isOn_2 : decode cX3_isOn 2 = .ok (.iload_n 3, 1) := dk_29 (dk_at dksX3_isOn_0 2 rfl rfl)
theorem dX3_isOn_3 : decode cX3_isOn 3 = .ok (.iload_n 1, 1) := dk_27 (dk_at dksX3_isOn_0 3 rfl rfl)
theorem dX3_isOn_4 : decode cX3_isOn 4 = .ok (.if_icmp .eq 30, 3) := dk_159 0 30 (dk_at dksX3_isOn_0 4 rfl rfl)
theorem dX3_isOn_7 : decode cX3_isOn 7 = .ok (.aload_n 0, 1) := dk_42 (dk_at dksX3_isOn_0 7 rfl rfl)
theorem dX3_isOn_8 : decode cX3_isOn 8 = .ok (.getfield 7, 3) := dk_180 0 7 (dk_at dksX3_isOn_0 8 rfl rfl)
theorem dX3_isOn_11 : decode cX3_isOn 11 = .ok (.sipush 260, 3) := dk_17 1 4 (dk_at dksX3_isOn_0 11 rfl rfl)
theorem dX3_isOn_14 : decode cX3_isOn 14 = .ok (.iload_n 3, 1) := dk_29 (dk_at dksX3_isOn_0 14 rfl rfl)
theorem dX3_isOn_15 : decode cX3_isOn 15 = .ok (.iadd, 1) := dk_96 (dk_at dksX3_isOn_0 15 rfl rfl)
theorem dX3_isOn_16 : decode cX3_isOn 16 = .ok (.iaload, 1) := dk_46 (dk_at dksX3_isOn_0 16 rfl rfl)
theorem dX3_isOn_17 : decode cX3_isOn 17 = .ok (.ifCond .lt 17, 3) := dk_155 0 17 (dk_at dksX3_isOn_0 17 rfl rfl)
theorem dX3_isOn_20 : decode cX3_isOn 20 = .ok (.aload_n 0, 1) := dk_42 (dk_at dksX3_isOn_0 20 rfl rfl)
theorem dX3_isOn_21 : decode cX3_isOn 21 = .ok (.getfield 7, 3) := dk_180 0 7 (dk_at dksX3_isOn_0 21 rfl rfl)
theorem dX3_isOn_24 : decode cX3_isOn 24 = .ok (.sipush 260, 3) := dk_17 1 4 (dk_at dksX3_isOn_1 0 rfl rfl)
theorem dX3_isOn_27 : decode cX3_isOn 27 = .ok (.iload_n 3, 1) := dk_29 (dk_at dksX3_isOn_1 3 rfl rfl)
theorem dX3_isOn_28 : decode cX3_isOn 28 = .ok (.iadd, 1) := dk_96 (dk_at dksX3_isOn_1 4 rfl rfl)
theorem dX3_isOn_29 : decode cX3_isOn 29 = .ok (.iaload, 1) := dk_46 (dk_at dksX3_isOn_1 5 rfl rfl)
theorem dX3_isOn_30 : decode cX3_isOn 30 = .ok (.istore_n 3, 1) := dk_62 (dk_at dksX3_isOn_1 6 rfl rfl)
theorem dX3_isOn_31 : decode cX3_isOn 31 = .ok (.goto (-29), 3) := dk_167 255 227 (dk_at dksX3_isOn_1 7 rfl rfl)
theorem dX3_isOn_34 : decode cX3_isOn 34 = .ok (.iload_n 3, 1) := dk_29 (dk_at dksX3_isOn_1 10 rfl rfl)
theorem dX3_isOn_35 : decode cX3_isOn 35 = .ok (.iload_n 1, 1) := dk_27 (dk_at dksX3_isOn_1 11 rfl rfl)
theorem dX3_isOn_36 : decode cX3_isOn 36 = .ok (.if_icmp .ne 7, 3) := dk_160 0 7 (dk_at dksX3_isOn_1 12 rfl rfl)
theorem dX3_isOn_39 : decode cX3_isOn 39 = .ok (.iconst 1, 1) := dk_4 (dk_at dksX3_isOn_1 15 rfl rfl)
theorem dX3_isOn_40 : decode cX3_isOn 40 = .ok (.goto 4, 3) := dk_167 0 4 (dk_at dksX3_isOn_1 16 rfl rfl)
theorem dX3_isOn_43 : decode cX3_isOn 43 = .ok (.iconst 0, 1) := dk_3 (dk_at dksX3_isOn_1 19 rfl rfl)
theorem dX3_isOn_44 : decode cX3_isOn 44 = .ok (.ireturn, 1) := dk_172 (dk_at dksX3_isOn_1 20 rfl rfl)
abbrev cX3_turnsTo : ByteArray := prog_12_method_20_code
def yX3_turnsTo : MethodName := ⟨RX3, "turnsTo", "(IIZ)I"⟩
def dkwX3_turnsTo_6 : List UInt8 := [42, 180, 0, 7, 17, 1, 4, 27, 96, 29, 153, 0, 7, 28, 167, 0, 5, 21, 4, 79, 21, 5, 172]
abbrev dktX3_turnsTo_6 : List UInt8 := dkwX3_turnsTo_6 ++ []
def dkwX3_turnsTo_5 : List UInt8 := [46, 159, 0, 7, 4, 167, 0, 4, 3, 96, 54, 5, 132, 7, 1, 167, 255, 199, 132, 6, 1, 167, 255, 177]
abbrev dktX3_turnsTo_5 : List UInt8 := dkwX3_turnsTo_5 ++ dktX3_turnsTo_6
def dkwX3_turnsTo_4 : List UInt8 := [8, 21, 7, 96, 182, 0, 47, 182, 0, 73, 42, 180, 0, 25, 42, 21, 6, 8, 21, 7, 96, 182, 0, 47]
abbrev dktX3_turnsTo_4 : List UInt8 := dkwX3_turnsTo_4 ++ dktX3_turnsTo_5
def dkwX3_turnsTo_3 : List UInt8 := [162, 0, 72, 3, 54, 7, 21, 7, 42, 21, 6, 7, 182, 0, 47, 162, 0, 51, 21, 5, 42, 42, 21, 6]
abbrev dktX3_turnsTo_3 : List UInt8 := dkwX3_turnsTo_3 ++ dktX3_turnsTo_4
def dkwX3_turnsTo_2 : List UInt8 := [17, 1, 4, 27, 96, 28, 79, 3, 54, 5, 3, 54, 6, 21, 6, 42, 180, 0, 7, 17, 1, 26, 46]
abbrev dktX3_turnsTo_2 : List UInt8 := dkwX3_turnsTo_2 ++ dktX3_turnsTo_3
def dkwX3_turnsTo_1 : List UInt8 := [180, 0, 25, 21, 5, 42, 21, 5, 182, 0, 73, 79, 132, 5, 1, 167, 255, 233, 42, 180, 0, 7]
abbrev dktX3_turnsTo_1 : List UInt8 := dkwX3_turnsTo_1 ++ dktX3_turnsTo_2
def dkwX3_turnsTo_0 : List UInt8 := [42, 180, 0, 7, 17, 1, 4, 27, 96, 46, 54, 4, 3, 54, 5, 21, 5, 16, 16, 162, 0, 22, 42]
abbrev dktX3_turnsTo_0 : List UInt8 := dkwX3_turnsTo_0 ++ dktX3_turnsTo_1
theorem dksX3_turnsTo_0 : cX3_turnsTo.data.toList.drop 0 = dktX3_turnsTo_0 := by decide +kernel
theorem dksX3_turnsTo_1 : cX3_turnsTo.data.toList.drop 23 = dktX3_turnsTo_1 := dk_seg dksX3_turnsTo_0 23 rfl rfl
theorem dksX3_turnsTo_2 : cX3_turnsTo.data.toList.drop 45 = dktX3_turnsTo_2 := dk_seg dksX3_turnsTo_1 22 rfl rfl
theorem dksX3_turnsTo_3 : cX3_turnsTo.data.toList.drop 68 = dktX3_turnsTo_3 := dk_seg dksX3_turnsTo_2 23 rfl rfl
theorem dksX3_turnsTo_4 : cX3_turnsTo.data.toList.drop 92 = dktX3_turnsTo_4 := dk_seg dksX3_turnsTo_3 24 rfl rfl
theorem dksX3_turnsTo_5 : cX3_turnsTo.data.toList.drop 116 = dktX3_turnsTo_5 := dk_seg dksX3_turnsTo_4 24 rfl rfl
theorem dksX3_turnsTo_6 : cX3_turnsTo.data.toList.drop 140 = dktX3_turnsTo_6 := dk_seg dksX3_turnsTo_5 24 rfl rfl
theorem dX3_turnsTo_0 : decode cX3_turnsTo 0 = .ok (.aload_n 0, 1) := dk_42 (dk_at dksX3_turnsTo_0 0 rfl rfl)
theorem dX3_turnsTo_1 : decode cX3_turnsTo 1 = .ok (.getfield 7, 3) := dk_180 0 7 (dk_at dksX3_turnsTo_0 1 rfl rfl)
theorem dX3_turnsTo_4 : decode cX3_turnsTo 4 = .ok (.sipush 260, 3) := dk_17 1 4 (dk_at dksX3_turnsTo_0 4 rfl rfl)
theorem dX3_turnsTo_7 : decode cX3_turnsTo 7 = .ok (.iload_n 1, 1) := dk_27 (dk_at dksX3_turnsTo_0 7 rfl rfl)
theorem dX3_turnsTo_8 : decode cX3_turnsTo 8 = .ok (.iadd, 1) := dk_96 (dk_at dksX3_turnsTo_0 8 rfl rfl)
theorem dX3_turnsTo_9 : decode cX3_turnsTo 9 = .ok (.iaload, 1) := dk_46 (dk_at dksX3_turnsTo_0 9 rfl rfl)
theorem dX3_turnsTo_10 : decode cX3_turnsTo 10 = .ok (.istore 4, 2) := dk_54 4 (dk_at dksX3_turnsTo_0 10 rfl rfl)
theorem dX3_turnsTo_12 : decode cX3_turnsTo 12 = .ok (.iconst 0, 1) := dk_3 (dk_at dksX3_turnsTo_0 12 rfl rfl)
theorem dX3_turnsTo_13 : decode cX3_turnsTo 13 = .ok (.istore 5, 2) := dk_54 5 (dk_at dksX3_turnsTo_0 13 rfl rfl)
theorem dX3_turnsTo_15 : decode cX3_turnsTo 15 = .ok (.iload 5, 2) := dk_21 5 (dk_at dksX3_turnsTo_0 15 rfl rfl)
theorem dX3_turnsTo_17 : decode cX3_turnsTo 17 = .ok (.bipush 16, 2) := dk_16 16 (dk_at dksX3_turnsTo_0 17 rfl rfl)
theorem dX3_turnsTo_19 : decode cX3_turnsTo 19 = .ok (.if_icmp .ge 22, 3) := dk_162 0 22 (dk_at dksX3_turnsTo_0 19 rfl rfl)
theorem dX3_turnsTo_22 : decode cX3_turnsTo 22 = .ok (.aload_n 0, 1) := dk_42 (dk_at dksX3_turnsTo_0 22 rfl rfl)
theorem dX3_turnsTo_23 : decode cX3_turnsTo 23 = .ok (.getfield 25, 3) := dk_180 0 25 (dk_at dksX3_turnsTo_1 0 rfl rfl)
theorem dX3_turnsTo_26 : decode cX3_turnsTo 26 = .ok (.iload 5, 2) := dk_21 5 (dk_at dksX3_turnsTo_1 3 rfl rfl)
theorem dX3_turnsTo_28 : decode cX3_turnsTo 28 = .ok (.aload_n 0, 1) := dk_42 (dk_at dksX3_turnsTo_1 5 rfl rfl)
theorem dX3_turnsTo_29 : decode cX3_turnsTo 29 = .ok (.iload 5, 2) := dk_21 5 (dk_at dksX3_turnsTo_1 6 rfl rfl)
theorem dX3_turnsTo_31 : decode cX3_turnsTo 31 = .ok (.invokevirtual 73, 3) := dk_182 0 73 (dk_at dksX3_turnsTo_1 8 rfl rfl)
theorem dX3_turnsTo_34 : decode cX3_turnsTo 34 = .ok (.iastore, 1) := dk_79 (dk_at dksX3_turnsTo_1 11 rfl rfl)
theorem dX3_turnsTo_35 : decode cX3_turnsTo 35 = .ok (.iinc 5 1, 3) := dk_132 5 1 (dk_at dksX3_turnsTo_1 12 rfl rfl)
theorem dX3_turnsTo_38 : decode cX3_turnsTo 38 = .ok (.goto (-23), 3) := dk_167 255 233 (dk_at dksX3_turnsTo_1 15 rfl rfl)
theorem dX3_turnsTo_41 : decode cX3_turnsTo 41 = .ok (.aload_n 0, 1) := dk_42 (dk_at dksX3_turnsTo_1 18 rfl rfl)
theorem dX3_turnsTo_42 : decode cX3_turnsTo 42 = .ok (.getfield 7, 3) := dk_180 0 7 (dk_at dksX3_turnsTo_1 19 rfl rfl)
theorem dX3_turnsTo_45 : decode cX3_turnsTo 45 = .ok (.sipush 260, 3) := dk_17 1 4 (dk_at dksX3_turnsTo_2 0 rfl rfl)
theorem dX3_turnsTo_48 : decode cX3_turnsTo 48 = .ok (.iload_n 1, 1) := dk_27 (dk_at dksX3_turnsTo_2 3 rfl rfl)
theorem dX3_turnsTo_49 : decode cX3_turnsTo 49 = .ok (.iadd, 1) := dk_96 (dk_at dksX3_turnsTo_2 4 rfl rfl)
theorem dX3_turnsTo_50 : decode cX3_turnsTo 50 = .ok (.iload_n 2, 1) := dk_28 (dk_at dksX3_turnsTo_2 5 rfl rfl)
theorem dX3_turnsTo_51 : decode cX3_turnsTo 51 = .ok (.iastore, 1) := dk_79 (dk_at dksX3_turnsTo_2 6 rfl rfl)
theorem dX3_turnsTo_52 : decode cX3_turnsTo 52 = .ok (.iconst 0, 1) := dk_3 (dk_at dksX3_turnsTo_2 7 rfl rfl)
theorem dX3_turnsTo_53 : decode cX3_turnsTo 53 = .ok (.istore 5, 2) := dk_54 5 (dk_at dksX3_turnsTo_2 8 rfl rfl)
theorem dX3_turnsTo_55 : decode cX3_turnsTo 55 = .ok (.iconst 0, 1) := dk_3 (dk_at dksX3_turnsTo_2 10 rfl rfl)
theorem dX3_turnsTo_56 : decode cX3_turnsTo 56 = .ok (.istore 6, 2) := dk_54 6 (dk_at dksX3_turnsTo_2 11 rfl rfl)
theorem dX3_turnsTo_58 : decode cX3_turnsTo 58 = .ok (.iload 6, 2) := dk_21 6 (dk_at dksX3_turnsTo_2 13 rfl rfl)
theorem dX3_turnsTo_60 : decode cX3_turnsTo 60 = .ok (.aload_n 0, 1) := dk_42 (dk_at dksX3_turnsTo_2 15 rfl rfl)
theorem dX3_turnsTo_61 : decode cX3_turnsTo 61 = .ok (.getfield 7, 3) := dk_180 0 7 (dk_at dksX3_turnsTo_2 16 rfl rfl)
theorem dX3_turnsTo_64 : decode cX3_turnsTo 64 = .ok (.sipush 282, 3) := dk_17 1 26 (dk_at dksX3_turnsTo_2 19 rfl rfl)
theorem dX3_turnsTo_67 : decode cX3_turnsTo 67 = .ok (.iaload, 1) := dk_46 (dk_at dksX3_turnsTo_2 22 rfl rfl)
theorem dX3_turnsTo_68 : decode cX3_turnsTo 68 = .ok (.if_icmp .ge 72, 3) := dk_162 0 72 (dk_at dksX3_turnsTo_3 0 rfl rfl)
theorem dX3_turnsTo_71 : decode cX3_turnsTo 71 = .ok (.iconst 0, 1) := dk_3 (dk_at dksX3_turnsTo_3 3 rfl rfl)
theorem dX3_turnsTo_72 : decode cX3_turnsTo 72 = .ok (.istore 7, 2) := dk_54 7 (dk_at dksX3_turnsTo_3 4 rfl rfl)
theorem dX3_turnsTo_74 : decode cX3_turnsTo 74 = .ok (.iload 7, 2) := dk_21 7 (dk_at dksX3_turnsTo_3 6 rfl rfl)
theorem dX3_turnsTo_76 : decode cX3_turnsTo 76 = .ok (.aload_n 0, 1) := dk_42 (dk_at dksX3_turnsTo_3 8 rfl rfl)
theorem dX3_turnsTo_77 : decode cX3_turnsTo 77 = .ok (.iload 6, 2) := dk_21 6 (dk_at dksX3_turnsTo_3 9 rfl rfl)
theorem dX3_turnsTo_79 : decode cX3_turnsTo 79 = .ok (.iconst 4, 1) := dk_7 (dk_at dksX3_turnsTo_3 11 rfl rfl)
theorem dX3_turnsTo_80 : decode cX3_turnsTo 80 = .ok (.invokevirtual 47, 3) := dk_182 0 47 (dk_at dksX3_turnsTo_3 12 rfl rfl)
theorem dX3_turnsTo_83 : decode cX3_turnsTo 83 = .ok (.if_icmp .ge 51, 3) := dk_162 0 51 (dk_at dksX3_turnsTo_3 15 rfl rfl)
theorem dX3_turnsTo_86 : decode cX3_turnsTo 86 = .ok (.iload 5, 2) := dk_21 5 (dk_at dksX3_turnsTo_3 18 rfl rfl)
theorem dX3_turnsTo_88 : decode cX3_turnsTo 88 = .ok (.aload_n 0, 1) := dk_42 (dk_at dksX3_turnsTo_3 20 rfl rfl)
theorem dX3_turnsTo_89 : decode cX3_turnsTo 89 = .ok (.aload_n 0, 1) := dk_42 (dk_at dksX3_turnsTo_3 21 rfl rfl)
theorem dX3_turnsTo_90 : decode cX3_turnsTo 90 = .ok (.iload 6, 2) := dk_21 6 (dk_at dksX3_turnsTo_3 22 rfl rfl)
theorem dX3_turnsTo_92 : decode cX3_turnsTo 92 = .ok (.iconst 5, 1) := dk_8 (dk_at dksX3_turnsTo_4 0 rfl rfl)
theorem dX3_turnsTo_93 : decode cX3_turnsTo 93 = .ok (.iload 7, 2) := dk_21 7 (dk_at dksX3_turnsTo_4 1 rfl rfl)
theorem dX3_turnsTo_95 : decode cX3_turnsTo 95 = .ok (.iadd, 1) := dk_96 (dk_at dksX3_turnsTo_4 3 rfl rfl)
theorem dX3_turnsTo_96 : decode cX3_turnsTo 96 = .ok (.invokevirtual 47, 3) := dk_182 0 47 (dk_at dksX3_turnsTo_4 4 rfl rfl)
theorem dX3_turnsTo_99 : decode cX3_turnsTo 99 = .ok (.invokevirtual 73, 3) := dk_182 0 73 (dk_at dksX3_turnsTo_4 7 rfl rfl)
theorem dX3_turnsTo_102 : decode cX3_turnsTo 102 = .ok (.aload_n 0, 1) := dk_42 (dk_at dksX3_turnsTo_4 10 rfl rfl)
theorem dX3_turnsTo_103 : decode cX3_turnsTo 103 = .ok (.getfield 25, 3) := dk_180 0 25 (dk_at dksX3_turnsTo_4 11 rfl rfl)
theorem dX3_turnsTo_106 : decode cX3_turnsTo 106 = .ok (.aload_n 0, 1) := dk_42 (dk_at dksX3_turnsTo_4 14 rfl rfl)
theorem dX3_turnsTo_107 : decode cX3_turnsTo 107 = .ok (.iload 6, 2) := dk_21 6 (dk_at dksX3_turnsTo_4 15 rfl rfl)
theorem dX3_turnsTo_109 : decode cX3_turnsTo 109 = .ok (.iconst 5, 1) := dk_8 (dk_at dksX3_turnsTo_4 17 rfl rfl)
theorem dX3_turnsTo_110 : decode cX3_turnsTo 110 = .ok (.iload 7, 2) := dk_21 7 (dk_at dksX3_turnsTo_4 18 rfl rfl)
theorem dX3_turnsTo_112 : decode cX3_turnsTo 112 = .ok (.iadd, 1) := dk_96 (dk_at dksX3_turnsTo_4 20 rfl rfl)
theorem dX3_turnsTo_113 : decode cX3_turnsTo 113 = .ok (.invokevirtual 47, 3) := dk_182 0 47 (dk_at dksX3_turnsTo_4 21 rfl rfl)
theorem dX3_turnsTo_116 : decode cX3_turnsTo 116 = .ok (.iaload, 1) := dk_46 (dk_at dksX3_turnsTo_5 0 rfl rfl)
theorem dX3_turnsTo_117 : decode cX3_turnsTo 117 = .ok (.if_icmp .eq 7, 3) := dk_159 0 7 (dk_at dksX3_turnsTo_5 1 rfl rfl)
theorem dX3_turnsTo_120 : decode cX3_turnsTo 120 = .ok (.iconst 1, 1) := dk_4 (dk_at dksX3_turnsTo_5 4 rfl rfl)
theorem dX3_turnsTo_121 : decode cX3_turnsTo 121 = .ok (.goto 4, 3) := dk_167 0 4 (dk_at dksX3_turnsTo_5 5 rfl rfl)
theorem dX3_turnsTo_124 : decode cX3_turnsTo 124 = .ok (.iconst 0, 1) := dk_3 (dk_at dksX3_turnsTo_5 8 rfl rfl)
theorem dX3_turnsTo_125 : decode cX3_turnsTo 125 = .ok (.iadd, 1) := dk_96 (dk_at dksX3_turnsTo_5 9 rfl rfl)
theorem dX3_turnsTo_126 : decode cX3_turnsTo 126 = .ok (.istore 5, 2) := dk_54 5 (dk_at dksX3_turnsTo_5 10 rfl rfl)
theorem dX3_turnsTo_128 : decode cX3_turnsTo 128 = .ok (.iinc 7 1, 3) := dk_132 7 1 (dk_at dksX3_turnsTo_5 12 rfl rfl)
theorem dX3_turnsTo_131 : decode cX3_turnsTo 131 = .ok (.goto (-57), 3) := dk_167 255 199 (dk_at dksX3_turnsTo_5 15 rfl rfl)
theorem dX3_turnsTo_134 : decode cX3_turnsTo 134 = .ok (.iinc 6 1, 3) := dk_132 6 1 (dk_at dksX3_turnsTo_5 18 rfl rfl)
theorem dX3_turnsTo_137 : decode cX3_turnsTo 137 = .ok (.goto (-79), 3) := dk_167 255 177 (dk_at dksX3_turnsTo_5 21 rfl rfl)
theorem dX3_turnsTo_140 : decode cX3_turnsTo 140 = .ok (.aload_n 0, 1) := dk_42 (dk_at dksX3_turnsTo_6 0 rfl rfl)
theorem dX3_turnsTo_141 : decode cX3_turnsTo 141 = .ok (.getfield 7, 3) := dk_180 0 7 (dk_at dksX3_turnsTo_6 1 rfl rfl)
theorem dX3_turnsTo_144 : decode cX3_turnsTo 144 = .ok (.sipush 260, 3) := dk_17 1 4 (dk_at dksX3_turnsTo_6 4 rfl rfl)
theorem dX3_turnsTo_147 : decode cX3_turnsTo 147 = .ok (.iload_n 1, 1) := dk_27 (dk_at dksX3_turnsTo_6 7 rfl rfl)
theorem dX3_turnsTo_148 : decode cX3_turnsTo 148 = .ok (.iadd, 1) := dk_96 (dk_at dksX3_turnsTo_6 8 rfl rfl)
theorem dX3_turnsTo_149 : decode cX3_turnsTo 149 = .ok (.iload_n 3, 1) := dk_29 (dk_at dksX3_turnsTo_6 9 rfl rfl)
theorem dX3_turnsTo_150 : decode cX3_turnsTo 150 = .ok (.ifCond .eq 7, 3) := dk_153 0 7 (dk_at dksX3_turnsTo_6 10 rfl rfl)
theorem dX3_turnsTo_153 : decode cX3_turnsTo 153 = .ok (.iload_n 2, 1) := dk_28 (dk_at dksX3_turnsTo_6 13 rfl rfl)
theorem dX3_turnsTo_154 : decode cX3_turnsTo 154 = .ok (.goto 5, 3) := dk_167 0 5 (dk_at dksX3_turnsTo_6 14 rfl rfl)
theorem dX3_turnsTo_157 : decode cX3_turnsTo 157 = .ok (.iload 4, 2) := dk_21 4 (dk_at dksX3_turnsTo_6 17 rfl rfl)
theorem dX3_turnsTo_159 : decode cX3_turnsTo 159 = .ok (.iastore, 1) := dk_79 (dk_at dksX3_turnsTo_6 19 rfl rfl)
theorem dX3_turnsTo_160 : decode cX3_turnsTo 160 = .ok (.iload 5, 2) := dk_21 5 (dk_at dksX3_turnsTo_6 20 rfl rfl)
theorem dX3_turnsTo_162 : decode cX3_turnsTo 162 = .ok (.ireturn, 1) := dk_172 (dk_at dksX3_turnsTo_6 22 rfl rfl)
abbrev cX3_shown : ByteArray := prog_12_method_18_code
def yX3_shown : MethodName := ⟨RX3, "shown", "(I)I"⟩
def dkwX3_shown_1 : List UInt8 := [46, 61, 167, 255, 232, 28, 172]
abbrev dktX3_shown_1 : List UInt8 := dkwX3_shown_1 ++ []
def dkwX3_shown_0 : List UInt8 := [27, 61, 42, 180, 0, 7, 17, 1, 4, 28, 96, 46, 155, 0, 17, 42, 180, 0, 7, 17, 1, 4, 28, 96]
abbrev dktX3_shown_0 : List UInt8 := dkwX3_shown_0 ++ dktX3_shown_1
theorem dksX3_shown_0 : cX3_shown.data.toList.drop 0 = dktX3_shown_0 := by decide +kernel
theorem dksX3_shown_1 : cX3_shown.data.toList.drop 24 = dktX3_shown_1 := dk_seg dksX3_shown_0 24 rfl rfl
theorem dX3_shown_0 : decode cX3_shown 0 = .ok (.iload_n 1, 1) := dk_27 (dk_at dksX3_shown_0 0 rfl rfl)
theorem dX3_shown_1 : decode cX3_shown 1 = .ok (.istore_n 2, 1) := dk_61 (dk_at dksX3_shown_0 1 rfl rfl)
theorem dX3_shown_2 : decode cX3_shown 2 = .ok (.aload_n 0, 1) := dk_42 (dk_at dksX3_shown_0 2 rfl rfl)
theorem dX3_shown_3 : decode cX3_shown 3 = .ok (.getfield 7, 3) := dk_180 0 7 (dk_at dksX3_shown_0 3 rfl rfl)
theorem dX3_shown_6 : decode cX3_shown 6 = .ok (.sipush 260, 3) := dk_17 1 4 (dk_at dksX3_shown_0 6 rfl rfl)
theorem dX3_shown_9 : decode cX3_shown 9 = .ok (.iload_n 2, 1) := dk_28 (dk_at dksX3_shown_0 9 rfl rfl)
theorem dX3_shown_10 : decode cX3_shown 10 = .ok (.iadd, 1) := dk_96 (dk_at dksX3_shown_0 10 rfl rfl)
theorem dX3_shown_11 : decode cX3_shown 11 = .ok (.iaload, 1) := dk_46 (dk_at dksX3_shown_0 11 rfl rfl)
theorem dX3_shown_12 : decode cX3_shown 12 = .ok (.ifCond .lt 17, 3) := dk_155 0 17 (dk_at dksX3_shown_0 12 rfl rfl)
theorem dX3_shown_15 : decode cX3_shown 15 = .ok (.aload_n 0, 1) := dk_42 (dk_at dksX3_shown_0 15 rfl rfl)
theorem dX3_shown_16 : decode cX3_shown 16 = .ok (.getfield 7, 3) := dk_180 0 7 (dk_at dksX3_shown_0 16 rfl rfl)
theorem dX3_shown_19 : decode cX3_shown 19 = .ok (.sipush 260, 3) := dk_17 1 4 (dk_at dksX3_shown_0 19 rfl rfl)
theorem dX3_shown_22 : decode cX3_shown 22 = .ok (.iload_n 2, 1) := dk_28 (dk_at dksX3_shown_0 22 rfl rfl)
theorem dX3_shown_23 : decode cX3_shown 23 = .ok (.iadd, 1) := dk_96 (dk_at dksX3_shown_0 23 rfl rfl)
theorem dX3_shown_24 : decode cX3_shown 24 = .ok (.iaload, 1) := dk_46 (dk_at dksX3_shown_1 0 rfl rfl)
theorem dX3_shown_25 : decode cX3_shown 25 = .ok (.istore_n 2, 1) := dk_61 (dk_at dksX3_shown_1 1 rfl rfl)
theorem dX3_shown_26 : decode cX3_shown 26 = .ok (.goto (-24), 3) := dk_167 255 232 (dk_at dksX3_shown_1 2 rfl rfl)
theorem dX3_shown_29 : decode cX3_shown 29 = .ok (.iload_n 2, 1) := dk_28 (dk_at dksX3_shown_1 5 rfl rfl)
theorem dX3_shown_30 : decode cX3_shown 30 = .ok (.ireturn, 1) := dk_172 (dk_at dksX3_shown_1 6 rfl rfl)
abbrev cX3_uncorrect : ByteArray := prog_12_method_23_code
def yX3_uncorrect : MethodName := ⟨RX3, "uncorrect", "(I)I"⟩
def dkwX3_uncorrect_1 : List UInt8 := [18, 80, 172, 42, 182, 0, 52, 42, 27, 2, 4, 182, 0, 84, 172]
abbrev dktX3_uncorrect_1 : List UInt8 := dkwX3_uncorrect_1 ++ []
def dkwX3_uncorrect_0 : List UInt8 := [27, 184, 0, 70, 154, 0, 6, 18, 50, 172, 42, 180, 0, 7, 17, 1, 4, 27, 96, 46, 156, 0, 6]
abbrev dktX3_uncorrect_0 : List UInt8 := dkwX3_uncorrect_0 ++ dktX3_uncorrect_1
theorem dksX3_uncorrect_0 : cX3_uncorrect.data.toList.drop 0 = dktX3_uncorrect_0 := by decide +kernel
theorem dksX3_uncorrect_1 : cX3_uncorrect.data.toList.drop 23 = dktX3_uncorrect_1 := dk_seg dksX3_uncorrect_0 23 rfl rfl
theorem dX3_uncorrect_0 : decode cX3_uncorrect 0 = .ok (.iload_n 1, 1) := dk_27 (dk_at dksX3_uncorrect_0 0 rfl rfl)
theorem dX3_uncorrect_1 : decode cX3_uncorrect 1 = .ok (.invokestatic 70, 3) := dk_184 0 70 (dk_at dksX3_uncorrect_0 1 rfl rfl)
theorem dX3_uncorrect_4 : decode cX3_uncorrect 4 = .ok (.ifCond .ne 6, 3) := dk_154 0 6 (dk_at dksX3_uncorrect_0 4 rfl rfl)
theorem dX3_uncorrect_7 : decode cX3_uncorrect 7 = .ok (.ldc 50, 2) := dk_18 50 (dk_at dksX3_uncorrect_0 7 rfl rfl)
theorem dX3_uncorrect_9 : decode cX3_uncorrect 9 = .ok (.ireturn, 1) := dk_172 (dk_at dksX3_uncorrect_0 9 rfl rfl)
theorem dX3_uncorrect_10 : decode cX3_uncorrect 10 = .ok (.aload_n 0, 1) := dk_42 (dk_at dksX3_uncorrect_0 10 rfl rfl)
theorem dX3_uncorrect_11 : decode cX3_uncorrect 11 = .ok (.getfield 7, 3) := dk_180 0 7 (dk_at dksX3_uncorrect_0 11 rfl rfl)
theorem dX3_uncorrect_14 : decode cX3_uncorrect 14 = .ok (.sipush 260, 3) := dk_17 1 4 (dk_at dksX3_uncorrect_0 14 rfl rfl)
theorem dX3_uncorrect_17 : decode cX3_uncorrect 17 = .ok (.iload_n 1, 1) := dk_27 (dk_at dksX3_uncorrect_0 17 rfl rfl)
theorem dX3_uncorrect_18 : decode cX3_uncorrect 18 = .ok (.iadd, 1) := dk_96 (dk_at dksX3_uncorrect_0 18 rfl rfl)
theorem dX3_uncorrect_19 : decode cX3_uncorrect 19 = .ok (.iaload, 1) := dk_46 (dk_at dksX3_uncorrect_0 19 rfl rfl)
theorem dX3_uncorrect_20 : decode cX3_uncorrect 20 = .ok (.ifCond .ge 6, 3) := dk_156 0 6 (dk_at dksX3_uncorrect_0 20 rfl rfl)
theorem dX3_uncorrect_23 : decode cX3_uncorrect 23 = .ok (.ldc 80, 2) := dk_18 80 (dk_at dksX3_uncorrect_1 0 rfl rfl)
theorem dX3_uncorrect_25 : decode cX3_uncorrect 25 = .ok (.ireturn, 1) := dk_172 (dk_at dksX3_uncorrect_1 2 rfl rfl)
theorem dX3_uncorrect_26 : decode cX3_uncorrect 26 = .ok (.aload_n 0, 1) := dk_42 (dk_at dksX3_uncorrect_1 3 rfl rfl)
theorem dX3_uncorrect_27 : decode cX3_uncorrect 27 = .ok (.invokevirtual 52, 3) := dk_182 0 52 (dk_at dksX3_uncorrect_1 4 rfl rfl)
theorem dX3_uncorrect_30 : decode cX3_uncorrect 30 = .ok (.aload_n 0, 1) := dk_42 (dk_at dksX3_uncorrect_1 7 rfl rfl)
theorem dX3_uncorrect_31 : decode cX3_uncorrect 31 = .ok (.iload_n 1, 1) := dk_27 (dk_at dksX3_uncorrect_1 8 rfl rfl)
theorem dX3_uncorrect_32 : decode cX3_uncorrect 32 = .ok (.iconst (-1), 1) := dk_2 (dk_at dksX3_uncorrect_1 9 rfl rfl)
theorem dX3_uncorrect_33 : decode cX3_uncorrect 33 = .ok (.iconst 1, 1) := dk_4 (dk_at dksX3_uncorrect_1 10 rfl rfl)
theorem dX3_uncorrect_34 : decode cX3_uncorrect 34 = .ok (.invokevirtual 84, 3) := dk_182 0 84 (dk_at dksX3_uncorrect_1 11 rfl rfl)
theorem dX3_uncorrect_37 : decode cX3_uncorrect 37 = .ok (.ireturn, 1) := dk_172 (dk_at dksX3_uncorrect_1 14 rfl rfl)
abbrev cX3_speaker : ByteArray := prog_12_method_24_code
def yX3_speaker : MethodName := ⟨RX3, "speaker", "(I)I"⟩
def dkwX3_speaker_2 : List UInt8 := [18, 51, 172, 42, 182, 0, 52, 42, 180, 0, 7, 17, 1, 20, 28, 96, 27, 79, 28, 172]
abbrev dktX3_speaker_2 : List UInt8 := dkwX3_speaker_2 ++ []
def dkwX3_speaker_1 : List UInt8 := [180, 0, 7, 17, 1, 20, 28, 96, 46, 158, 0, 9, 132, 2, 1, 167, 255, 234, 28, 16, 6, 160, 0, 6]
abbrev dktX3_speaker_1 : List UInt8 := dkwX3_speaker_1 ++ dktX3_speaker_2
def dkwX3_speaker_0 : List UInt8 := [27, 16, 50, 17, 1, 244, 184, 0, 39, 154, 0, 6, 18, 50, 172, 3, 61, 28, 16, 6, 162, 0, 22, 42]
abbrev dktX3_speaker_0 : List UInt8 := dkwX3_speaker_0 ++ dktX3_speaker_1
theorem dksX3_speaker_0 : cX3_speaker.data.toList.drop 0 = dktX3_speaker_0 := by decide +kernel
theorem dksX3_speaker_1 : cX3_speaker.data.toList.drop 24 = dktX3_speaker_1 := dk_seg dksX3_speaker_0 24 rfl rfl
theorem dksX3_speaker_2 : cX3_speaker.data.toList.drop 48 = dktX3_speaker_2 := dk_seg dksX3_speaker_1 24 rfl rfl
theorem dX3_speaker_0 : decode cX3_speaker 0 = .ok (.iload_n 1, 1) := dk_27 (dk_at dksX3_speaker_0 0 rfl rfl)
theorem dX3_speaker_1 : decode cX3_speaker 1 = .ok (.bipush 50, 2) := dk_16 50 (dk_at dksX3_speaker_0 1 rfl rfl)
theorem dX3_speaker_3 : decode cX3_speaker 3 = .ok (.sipush 500, 3) := dk_17 1 244 (dk_at dksX3_speaker_0 3 rfl rfl)
theorem dX3_speaker_6 : decode cX3_speaker 6 = .ok (.invokestatic 39, 3) := dk_184 0 39 (dk_at dksX3_speaker_0 6 rfl rfl)
theorem dX3_speaker_9 : decode cX3_speaker 9 = .ok (.ifCond .ne 6, 3) := dk_154 0 6 (dk_at dksX3_speaker_0 9 rfl rfl)
theorem dX3_speaker_12 : decode cX3_speaker 12 = .ok (.ldc 50, 2) := dk_18 50 (dk_at dksX3_speaker_0 12 rfl rfl)
theorem dX3_speaker_14 : decode cX3_speaker 14 = .ok (.ireturn, 1) := dk_172 (dk_at dksX3_speaker_0 14 rfl rfl)
theorem dX3_speaker_15 : decode cX3_speaker 15 = .ok (.iconst 0, 1) := dk_3 (dk_at dksX3_speaker_0 15 rfl rfl)
theorem dX3_speaker_16 : decode cX3_speaker 16 = .ok (.istore_n 2, 1) := dk_61 (dk_at dksX3_speaker_0 16 rfl rfl)
theorem dX3_speaker_17 : decode cX3_speaker 17 = .ok (.iload_n 2, 1) := dk_28 (dk_at dksX3_speaker_0 17 rfl rfl)
theorem dX3_speaker_18 : decode cX3_speaker 18 = .ok (.bipush 6, 2) := dk_16 6 (dk_at dksX3_speaker_0 18 rfl rfl)
theorem dX3_speaker_20 : decode cX3_speaker 20 = .ok (.if_icmp .ge 22, 3) := dk_162 0 22 (dk_at dksX3_speaker_0 20 rfl rfl)
theorem dX3_speaker_23 : decode cX3_speaker 23 = .ok (.aload_n 0, 1) := dk_42 (dk_at dksX3_speaker_0 23 rfl rfl)
theorem dX3_speaker_24 : decode cX3_speaker 24 = .ok (.getfield 7, 3) := dk_180 0 7 (dk_at dksX3_speaker_1 0 rfl rfl)
theorem dX3_speaker_27 : decode cX3_speaker 27 = .ok (.sipush 276, 3) := dk_17 1 20 (dk_at dksX3_speaker_1 3 rfl rfl)
theorem dX3_speaker_30 : decode cX3_speaker 30 = .ok (.iload_n 2, 1) := dk_28 (dk_at dksX3_speaker_1 6 rfl rfl)
theorem dX3_speaker_31 : decode cX3_speaker 31 = .ok (.iadd, 1) := dk_96 (dk_at dksX3_speaker_1 7 rfl rfl)
theorem dX3_speaker_32 : decode cX3_speaker 32 = .ok (.iaload, 1) := dk_46 (dk_at dksX3_speaker_1 8 rfl rfl)
theorem dX3_speaker_33 : decode cX3_speaker 33 = .ok (.ifCond .le 9, 3) := dk_158 0 9 (dk_at dksX3_speaker_1 9 rfl rfl)
theorem dX3_speaker_36 : decode cX3_speaker 36 = .ok (.iinc 2 1, 3) := dk_132 2 1 (dk_at dksX3_speaker_1 12 rfl rfl)
theorem dX3_speaker_39 : decode cX3_speaker 39 = .ok (.goto (-22), 3) := dk_167 255 234 (dk_at dksX3_speaker_1 15 rfl rfl)
theorem dX3_speaker_42 : decode cX3_speaker 42 = .ok (.iload_n 2, 1) := dk_28 (dk_at dksX3_speaker_1 18 rfl rfl)
theorem dX3_speaker_43 : decode cX3_speaker 43 = .ok (.bipush 6, 2) := dk_16 6 (dk_at dksX3_speaker_1 19 rfl rfl)
theorem dX3_speaker_45 : decode cX3_speaker 45 = .ok (.if_icmp .ne 6, 3) := dk_160 0 6 (dk_at dksX3_speaker_1 21 rfl rfl)
theorem dX3_speaker_48 : decode cX3_speaker 48 = .ok (.ldc 51, 2) := dk_18 51 (dk_at dksX3_speaker_2 0 rfl rfl)
theorem dX3_speaker_50 : decode cX3_speaker 50 = .ok (.ireturn, 1) := dk_172 (dk_at dksX3_speaker_2 2 rfl rfl)
theorem dX3_speaker_51 : decode cX3_speaker 51 = .ok (.aload_n 0, 1) := dk_42 (dk_at dksX3_speaker_2 3 rfl rfl)
theorem dX3_speaker_52 : decode cX3_speaker 52 = .ok (.invokevirtual 52, 3) := dk_182 0 52 (dk_at dksX3_speaker_2 4 rfl rfl)
theorem dX3_speaker_55 : decode cX3_speaker 55 = .ok (.aload_n 0, 1) := dk_42 (dk_at dksX3_speaker_2 7 rfl rfl)
theorem dX3_speaker_56 : decode cX3_speaker 56 = .ok (.getfield 7, 3) := dk_180 0 7 (dk_at dksX3_speaker_2 8 rfl rfl)
theorem dX3_speaker_59 : decode cX3_speaker 59 = .ok (.sipush 276, 3) := dk_17 1 20 (dk_at dksX3_speaker_2 11 rfl rfl)
theorem dX3_speaker_62 : decode cX3_speaker 62 = .ok (.iload_n 2, 1) := dk_28 (dk_at dksX3_speaker_2 14 rfl rfl)
theorem dX3_speaker_63 : decode cX3_speaker 63 = .ok (.iadd, 1) := dk_96 (dk_at dksX3_speaker_2 15 rfl rfl)
theorem dX3_speaker_64 : decode cX3_speaker 64 = .ok (.iload_n 1, 1) := dk_27 (dk_at dksX3_speaker_2 16 rfl rfl)
theorem dX3_speaker_65 : decode cX3_speaker 65 = .ok (.iastore, 1) := dk_79 (dk_at dksX3_speaker_2 17 rfl rfl)
theorem dX3_speaker_66 : decode cX3_speaker 66 = .ok (.iload_n 2, 1) := dk_28 (dk_at dksX3_speaker_2 18 rfl rfl)
theorem dX3_speaker_67 : decode cX3_speaker 67 = .ok (.ireturn, 1) := dk_172 (dk_at dksX3_speaker_2 19 rfl rfl)
abbrev cX3_give : ByteArray := prog_12_method_27_code
def yX3_give : MethodName := ⟨RX3, "give", "(II)I"⟩
def dkwX3_give_2 : List UInt8 := [182, 0, 94, 42, 180, 0, 7, 17, 1, 20, 28, 96, 46, 172]
abbrev dktX3_give_2 : List UInt8 := dkwX3_give_2 ++ []
def dkwX3_give_1 : List UInt8 := [182, 0, 47, 28, 160, 0, 6, 18, 80, 172, 42, 182, 0, 52, 42, 27, 6, 28, 182, 0, 59, 42, 28]
abbrev dktX3_give_1 : List UInt8 := dkwX3_give_1 ++ dktX3_give_2
def dkwX3_give_0 : List UInt8 := [42, 27, 182, 0, 66, 153, 0, 11, 42, 28, 182, 0, 91, 154, 0, 6, 18, 50, 172, 42, 27, 6]
abbrev dktX3_give_0 : List UInt8 := dkwX3_give_0 ++ dktX3_give_1
theorem dksX3_give_0 : cX3_give.data.toList.drop 0 = dktX3_give_0 := by decide +kernel
theorem dksX3_give_1 : cX3_give.data.toList.drop 22 = dktX3_give_1 := dk_seg dksX3_give_0 22 rfl rfl
theorem dksX3_give_2 : cX3_give.data.toList.drop 45 = dktX3_give_2 := dk_seg dksX3_give_1 23 rfl rfl
theorem dX3_give_0 : decode cX3_give 0 = .ok (.aload_n 0, 1) := dk_42 (dk_at dksX3_give_0 0 rfl rfl)
theorem dX3_give_1 : decode cX3_give 1 = .ok (.iload_n 1, 1) := dk_27 (dk_at dksX3_give_0 1 rfl rfl)
theorem dX3_give_2 : decode cX3_give 2 = .ok (.invokevirtual 66, 3) := dk_182 0 66 (dk_at dksX3_give_0 2 rfl rfl)
theorem dX3_give_5 : decode cX3_give 5 = .ok (.ifCond .eq 11, 3) := dk_153 0 11 (dk_at dksX3_give_0 5 rfl rfl)
theorem dX3_give_8 : decode cX3_give 8 = .ok (.aload_n 0, 1) := dk_42 (dk_at dksX3_give_0 8 rfl rfl)
theorem dX3_give_9 : decode cX3_give 9 = .ok (.iload_n 2, 1) := dk_28 (dk_at dksX3_give_0 9 rfl rfl)
theorem dX3_give_10 : decode cX3_give 10 = .ok (.invokevirtual 91, 3) := dk_182 0 91 (dk_at dksX3_give_0 10 rfl rfl)
theorem dX3_give_13 : decode cX3_give 13 = .ok (.ifCond .ne 6, 3) := dk_154 0 6 (dk_at dksX3_give_0 13 rfl rfl)
theorem dX3_give_16 : decode cX3_give 16 = .ok (.ldc 50, 2) := dk_18 50 (dk_at dksX3_give_0 16 rfl rfl)
theorem dX3_give_18 : decode cX3_give 18 = .ok (.ireturn, 1) := dk_172 (dk_at dksX3_give_0 18 rfl rfl)
theorem dX3_give_19 : decode cX3_give 19 = .ok (.aload_n 0, 1) := dk_42 (dk_at dksX3_give_0 19 rfl rfl)
theorem dX3_give_20 : decode cX3_give 20 = .ok (.iload_n 1, 1) := dk_27 (dk_at dksX3_give_0 20 rfl rfl)
theorem dX3_give_21 : decode cX3_give 21 = .ok (.iconst 3, 1) := dk_6 (dk_at dksX3_give_0 21 rfl rfl)
theorem dX3_give_22 : decode cX3_give 22 = .ok (.invokevirtual 47, 3) := dk_182 0 47 (dk_at dksX3_give_1 0 rfl rfl)
theorem dX3_give_25 : decode cX3_give 25 = .ok (.iload_n 2, 1) := dk_28 (dk_at dksX3_give_1 3 rfl rfl)
theorem dX3_give_26 : decode cX3_give 26 = .ok (.if_icmp .ne 6, 3) := dk_160 0 6 (dk_at dksX3_give_1 4 rfl rfl)
theorem dX3_give_29 : decode cX3_give 29 = .ok (.ldc 80, 2) := dk_18 80 (dk_at dksX3_give_1 7 rfl rfl)
theorem dX3_give_31 : decode cX3_give 31 = .ok (.ireturn, 1) := dk_172 (dk_at dksX3_give_1 9 rfl rfl)
theorem dX3_give_32 : decode cX3_give 32 = .ok (.aload_n 0, 1) := dk_42 (dk_at dksX3_give_1 10 rfl rfl)
theorem dX3_give_33 : decode cX3_give 33 = .ok (.invokevirtual 52, 3) := dk_182 0 52 (dk_at dksX3_give_1 11 rfl rfl)
theorem dX3_give_36 : decode cX3_give 36 = .ok (.aload_n 0, 1) := dk_42 (dk_at dksX3_give_1 14 rfl rfl)
theorem dX3_give_37 : decode cX3_give 37 = .ok (.iload_n 1, 1) := dk_27 (dk_at dksX3_give_1 15 rfl rfl)
theorem dX3_give_38 : decode cX3_give 38 = .ok (.iconst 3, 1) := dk_6 (dk_at dksX3_give_1 16 rfl rfl)
theorem dX3_give_39 : decode cX3_give 39 = .ok (.iload_n 2, 1) := dk_28 (dk_at dksX3_give_1 17 rfl rfl)
theorem dX3_give_40 : decode cX3_give 40 = .ok (.invokevirtual 59, 3) := dk_182 0 59 (dk_at dksX3_give_1 18 rfl rfl)
theorem dX3_give_43 : decode cX3_give 43 = .ok (.aload_n 0, 1) := dk_42 (dk_at dksX3_give_1 21 rfl rfl)
theorem dX3_give_44 : decode cX3_give 44 = .ok (.iload_n 2, 1) := dk_28 (dk_at dksX3_give_1 22 rfl rfl)
theorem dX3_give_45 : decode cX3_give 45 = .ok (.invokevirtual 94, 3) := dk_182 0 94 (dk_at dksX3_give_2 0 rfl rfl)
theorem dX3_give_48 : decode cX3_give 48 = .ok (.aload_n 0, 1) := dk_42 (dk_at dksX3_give_2 3 rfl rfl)
theorem dX3_give_49 : decode cX3_give 49 = .ok (.getfield 7, 3) := dk_180 0 7 (dk_at dksX3_give_2 4 rfl rfl)
theorem dX3_give_52 : decode cX3_give 52 = .ok (.sipush 276, 3) := dk_17 1 20 (dk_at dksX3_give_2 7 rfl rfl)
theorem dX3_give_55 : decode cX3_give 55 = .ok (.iload_n 2, 1) := dk_28 (dk_at dksX3_give_2 10 rfl rfl)
theorem dX3_give_56 : decode cX3_give 56 = .ok (.iadd, 1) := dk_96 (dk_at dksX3_give_2 11 rfl rfl)
theorem dX3_give_57 : decode cX3_give 57 = .ok (.iaload, 1) := dk_46 (dk_at dksX3_give_2 12 rfl rfl)
theorem dX3_give_58 : decode cX3_give 58 = .ok (.ireturn, 1) := dk_172 (dk_at dksX3_give_2 13 rfl rfl)
abbrev cX3_isVoice : ByteArray := prog_12_method_9_code
def yX3_isVoice : MethodName := ⟨RX3, "isVoice", "(I)Z"⟩
def dkwX3_isVoice_1 : List UInt8 := [167, 0, 4, 3, 172]
abbrev dktX3_isVoice_1 : List UInt8 := dkwX3_isVoice_1 ++ []
def dkwX3_isVoice_0 : List UInt8 := [27, 3, 8, 184, 0, 39, 153, 0, 20, 42, 180, 0, 7, 17, 1, 20, 27, 96, 46, 158, 0, 7, 4]
abbrev dktX3_isVoice_0 : List UInt8 := dkwX3_isVoice_0 ++ dktX3_isVoice_1
theorem dksX3_isVoice_0 : cX3_isVoice.data.toList.drop 0 = dktX3_isVoice_0 := by decide +kernel
theorem dksX3_isVoice_1 : cX3_isVoice.data.toList.drop 23 = dktX3_isVoice_1 := dk_seg dksX3_isVoice_0 23 rfl rfl
theorem dX3_isVoice_0 : decode cX3_isVoice 0 = .ok (.iload_n 1, 1) := dk_27 (dk_at dksX3_isVoice_0 0 rfl rfl)
theorem dX3_isVoice_1 : decode cX3_isVoice 1 = .ok (.iconst 0, 1) := dk_3 (dk_at dksX3_isVoice_0 1 rfl rfl)
theorem dX3_isVoice_2 : decode cX3_isVoice 2 = .ok (.iconst 5, 1) := dk_8 (dk_at dksX3_isVoice_0 2 rfl rfl)
theorem dX3_isVoice_3 : decode cX3_isVoice 3 = .ok (.invokestatic 39, 3) := dk_184 0 39 (dk_at dksX3_isVoice_0 3 rfl rfl)
theorem dX3_isVoice_6 : decode cX3_isVoice 6 = .ok (.ifCond .eq 20, 3) := dk_153 0 20 (dk_at dksX3_isVoice_0 6 rfl rfl)
theorem dX3_isVoice_9 : decode cX3_isVoice 9 = .ok (.aload_n 0, 1) := dk_42 (dk_at dksX3_isVoice_0 9 rfl rfl)
theorem dX3_isVoice_10 : decode cX3_isVoice 10 = .ok (.getfield 7, 3) := dk_180 0 7 (dk_at dksX3_isVoice_0 10 rfl rfl)
theorem dX3_isVoice_13 : decode cX3_isVoice 13 = .ok (.sipush 276, 3) := dk_17 1 20 (dk_at dksX3_isVoice_0 13 rfl rfl)
theorem dX3_isVoice_16 : decode cX3_isVoice 16 = .ok (.iload_n 1, 1) := dk_27 (dk_at dksX3_isVoice_0 16 rfl rfl)
theorem dX3_isVoice_17 : decode cX3_isVoice 17 = .ok (.iadd, 1) := dk_96 (dk_at dksX3_isVoice_0 17 rfl rfl)
theorem dX3_isVoice_18 : decode cX3_isVoice 18 = .ok (.iaload, 1) := dk_46 (dk_at dksX3_isVoice_0 18 rfl rfl)
theorem dX3_isVoice_19 : decode cX3_isVoice 19 = .ok (.ifCond .le 7, 3) := dk_158 0 7 (dk_at dksX3_isVoice_0 19 rfl rfl)
theorem dX3_isVoice_22 : decode cX3_isVoice 22 = .ok (.iconst 1, 1) := dk_4 (dk_at dksX3_isVoice_0 22 rfl rfl)
theorem dX3_isVoice_23 : decode cX3_isVoice 23 = .ok (.goto 4, 3) := dk_167 0 4 (dk_at dksX3_isVoice_1 0 rfl rfl)
theorem dX3_isVoice_26 : decode cX3_isVoice 26 = .ok (.iconst 0, 1) := dk_3 (dk_at dksX3_isVoice_1 3 rfl rfl)
theorem dX3_isVoice_27 : decode cX3_isVoice 27 = .ok (.ireturn, 1) := dk_172 (dk_at dksX3_isVoice_1 4 rfl rfl)
abbrev cX3_tunes : ByteArray := prog_12_method_26_code
def yX3_tunes : MethodName := ⟨RX3, "tunes", "(I)V"⟩
def dkwX3_tunes_3 : List UInt8 := [27, 96, 46, 167, 0, 6, 28, 29, 108, 79, 177]
abbrev dktX3_tunes_3 : List UInt8 := dkwX3_tunes_3 ++ []
def dkwX3_tunes_2 : List UInt8 := [182, 0, 88, 62, 42, 180, 0, 7, 17, 1, 20, 27, 96, 29, 154, 0, 16, 42, 180, 0, 7, 17, 1, 20]
abbrev dktX3_tunes_2 : List UInt8 := dkwX3_tunes_2 ++ dktX3_tunes_3
def dkwX3_tunes_1 : List UInt8 := [160, 0, 12, 42, 29, 5, 182, 0, 47, 167, 0, 4, 3, 96, 61, 132, 3, 1, 167, 255, 218, 42, 27]
abbrev dktX3_tunes_1 : List UInt8 := dkwX3_tunes_1 ++ dktX3_tunes_2
def dkwX3_tunes_0 : List UInt8 := [3, 61, 3, 62, 29, 42, 180, 0, 7, 17, 1, 26, 46, 162, 0, 32, 28, 42, 29, 6, 182, 0, 47, 27]
abbrev dktX3_tunes_0 : List UInt8 := dkwX3_tunes_0 ++ dktX3_tunes_1
theorem dksX3_tunes_0 : cX3_tunes.data.toList.drop 0 = dktX3_tunes_0 := by decide +kernel
theorem dksX3_tunes_1 : cX3_tunes.data.toList.drop 24 = dktX3_tunes_1 := dk_seg dksX3_tunes_0 24 rfl rfl
theorem dksX3_tunes_2 : cX3_tunes.data.toList.drop 47 = dktX3_tunes_2 := dk_seg dksX3_tunes_1 23 rfl rfl
theorem dksX3_tunes_3 : cX3_tunes.data.toList.drop 71 = dktX3_tunes_3 := dk_seg dksX3_tunes_2 24 rfl rfl
theorem dX3_tunes_0 : decode cX3_tunes 0 = .ok (.iconst 0, 1) := dk_3 (dk_at dksX3_tunes_0 0 rfl rfl)
theorem dX3_tunes_1 : decode cX3_tunes 1 = .ok (.istore_n 2, 1) := dk_61 (dk_at dksX3_tunes_0 1 rfl rfl)
theorem dX3_tunes_2 : decode cX3_tunes 2 = .ok (.iconst 0, 1) := dk_3 (dk_at dksX3_tunes_0 2 rfl rfl)
theorem dX3_tunes_3 : decode cX3_tunes 3 = .ok (.istore_n 3, 1) := dk_62 (dk_at dksX3_tunes_0 3 rfl rfl)
theorem dX3_tunes_4 : decode cX3_tunes 4 = .ok (.iload_n 3, 1) := dk_29 (dk_at dksX3_tunes_0 4 rfl rfl)
theorem dX3_tunes_5 : decode cX3_tunes 5 = .ok (.aload_n 0, 1) := dk_42 (dk_at dksX3_tunes_0 5 rfl rfl)
theorem dX3_tunes_6 : decode cX3_tunes 6 = .ok (.getfield 7, 3) := dk_180 0 7 (dk_at dksX3_tunes_0 6 rfl rfl)
theorem dX3_tunes_9 : decode cX3_tunes 9 = .ok (.sipush 282, 3) := dk_17 1 26 (dk_at dksX3_tunes_0 9 rfl rfl)
theorem dX3_tunes_12 : decode cX3_tunes 12 = .ok (.iaload, 1) := dk_46 (dk_at dksX3_tunes_0 12 rfl rfl)
theorem dX3_tunes_13 : decode cX3_tunes 13 = .ok (.if_icmp .ge 32, 3) := dk_162 0 32 (dk_at dksX3_tunes_0 13 rfl rfl)
theorem dX3_tunes_16 : decode cX3_tunes 16 = .ok (.iload_n 2, 1) := dk_28 (dk_at dksX3_tunes_0 16 rfl rfl)
theorem dX3_tunes_17 : decode cX3_tunes 17 = .ok (.aload_n 0, 1) := dk_42 (dk_at dksX3_tunes_0 17 rfl rfl)
theorem dX3_tunes_18 : decode cX3_tunes 18 = .ok (.iload_n 3, 1) := dk_29 (dk_at dksX3_tunes_0 18 rfl rfl)
theorem dX3_tunes_19 : decode cX3_tunes 19 = .ok (.iconst 3, 1) := dk_6 (dk_at dksX3_tunes_0 19 rfl rfl)
theorem dX3_tunes_20 : decode cX3_tunes 20 = .ok (.invokevirtual 47, 3) := dk_182 0 47 (dk_at dksX3_tunes_0 20 rfl rfl)
theorem dX3_tunes_23 : decode cX3_tunes 23 = .ok (.iload_n 1, 1) := dk_27 (dk_at dksX3_tunes_0 23 rfl rfl)
theorem dX3_tunes_24 : decode cX3_tunes 24 = .ok (.if_icmp .ne 12, 3) := dk_160 0 12 (dk_at dksX3_tunes_1 0 rfl rfl)
theorem dX3_tunes_27 : decode cX3_tunes 27 = .ok (.aload_n 0, 1) := dk_42 (dk_at dksX3_tunes_1 3 rfl rfl)
theorem dX3_tunes_28 : decode cX3_tunes 28 = .ok (.iload_n 3, 1) := dk_29 (dk_at dksX3_tunes_1 4 rfl rfl)
theorem dX3_tunes_29 : decode cX3_tunes 29 = .ok (.iconst 2, 1) := dk_5 (dk_at dksX3_tunes_1 5 rfl rfl)
theorem dX3_tunes_30 : decode cX3_tunes 30 = .ok (.invokevirtual 47, 3) := dk_182 0 47 (dk_at dksX3_tunes_1 6 rfl rfl)
theorem dX3_tunes_33 : decode cX3_tunes 33 = .ok (.goto 4, 3) := dk_167 0 4 (dk_at dksX3_tunes_1 9 rfl rfl)
theorem dX3_tunes_36 : decode cX3_tunes 36 = .ok (.iconst 0, 1) := dk_3 (dk_at dksX3_tunes_1 12 rfl rfl)
theorem dX3_tunes_37 : decode cX3_tunes 37 = .ok (.iadd, 1) := dk_96 (dk_at dksX3_tunes_1 13 rfl rfl)
theorem dX3_tunes_38 : decode cX3_tunes 38 = .ok (.istore_n 2, 1) := dk_61 (dk_at dksX3_tunes_1 14 rfl rfl)
theorem dX3_tunes_39 : decode cX3_tunes 39 = .ok (.iinc 3 1, 3) := dk_132 3 1 (dk_at dksX3_tunes_1 15 rfl rfl)
theorem dX3_tunes_42 : decode cX3_tunes 42 = .ok (.goto (-38), 3) := dk_167 255 218 (dk_at dksX3_tunes_1 18 rfl rfl)
theorem dX3_tunes_45 : decode cX3_tunes 45 = .ok (.aload_n 0, 1) := dk_42 (dk_at dksX3_tunes_1 21 rfl rfl)
theorem dX3_tunes_46 : decode cX3_tunes 46 = .ok (.iload_n 1, 1) := dk_27 (dk_at dksX3_tunes_1 22 rfl rfl)
theorem dX3_tunes_47 : decode cX3_tunes 47 = .ok (.invokevirtual 88, 3) := dk_182 0 88 (dk_at dksX3_tunes_2 0 rfl rfl)
theorem dX3_tunes_50 : decode cX3_tunes 50 = .ok (.istore_n 3, 1) := dk_62 (dk_at dksX3_tunes_2 3 rfl rfl)
theorem dX3_tunes_51 : decode cX3_tunes 51 = .ok (.aload_n 0, 1) := dk_42 (dk_at dksX3_tunes_2 4 rfl rfl)
theorem dX3_tunes_52 : decode cX3_tunes 52 = .ok (.getfield 7, 3) := dk_180 0 7 (dk_at dksX3_tunes_2 5 rfl rfl)
theorem dX3_tunes_55 : decode cX3_tunes 55 = .ok (.sipush 276, 3) := dk_17 1 20 (dk_at dksX3_tunes_2 8 rfl rfl)
theorem dX3_tunes_58 : decode cX3_tunes 58 = .ok (.iload_n 1, 1) := dk_27 (dk_at dksX3_tunes_2 11 rfl rfl)
theorem dX3_tunes_59 : decode cX3_tunes 59 = .ok (.iadd, 1) := dk_96 (dk_at dksX3_tunes_2 12 rfl rfl)
theorem dX3_tunes_60 : decode cX3_tunes 60 = .ok (.iload_n 3, 1) := dk_29 (dk_at dksX3_tunes_2 13 rfl rfl)
theorem dX3_tunes_61 : decode cX3_tunes 61 = .ok (.ifCond .ne 16, 3) := dk_154 0 16 (dk_at dksX3_tunes_2 14 rfl rfl)
theorem dX3_tunes_64 : decode cX3_tunes 64 = .ok (.aload_n 0, 1) := dk_42 (dk_at dksX3_tunes_2 17 rfl rfl)
theorem dX3_tunes_65 : decode cX3_tunes 65 = .ok (.getfield 7, 3) := dk_180 0 7 (dk_at dksX3_tunes_2 18 rfl rfl)
theorem dX3_tunes_68 : decode cX3_tunes 68 = .ok (.sipush 276, 3) := dk_17 1 20 (dk_at dksX3_tunes_2 21 rfl rfl)
theorem dX3_tunes_71 : decode cX3_tunes 71 = .ok (.iload_n 1, 1) := dk_27 (dk_at dksX3_tunes_3 0 rfl rfl)
theorem dX3_tunes_72 : decode cX3_tunes 72 = .ok (.iadd, 1) := dk_96 (dk_at dksX3_tunes_3 1 rfl rfl)
theorem dX3_tunes_73 : decode cX3_tunes 73 = .ok (.iaload, 1) := dk_46 (dk_at dksX3_tunes_3 2 rfl rfl)
theorem dX3_tunes_74 : decode cX3_tunes 74 = .ok (.goto 6, 3) := dk_167 0 6 (dk_at dksX3_tunes_3 3 rfl rfl)
theorem dX3_tunes_77 : decode cX3_tunes 77 = .ok (.iload_n 2, 1) := dk_28 (dk_at dksX3_tunes_3 6 rfl rfl)
theorem dX3_tunes_78 : decode cX3_tunes 78 = .ok (.iload_n 3, 1) := dk_29 (dk_at dksX3_tunes_3 7 rfl rfl)
theorem dX3_tunes_79 : decode cX3_tunes 79 = .ok (.idiv, 1) := dk_108 (dk_at dksX3_tunes_3 8 rfl rfl)
theorem dX3_tunes_80 : decode cX3_tunes 80 = .ok (.iastore, 1) := dk_79 (dk_at dksX3_tunes_3 9 rfl rfl)
theorem dX3_tunes_81 : decode cX3_tunes 81 = .ok (.return_, 1) := dk_177 (dk_at dksX3_tunes_3 10 rfl rfl)
abbrev cX3_turnsOf : ByteArray := prog_12_method_25_code
def yX3_turnsOf : MethodName := ⟨RX3, "turnsOf", "(I)I"⟩
def dkwX3_turnsOf_1 : List UInt8 := [160, 0, 7, 4, 167, 0, 4, 3, 96, 61, 132, 3, 1, 167, 255, 223, 28, 172]
abbrev dktX3_turnsOf_1 : List UInt8 := dkwX3_turnsOf_1 ++ []
def dkwX3_turnsOf_0 : List UInt8 := [3, 61, 3, 62, 29, 42, 180, 0, 7, 17, 1, 26, 46, 162, 0, 27, 28, 42, 29, 6, 182, 0, 47, 27]
abbrev dktX3_turnsOf_0 : List UInt8 := dkwX3_turnsOf_0 ++ dktX3_turnsOf_1
theorem dksX3_turnsOf_0 : cX3_turnsOf.data.toList.drop 0 = dktX3_turnsOf_0 := by decide +kernel
theorem dksX3_turnsOf_1 : cX3_turnsOf.data.toList.drop 24 = dktX3_turnsOf_1 := dk_seg dksX3_turnsOf_0 24 rfl rfl
theorem dX3_turnsOf_0 : decode cX3_turnsOf 0 = .ok (.iconst 0, 1) := dk_3 (dk_at dksX3_turnsOf_0 0 rfl rfl)
theorem dX3_turnsOf_1 : decode cX3_turnsOf 1 = .ok (.istore_n 2, 1) := dk_61 (dk_at dksX3_turnsOf_0 1 rfl rfl)
theorem dX3_turnsOf_2 : decode cX3_turnsOf 2 = .ok (.iconst 0, 1) := dk_3 (dk_at dksX3_turnsOf_0 2 rfl rfl)
theorem dX3_turnsOf_3 : decode cX3_turnsOf 3 = .ok (.istore_n 3, 1) := dk_62 (dk_at dksX3_turnsOf_0 3 rfl rfl)
theorem dX3_turnsOf_4 : decode cX3_turnsOf 4 = .ok (.iload_n 3, 1) := dk_29 (dk_at dksX3_turnsOf_0 4 rfl rfl)
theorem dX3_turnsOf_5 : decode cX3_turnsOf 5 = .ok (.aload_n 0, 1) := dk_42 (dk_at dksX3_turnsOf_0 5 rfl rfl)
theorem dX3_turnsOf_6 : decode cX3_turnsOf 6 = .ok (.getfield 7, 3) := dk_180 0 7 (dk_at dksX3_turnsOf_0 6 rfl rfl)
theorem dX3_turnsOf_9 : decode cX3_turnsOf 9 = .ok (.sipush 282, 3) := dk_17 1 26 (dk_at dksX3_turnsOf_0 9 rfl rfl)
theorem dX3_turnsOf_12 : decode cX3_turnsOf 12 = .ok (.iaload, 1) := dk_46 (dk_at dksX3_turnsOf_0 12 rfl rfl)
theorem dX3_turnsOf_13 : decode cX3_turnsOf 13 = .ok (.if_icmp .ge 27, 3) := dk_162 0 27 (dk_at dksX3_turnsOf_0 13 rfl rfl)
theorem dX3_turnsOf_16 : decode cX3_turnsOf 16 = .ok (.iload_n 2, 1) := dk_28 (dk_at dksX3_turnsOf_0 16 rfl rfl)
theorem dX3_turnsOf_17 : decode cX3_turnsOf 17 = .ok (.aload_n 0, 1) := dk_42 (dk_at dksX3_turnsOf_0 17 rfl rfl)
theorem dX3_turnsOf_18 : decode cX3_turnsOf 18 = .ok (.iload_n 3, 1) := dk_29 (dk_at dksX3_turnsOf_0 18 rfl rfl)
theorem dX3_turnsOf_19 : decode cX3_turnsOf 19 = .ok (.iconst 3, 1) := dk_6 (dk_at dksX3_turnsOf_0 19 rfl rfl)
theorem dX3_turnsOf_20 : decode cX3_turnsOf 20 = .ok (.invokevirtual 47, 3) := dk_182 0 47 (dk_at dksX3_turnsOf_0 20 rfl rfl)
theorem dX3_turnsOf_23 : decode cX3_turnsOf 23 = .ok (.iload_n 1, 1) := dk_27 (dk_at dksX3_turnsOf_0 23 rfl rfl)
theorem dX3_turnsOf_24 : decode cX3_turnsOf 24 = .ok (.if_icmp .ne 7, 3) := dk_160 0 7 (dk_at dksX3_turnsOf_1 0 rfl rfl)
theorem dX3_turnsOf_27 : decode cX3_turnsOf 27 = .ok (.iconst 1, 1) := dk_4 (dk_at dksX3_turnsOf_1 3 rfl rfl)
theorem dX3_turnsOf_28 : decode cX3_turnsOf 28 = .ok (.goto 4, 3) := dk_167 0 4 (dk_at dksX3_turnsOf_1 4 rfl rfl)
theorem dX3_turnsOf_31 : decode cX3_turnsOf 31 = .ok (.iconst 0, 1) := dk_3 (dk_at dksX3_turnsOf_1 7 rfl rfl)
theorem dX3_turnsOf_32 : decode cX3_turnsOf 32 = .ok (.iadd, 1) := dk_96 (dk_at dksX3_turnsOf_1 8 rfl rfl)
theorem dX3_turnsOf_33 : decode cX3_turnsOf 33 = .ok (.istore_n 2, 1) := dk_61 (dk_at dksX3_turnsOf_1 9 rfl rfl)
theorem dX3_turnsOf_34 : decode cX3_turnsOf 34 = .ok (.iinc 3 1, 3) := dk_132 3 1 (dk_at dksX3_turnsOf_1 10 rfl rfl)
theorem dX3_turnsOf_37 : decode cX3_turnsOf 37 = .ok (.goto (-33), 3) := dk_167 255 223 (dk_at dksX3_turnsOf_1 13 rfl rfl)
theorem dX3_turnsOf_40 : decode cX3_turnsOf 40 = .ok (.iload_n 2, 1) := dk_28 (dk_at dksX3_turnsOf_1 16 rfl rfl)
theorem dX3_turnsOf_41 : decode cX3_turnsOf 41 = .ok (.ireturn, 1) := dk_172 (dk_at dksX3_turnsOf_1 17 rfl rfl)
abbrev cX3_join : ByteArray := prog_12_method_28_code
def yX3_join : MethodName := ⟨RX3, "join", "(II)I"⟩
def dkwX3_join_4 : List UInt8 := [172]
abbrev dktX3_join_4 : List UInt8 := dkwX3_join_4 ++ []
def dkwX3_join_3 : List UInt8 := [167, 255, 215, 42, 180, 0, 7, 17, 1, 20, 27, 96, 3, 79, 42, 28, 182, 0, 94, 42, 28, 182, 0, 88]
abbrev dktX3_join_3 : List UInt8 := dkwX3_join_3 ++ dktX3_join_4
def dkwX3_join_2 : List UInt8 := [182, 0, 47, 27, 160, 0, 7, 28, 167, 0, 9, 42, 29, 6, 182, 0, 47, 182, 0, 59, 132, 3, 1]
abbrev dktX3_join_2 : List UInt8 := dkwX3_join_2 ++ dktX3_join_3
def dkwX3_join_1 : List UInt8 := [42, 182, 0, 52, 3, 62, 29, 42, 180, 0, 7, 17, 1, 26, 46, 162, 0, 35, 42, 29, 6, 42, 29, 6]
abbrev dktX3_join_1 : List UInt8 := dkwX3_join_1 ++ dktX3_join_2
def dkwX3_join_0 : List UInt8 := [42, 27, 182, 0, 91, 153, 0, 16, 42, 28, 182, 0, 91, 153, 0, 8, 27, 28, 160, 0, 6, 18, 50, 172]
abbrev dktX3_join_0 : List UInt8 := dkwX3_join_0 ++ dktX3_join_1
theorem dksX3_join_0 : cX3_join.data.toList.drop 0 = dktX3_join_0 := by decide +kernel
theorem dksX3_join_1 : cX3_join.data.toList.drop 24 = dktX3_join_1 := dk_seg dksX3_join_0 24 rfl rfl
theorem dksX3_join_2 : cX3_join.data.toList.drop 48 = dktX3_join_2 := dk_seg dksX3_join_1 24 rfl rfl
theorem dksX3_join_3 : cX3_join.data.toList.drop 71 = dktX3_join_3 := dk_seg dksX3_join_2 23 rfl rfl
theorem dksX3_join_4 : cX3_join.data.toList.drop 95 = dktX3_join_4 := dk_seg dksX3_join_3 24 rfl rfl
theorem dX3_join_0 : decode cX3_join 0 = .ok (.aload_n 0, 1) := dk_42 (dk_at dksX3_join_0 0 rfl rfl)
theorem dX3_join_1 : decode cX3_join 1 = .ok (.iload_n 1, 1) := dk_27 (dk_at dksX3_join_0 1 rfl rfl)
theorem dX3_join_2 : decode cX3_join 2 = .ok (.invokevirtual 91, 3) := dk_182 0 91 (dk_at dksX3_join_0 2 rfl rfl)
theorem dX3_join_5 : decode cX3_join 5 = .ok (.ifCond .eq 16, 3) := dk_153 0 16 (dk_at dksX3_join_0 5 rfl rfl)
theorem dX3_join_8 : decode cX3_join 8 = .ok (.aload_n 0, 1) := dk_42 (dk_at dksX3_join_0 8 rfl rfl)
theorem dX3_join_9 : decode cX3_join 9 = .ok (.iload_n 2, 1) := dk_28 (dk_at dksX3_join_0 9 rfl rfl)
theorem dX3_join_10 : decode cX3_join 10 = .ok (.invokevirtual 91, 3) := dk_182 0 91 (dk_at dksX3_join_0 10 rfl rfl)
theorem dX3_join_13 : decode cX3_join 13 = .ok (.ifCond .eq 8, 3) := dk_153 0 8 (dk_at dksX3_join_0 13 rfl rfl)
theorem dX3_join_16 : decode cX3_join 16 = .ok (.iload_n 1, 1) := dk_27 (dk_at dksX3_join_0 16 rfl rfl)
theorem dX3_join_17 : decode cX3_join 17 = .ok (.iload_n 2, 1) := dk_28 (dk_at dksX3_join_0 17 rfl rfl)
theorem dX3_join_18 : decode cX3_join 18 = .ok (.if_icmp .ne 6, 3) := dk_160 0 6 (dk_at dksX3_join_0 18 rfl rfl)
theorem dX3_join_21 : decode cX3_join 21 = .ok (.ldc 50, 2) := dk_18 50 (dk_at dksX3_join_0 21 rfl rfl)
theorem dX3_join_23 : decode cX3_join 23 = .ok (.ireturn, 1) := dk_172 (dk_at dksX3_join_0 23 rfl rfl)
theorem dX3_join_24 : decode cX3_join 24 = .ok (.aload_n 0, 1) := dk_42 (dk_at dksX3_join_1 0 rfl rfl)
theorem dX3_join_25 : decode cX3_join 25 = .ok (.invokevirtual 52, 3) := dk_182 0 52 (dk_at dksX3_join_1 1 rfl rfl)
theorem dX3_join_28 : decode cX3_join 28 = .ok (.iconst 0, 1) := dk_3 (dk_at dksX3_join_1 4 rfl rfl)
theorem dX3_join_29 : decode cX3_join 29 = .ok (.istore_n 3, 1) := dk_62 (dk_at dksX3_join_1 5 rfl rfl)
theorem dX3_join_30 : decode cX3_join 30 = .ok (.iload_n 3, 1) := dk_29 (dk_at dksX3_join_1 6 rfl rfl)
theorem dX3_join_31 : decode cX3_join 31 = .ok (.aload_n 0, 1) := dk_42 (dk_at dksX3_join_1 7 rfl rfl)
theorem dX3_join_32 : decode cX3_join 32 = .ok (.getfield 7, 3) := dk_180 0 7 (dk_at dksX3_join_1 8 rfl rfl)
theorem dX3_join_35 : decode cX3_join 35 = .ok (.sipush 282, 3) := dk_17 1 26 (dk_at dksX3_join_1 11 rfl rfl)
theorem dX3_join_38 : decode cX3_join 38 = .ok (.iaload, 1) := dk_46 (dk_at dksX3_join_1 14 rfl rfl)
theorem dX3_join_39 : decode cX3_join 39 = .ok (.if_icmp .ge 35, 3) := dk_162 0 35 (dk_at dksX3_join_1 15 rfl rfl)
theorem dX3_join_42 : decode cX3_join 42 = .ok (.aload_n 0, 1) := dk_42 (dk_at dksX3_join_1 18 rfl rfl)
theorem dX3_join_43 : decode cX3_join 43 = .ok (.iload_n 3, 1) := dk_29 (dk_at dksX3_join_1 19 rfl rfl)
theorem dX3_join_44 : decode cX3_join 44 = .ok (.iconst 3, 1) := dk_6 (dk_at dksX3_join_1 20 rfl rfl)
theorem dX3_join_45 : decode cX3_join 45 = .ok (.aload_n 0, 1) := dk_42 (dk_at dksX3_join_1 21 rfl rfl)
theorem dX3_join_46 : decode cX3_join 46 = .ok (.iload_n 3, 1) := dk_29 (dk_at dksX3_join_1 22 rfl rfl)
theorem dX3_join_47 : decode cX3_join 47 = .ok (.iconst 3, 1) := dk_6 (dk_at dksX3_join_1 23 rfl rfl)
theorem dX3_join_48 : decode cX3_join 48 = .ok (.invokevirtual 47, 3) := dk_182 0 47 (dk_at dksX3_join_2 0 rfl rfl)
theorem dX3_join_51 : decode cX3_join 51 = .ok (.iload_n 1, 1) := dk_27 (dk_at dksX3_join_2 3 rfl rfl)
theorem dX3_join_52 : decode cX3_join 52 = .ok (.if_icmp .ne 7, 3) := dk_160 0 7 (dk_at dksX3_join_2 4 rfl rfl)
theorem dX3_join_55 : decode cX3_join 55 = .ok (.iload_n 2, 1) := dk_28 (dk_at dksX3_join_2 7 rfl rfl)
theorem dX3_join_56 : decode cX3_join 56 = .ok (.goto 9, 3) := dk_167 0 9 (dk_at dksX3_join_2 8 rfl rfl)
theorem dX3_join_59 : decode cX3_join 59 = .ok (.aload_n 0, 1) := dk_42 (dk_at dksX3_join_2 11 rfl rfl)
theorem dX3_join_60 : decode cX3_join 60 = .ok (.iload_n 3, 1) := dk_29 (dk_at dksX3_join_2 12 rfl rfl)
theorem dX3_join_61 : decode cX3_join 61 = .ok (.iconst 3, 1) := dk_6 (dk_at dksX3_join_2 13 rfl rfl)
theorem dX3_join_62 : decode cX3_join 62 = .ok (.invokevirtual 47, 3) := dk_182 0 47 (dk_at dksX3_join_2 14 rfl rfl)
theorem dX3_join_65 : decode cX3_join 65 = .ok (.invokevirtual 59, 3) := dk_182 0 59 (dk_at dksX3_join_2 17 rfl rfl)
theorem dX3_join_68 : decode cX3_join 68 = .ok (.iinc 3 1, 3) := dk_132 3 1 (dk_at dksX3_join_2 20 rfl rfl)
theorem dX3_join_71 : decode cX3_join 71 = .ok (.goto (-41), 3) := dk_167 255 215 (dk_at dksX3_join_3 0 rfl rfl)
theorem dX3_join_74 : decode cX3_join 74 = .ok (.aload_n 0, 1) := dk_42 (dk_at dksX3_join_3 3 rfl rfl)
theorem dX3_join_75 : decode cX3_join 75 = .ok (.getfield 7, 3) := dk_180 0 7 (dk_at dksX3_join_3 4 rfl rfl)
theorem dX3_join_78 : decode cX3_join 78 = .ok (.sipush 276, 3) := dk_17 1 20 (dk_at dksX3_join_3 7 rfl rfl)
theorem dX3_join_81 : decode cX3_join 81 = .ok (.iload_n 1, 1) := dk_27 (dk_at dksX3_join_3 10 rfl rfl)
theorem dX3_join_82 : decode cX3_join 82 = .ok (.iadd, 1) := dk_96 (dk_at dksX3_join_3 11 rfl rfl)
theorem dX3_join_83 : decode cX3_join 83 = .ok (.iconst 0, 1) := dk_3 (dk_at dksX3_join_3 12 rfl rfl)
theorem dX3_join_84 : decode cX3_join 84 = .ok (.iastore, 1) := dk_79 (dk_at dksX3_join_3 13 rfl rfl)
theorem dX3_join_85 : decode cX3_join 85 = .ok (.aload_n 0, 1) := dk_42 (dk_at dksX3_join_3 14 rfl rfl)
theorem dX3_join_86 : decode cX3_join 86 = .ok (.iload_n 2, 1) := dk_28 (dk_at dksX3_join_3 15 rfl rfl)
theorem dX3_join_87 : decode cX3_join 87 = .ok (.invokevirtual 94, 3) := dk_182 0 94 (dk_at dksX3_join_3 16 rfl rfl)
theorem dX3_join_90 : decode cX3_join 90 = .ok (.aload_n 0, 1) := dk_42 (dk_at dksX3_join_3 19 rfl rfl)
theorem dX3_join_91 : decode cX3_join 91 = .ok (.iload_n 2, 1) := dk_28 (dk_at dksX3_join_3 20 rfl rfl)
theorem dX3_join_92 : decode cX3_join 92 = .ok (.invokevirtual 88, 3) := dk_182 0 88 (dk_at dksX3_join_3 21 rfl rfl)
theorem dX3_join_95 : decode cX3_join 95 = .ok (.ireturn, 1) := dk_172 (dk_at dksX3_join_4 0 rfl rfl)
abbrev cX3_set : ByteArray := prog_12_method_29_code
def yX3_set : MethodName := ⟨RX3, "set", "(II)I"⟩
def dkwX3_set_1 : List UInt8 := [180, 0, 7, 17, 1, 27, 46, 62, 42, 180, 0, 7, 17, 1, 27, 28, 79, 29, 172]
abbrev dktX3_set_1 : List UInt8 := dkwX3_set_1 ++ []
def dkwX3_set_0 : List UInt8 := [27, 154, 0, 14, 28, 3, 17, 0, 200, 184, 0, 39, 154, 0, 6, 18, 50, 172, 42, 182, 0, 52, 42]
abbrev dktX3_set_0 : List UInt8 := dkwX3_set_0 ++ dktX3_set_1
theorem dksX3_set_0 : cX3_set.data.toList.drop 0 = dktX3_set_0 := by decide +kernel
theorem dksX3_set_1 : cX3_set.data.toList.drop 23 = dktX3_set_1 := dk_seg dksX3_set_0 23 rfl rfl
theorem dX3_set_0 : decode cX3_set 0 = .ok (.iload_n 1, 1) := dk_27 (dk_at dksX3_set_0 0 rfl rfl)
theorem dX3_set_1 : decode cX3_set 1 = .ok (.ifCond .ne 14, 3) := dk_154 0 14 (dk_at dksX3_set_0 1 rfl rfl)
theorem dX3_set_4 : decode cX3_set 4 = .ok (.iload_n 2, 1) := dk_28 (dk_at dksX3_set_0 4 rfl rfl)
theorem dX3_set_5 : decode cX3_set 5 = .ok (.iconst 0, 1) := dk_3 (dk_at dksX3_set_0 5 rfl rfl)
theorem dX3_set_6 : decode cX3_set 6 = .ok (.sipush 200, 3) := dk_17 0 200 (dk_at dksX3_set_0 6 rfl rfl)
theorem dX3_set_9 : decode cX3_set 9 = .ok (.invokestatic 39, 3) := dk_184 0 39 (dk_at dksX3_set_0 9 rfl rfl)
theorem dX3_set_12 : decode cX3_set 12 = .ok (.ifCond .ne 6, 3) := dk_154 0 6 (dk_at dksX3_set_0 12 rfl rfl)
theorem dX3_set_15 : decode cX3_set 15 = .ok (.ldc 50, 2) := dk_18 50 (dk_at dksX3_set_0 15 rfl rfl)
theorem dX3_set_17 : decode cX3_set 17 = .ok (.ireturn, 1) := dk_172 (dk_at dksX3_set_0 17 rfl rfl)
theorem dX3_set_18 : decode cX3_set 18 = .ok (.aload_n 0, 1) := dk_42 (dk_at dksX3_set_0 18 rfl rfl)
theorem dX3_set_19 : decode cX3_set 19 = .ok (.invokevirtual 52, 3) := dk_182 0 52 (dk_at dksX3_set_0 19 rfl rfl)
theorem dX3_set_22 : decode cX3_set 22 = .ok (.aload_n 0, 1) := dk_42 (dk_at dksX3_set_0 22 rfl rfl)
theorem dX3_set_23 : decode cX3_set 23 = .ok (.getfield 7, 3) := dk_180 0 7 (dk_at dksX3_set_1 0 rfl rfl)
theorem dX3_set_26 : decode cX3_set 26 = .ok (.sipush 283, 3) := dk_17 1 27 (dk_at dksX3_set_1 3 rfl rfl)
theorem dX3_set_29 : decode cX3_set 29 = .ok (.iaload, 1) := dk_46 (dk_at dksX3_set_1 6 rfl rfl)
theorem dX3_set_30 : decode cX3_set 30 = .ok (.istore_n 3, 1) := dk_62 (dk_at dksX3_set_1 7 rfl rfl)
theorem dX3_set_31 : decode cX3_set 31 = .ok (.aload_n 0, 1) := dk_42 (dk_at dksX3_set_1 8 rfl rfl)
theorem dX3_set_32 : decode cX3_set 32 = .ok (.getfield 7, 3) := dk_180 0 7 (dk_at dksX3_set_1 9 rfl rfl)
theorem dX3_set_35 : decode cX3_set 35 = .ok (.sipush 283, 3) := dk_17 1 27 (dk_at dksX3_set_1 12 rfl rfl)
theorem dX3_set_38 : decode cX3_set 38 = .ok (.iload_n 2, 1) := dk_28 (dk_at dksX3_set_1 15 rfl rfl)
theorem dX3_set_39 : decode cX3_set 39 = .ok (.iastore, 1) := dk_79 (dk_at dksX3_set_1 16 rfl rfl)
theorem dX3_set_40 : decode cX3_set 40 = .ok (.iload_n 3, 1) := dk_29 (dk_at dksX3_set_1 17 rfl rfl)
theorem dX3_set_41 : decode cX3_set 41 = .ok (.ireturn, 1) := dk_172 (dk_at dksX3_set_1 18 rfl rfl)
abbrev cX3_turnOf : ByteArray := prog_12_method_36_code
def yX3_turnOf : MethodName := ⟨RX3, "turnOf", "(II)I"⟩
def dkwX3_turnOf_4 : List UInt8 := [182, 0, 47, 172]
abbrev dktX3_turnOf_4 : List UInt8 := dkwX3_turnOf_4 ++ []
def dkwX3_turnOf_3 : List UInt8 := [16, 6, 160, 0, 7, 4, 167, 0, 4, 3, 182, 0, 111, 172, 42, 27, 182, 0, 115, 172, 42, 27, 28]
abbrev dktX3_turnOf_3 : List UInt8 := dkwX3_turnOf_3 ++ dktX3_turnOf_4
def dkwX3_turnOf_2 : List UInt8 := [42, 27, 6, 182, 0, 47, 156, 0, 8, 18, 110, 167, 0, 9, 42, 27, 6, 182, 0, 47, 172, 42, 27, 28]
abbrev dktX3_turnOf_2 : List UInt8 := dkwX3_turnOf_2 ++ dktX3_turnOf_3
def dkwX3_turnOf_1 : List UInt8 := [170, 0, 0, 0, 0, 78, 0, 0, 0, 3, 0, 0, 0, 7, 0, 0, 0, 34, 0, 0, 0, 78, 0, 0, 0, 55, 0, 0, 0, 55, 0, 0, 0, 72]
abbrev dktX3_turnOf_1 : List UInt8 := dkwX3_turnOf_1 ++ dktX3_turnOf_2
def dkwX3_turnOf_0 : List UInt8 := [42, 27, 182, 0, 66, 153, 0, 13, 28, 3, 16, 7, 184, 0, 39, 154, 0, 6, 18, 50, 172, 28]
abbrev dktX3_turnOf_0 : List UInt8 := dkwX3_turnOf_0 ++ dktX3_turnOf_1
theorem dksX3_turnOf_0 : cX3_turnOf.data.toList.drop 0 = dktX3_turnOf_0 := by decide +kernel
theorem dksX3_turnOf_1 : cX3_turnOf.data.toList.drop 22 = dktX3_turnOf_1 := dk_seg dksX3_turnOf_0 22 rfl rfl
theorem dksX3_turnOf_2 : cX3_turnOf.data.toList.drop 56 = dktX3_turnOf_2 := dk_seg dksX3_turnOf_1 34 rfl rfl
theorem dksX3_turnOf_3 : cX3_turnOf.data.toList.drop 80 = dktX3_turnOf_3 := dk_seg dksX3_turnOf_2 24 rfl rfl
theorem dksX3_turnOf_4 : cX3_turnOf.data.toList.drop 103 = dktX3_turnOf_4 := dk_seg dksX3_turnOf_3 23 rfl rfl
theorem dX3_turnOf_0 : decode cX3_turnOf 0 = .ok (.aload_n 0, 1) := dk_42 (dk_at dksX3_turnOf_0 0 rfl rfl)
theorem dX3_turnOf_1 : decode cX3_turnOf 1 = .ok (.iload_n 1, 1) := dk_27 (dk_at dksX3_turnOf_0 1 rfl rfl)
theorem dX3_turnOf_2 : decode cX3_turnOf 2 = .ok (.invokevirtual 66, 3) := dk_182 0 66 (dk_at dksX3_turnOf_0 2 rfl rfl)
theorem dX3_turnOf_5 : decode cX3_turnOf 5 = .ok (.ifCond .eq 13, 3) := dk_153 0 13 (dk_at dksX3_turnOf_0 5 rfl rfl)
theorem dX3_turnOf_8 : decode cX3_turnOf 8 = .ok (.iload_n 2, 1) := dk_28 (dk_at dksX3_turnOf_0 8 rfl rfl)
theorem dX3_turnOf_9 : decode cX3_turnOf 9 = .ok (.iconst 0, 1) := dk_3 (dk_at dksX3_turnOf_0 9 rfl rfl)
theorem dX3_turnOf_10 : decode cX3_turnOf 10 = .ok (.bipush 7, 2) := dk_16 7 (dk_at dksX3_turnOf_0 10 rfl rfl)
theorem dX3_turnOf_12 : decode cX3_turnOf 12 = .ok (.invokestatic 39, 3) := dk_184 0 39 (dk_at dksX3_turnOf_0 12 rfl rfl)
theorem dX3_turnOf_15 : decode cX3_turnOf 15 = .ok (.ifCond .ne 6, 3) := dk_154 0 6 (dk_at dksX3_turnOf_0 15 rfl rfl)
theorem dX3_turnOf_18 : decode cX3_turnOf 18 = .ok (.ldc 50, 2) := dk_18 50 (dk_at dksX3_turnOf_0 18 rfl rfl)
theorem dX3_turnOf_20 : decode cX3_turnOf 20 = .ok (.ireturn, 1) := dk_172 (dk_at dksX3_turnOf_0 20 rfl rfl)
theorem dX3_turnOf_21 : decode cX3_turnOf 21 = .ok (.iload_n 2, 1) := dk_28 (dk_at dksX3_turnOf_0 21 rfl rfl)
theorem dX3_turnOf_22 : decode cX3_turnOf 22 = .ok (.tableswitch 78 3 7 #[34, 78, 55, 55, 72], 34) := by decide +kernel
theorem dX3_turnOf_56 : decode cX3_turnOf 56 = .ok (.aload_n 0, 1) := dk_42 (dk_at dksX3_turnOf_2 0 rfl rfl)
theorem dX3_turnOf_57 : decode cX3_turnOf 57 = .ok (.iload_n 1, 1) := dk_27 (dk_at dksX3_turnOf_2 1 rfl rfl)
theorem dX3_turnOf_58 : decode cX3_turnOf 58 = .ok (.iconst 3, 1) := dk_6 (dk_at dksX3_turnOf_2 2 rfl rfl)
theorem dX3_turnOf_59 : decode cX3_turnOf 59 = .ok (.invokevirtual 47, 3) := dk_182 0 47 (dk_at dksX3_turnOf_2 3 rfl rfl)
theorem dX3_turnOf_62 : decode cX3_turnOf 62 = .ok (.ifCond .ge 8, 3) := dk_156 0 8 (dk_at dksX3_turnOf_2 6 rfl rfl)
theorem dX3_turnOf_65 : decode cX3_turnOf 65 = .ok (.ldc 110, 2) := dk_18 110 (dk_at dksX3_turnOf_2 9 rfl rfl)
theorem dX3_turnOf_67 : decode cX3_turnOf 67 = .ok (.goto 9, 3) := dk_167 0 9 (dk_at dksX3_turnOf_2 11 rfl rfl)
theorem dX3_turnOf_70 : decode cX3_turnOf 70 = .ok (.aload_n 0, 1) := dk_42 (dk_at dksX3_turnOf_2 14 rfl rfl)
theorem dX3_turnOf_71 : decode cX3_turnOf 71 = .ok (.iload_n 1, 1) := dk_27 (dk_at dksX3_turnOf_2 15 rfl rfl)
theorem dX3_turnOf_72 : decode cX3_turnOf 72 = .ok (.iconst 3, 1) := dk_6 (dk_at dksX3_turnOf_2 16 rfl rfl)
theorem dX3_turnOf_73 : decode cX3_turnOf 73 = .ok (.invokevirtual 47, 3) := dk_182 0 47 (dk_at dksX3_turnOf_2 17 rfl rfl)
theorem dX3_turnOf_76 : decode cX3_turnOf 76 = .ok (.ireturn, 1) := dk_172 (dk_at dksX3_turnOf_2 20 rfl rfl)
theorem dX3_turnOf_77 : decode cX3_turnOf 77 = .ok (.aload_n 0, 1) := dk_42 (dk_at dksX3_turnOf_2 21 rfl rfl)
theorem dX3_turnOf_78 : decode cX3_turnOf 78 = .ok (.iload_n 1, 1) := dk_27 (dk_at dksX3_turnOf_2 22 rfl rfl)
theorem dX3_turnOf_79 : decode cX3_turnOf 79 = .ok (.iload_n 2, 1) := dk_28 (dk_at dksX3_turnOf_2 23 rfl rfl)
theorem dX3_turnOf_80 : decode cX3_turnOf 80 = .ok (.bipush 6, 2) := dk_16 6 (dk_at dksX3_turnOf_3 0 rfl rfl)
theorem dX3_turnOf_82 : decode cX3_turnOf 82 = .ok (.if_icmp .ne 7, 3) := dk_160 0 7 (dk_at dksX3_turnOf_3 2 rfl rfl)
theorem dX3_turnOf_85 : decode cX3_turnOf 85 = .ok (.iconst 1, 1) := dk_4 (dk_at dksX3_turnOf_3 5 rfl rfl)
theorem dX3_turnOf_86 : decode cX3_turnOf 86 = .ok (.goto 4, 3) := dk_167 0 4 (dk_at dksX3_turnOf_3 6 rfl rfl)
theorem dX3_turnOf_89 : decode cX3_turnOf 89 = .ok (.iconst 0, 1) := dk_3 (dk_at dksX3_turnOf_3 9 rfl rfl)
theorem dX3_turnOf_90 : decode cX3_turnOf 90 = .ok (.invokevirtual 111, 3) := dk_182 0 111 (dk_at dksX3_turnOf_3 10 rfl rfl)
theorem dX3_turnOf_93 : decode cX3_turnOf 93 = .ok (.ireturn, 1) := dk_172 (dk_at dksX3_turnOf_3 13 rfl rfl)
theorem dX3_turnOf_94 : decode cX3_turnOf 94 = .ok (.aload_n 0, 1) := dk_42 (dk_at dksX3_turnOf_3 14 rfl rfl)
theorem dX3_turnOf_95 : decode cX3_turnOf 95 = .ok (.iload_n 1, 1) := dk_27 (dk_at dksX3_turnOf_3 15 rfl rfl)
theorem dX3_turnOf_96 : decode cX3_turnOf 96 = .ok (.invokevirtual 115, 3) := dk_182 0 115 (dk_at dksX3_turnOf_3 16 rfl rfl)
theorem dX3_turnOf_99 : decode cX3_turnOf 99 = .ok (.ireturn, 1) := dk_172 (dk_at dksX3_turnOf_3 19 rfl rfl)
theorem dX3_turnOf_100 : decode cX3_turnOf 100 = .ok (.aload_n 0, 1) := dk_42 (dk_at dksX3_turnOf_3 20 rfl rfl)
theorem dX3_turnOf_101 : decode cX3_turnOf 101 = .ok (.iload_n 1, 1) := dk_27 (dk_at dksX3_turnOf_3 21 rfl rfl)
theorem dX3_turnOf_102 : decode cX3_turnOf 102 = .ok (.iload_n 2, 1) := dk_28 (dk_at dksX3_turnOf_3 22 rfl rfl)
theorem dX3_turnOf_103 : decode cX3_turnOf 103 = .ok (.invokevirtual 47, 3) := dk_182 0 47 (dk_at dksX3_turnOf_4 0 rfl rfl)
theorem dX3_turnOf_106 : decode cX3_turnOf 106 = .ok (.ireturn, 1) := dk_172 (dk_at dksX3_turnOf_4 3 rfl rfl)
abbrev cX3_overlapping : ByteArray := prog_12_method_32_code
def yX3_overlapping : MethodName := ⟨RX3, "overlapping", "(IZ)I"⟩
def dkwX3_overlapping_2 : List UInt8 := [21, 4, 120, 167, 0, 4, 3, 128, 62, 132, 4, 1, 167, 255, 202, 29, 172]
abbrev dktX3_overlapping_2 : List UInt8 := dkwX3_overlapping_2 ++ []
def dkwX3_overlapping_1 : List UInt8 := [27, 21, 4, 182, 0, 98, 153, 0, 23, 167, 0, 13, 42, 27, 21, 4, 182, 0, 101, 153, 0, 10, 4]
abbrev dktX3_overlapping_1 : List UInt8 := dkwX3_overlapping_1 ++ dktX3_overlapping_2
def dkwX3_overlapping_0 : List UInt8 := [3, 62, 3, 54, 4, 21, 4, 42, 180, 0, 7, 17, 1, 26, 46, 162, 0, 47, 29, 28, 153, 0, 16, 42]
abbrev dktX3_overlapping_0 : List UInt8 := dkwX3_overlapping_0 ++ dktX3_overlapping_1
theorem dksX3_overlapping_0 : cX3_overlapping.data.toList.drop 0 = dktX3_overlapping_0 := by decide +kernel
theorem dksX3_overlapping_1 : cX3_overlapping.data.toList.drop 24 = dktX3_overlapping_1 := dk_seg dksX3_overlapping_0 24 rfl rfl
theorem dksX3_overlapping_2 : cX3_overlapping.data.toList.drop 47 = dktX3_overlapping_2 := dk_seg dksX3_overlapping_1 23 rfl rfl
theorem dX3_overlapping_0 : decode cX3_overlapping 0 = .ok (.iconst 0, 1) := dk_3 (dk_at dksX3_overlapping_0 0 rfl rfl)
theorem dX3_overlapping_1 : decode cX3_overlapping 1 = .ok (.istore_n 3, 1) := dk_62 (dk_at dksX3_overlapping_0 1 rfl rfl)
theorem dX3_overlapping_2 : decode cX3_overlapping 2 = .ok (.iconst 0, 1) := dk_3 (dk_at dksX3_overlapping_0 2 rfl rfl)
theorem dX3_overlapping_3 : decode cX3_overlapping 3 = .ok (.istore 4, 2) := dk_54 4 (dk_at dksX3_overlapping_0 3 rfl rfl)
theorem dX3_overlapping_5 : decode cX3_overlapping 5 = .ok (.iload 4, 2) := dk_21 4 (dk_at dksX3_overlapping_0 5 rfl rfl)
theorem dX3_overlapping_7 : decode cX3_overlapping 7 = .ok (.aload_n 0, 1) := dk_42 (dk_at dksX3_overlapping_0 7 rfl rfl)
theorem dX3_overlapping_8 : decode cX3_overlapping 8 = .ok (.getfield 7, 3) := dk_180 0 7 (dk_at dksX3_overlapping_0 8 rfl rfl)
theorem dX3_overlapping_11 : decode cX3_overlapping 11 = .ok (.sipush 282, 3) := dk_17 1 26 (dk_at dksX3_overlapping_0 11 rfl rfl)
theorem dX3_overlapping_14 : decode cX3_overlapping 14 = .ok (.iaload, 1) := dk_46 (dk_at dksX3_overlapping_0 14 rfl rfl)
theorem dX3_overlapping_15 : decode cX3_overlapping 15 = .ok (.if_icmp .ge 47, 3) := dk_162 0 47 (dk_at dksX3_overlapping_0 15 rfl rfl)
theorem dX3_overlapping_18 : decode cX3_overlapping 18 = .ok (.iload_n 3, 1) := dk_29 (dk_at dksX3_overlapping_0 18 rfl rfl)
theorem dX3_overlapping_19 : decode cX3_overlapping 19 = .ok (.iload_n 2, 1) := dk_28 (dk_at dksX3_overlapping_0 19 rfl rfl)
theorem dX3_overlapping_20 : decode cX3_overlapping 20 = .ok (.ifCond .eq 16, 3) := dk_153 0 16 (dk_at dksX3_overlapping_0 20 rfl rfl)
theorem dX3_overlapping_23 : decode cX3_overlapping 23 = .ok (.aload_n 0, 1) := dk_42 (dk_at dksX3_overlapping_0 23 rfl rfl)
theorem dX3_overlapping_24 : decode cX3_overlapping 24 = .ok (.iload_n 1, 1) := dk_27 (dk_at dksX3_overlapping_1 0 rfl rfl)
theorem dX3_overlapping_25 : decode cX3_overlapping 25 = .ok (.iload 4, 2) := dk_21 4 (dk_at dksX3_overlapping_1 1 rfl rfl)
theorem dX3_overlapping_27 : decode cX3_overlapping 27 = .ok (.invokevirtual 98, 3) := dk_182 0 98 (dk_at dksX3_overlapping_1 3 rfl rfl)
theorem dX3_overlapping_30 : decode cX3_overlapping 30 = .ok (.ifCond .eq 23, 3) := dk_153 0 23 (dk_at dksX3_overlapping_1 6 rfl rfl)
theorem dX3_overlapping_33 : decode cX3_overlapping 33 = .ok (.goto 13, 3) := dk_167 0 13 (dk_at dksX3_overlapping_1 9 rfl rfl)
theorem dX3_overlapping_36 : decode cX3_overlapping 36 = .ok (.aload_n 0, 1) := dk_42 (dk_at dksX3_overlapping_1 12 rfl rfl)
theorem dX3_overlapping_37 : decode cX3_overlapping 37 = .ok (.iload_n 1, 1) := dk_27 (dk_at dksX3_overlapping_1 13 rfl rfl)
theorem dX3_overlapping_38 : decode cX3_overlapping 38 = .ok (.iload 4, 2) := dk_21 4 (dk_at dksX3_overlapping_1 14 rfl rfl)
theorem dX3_overlapping_40 : decode cX3_overlapping 40 = .ok (.invokevirtual 101, 3) := dk_182 0 101 (dk_at dksX3_overlapping_1 16 rfl rfl)
theorem dX3_overlapping_43 : decode cX3_overlapping 43 = .ok (.ifCond .eq 10, 3) := dk_153 0 10 (dk_at dksX3_overlapping_1 19 rfl rfl)
theorem dX3_overlapping_46 : decode cX3_overlapping 46 = .ok (.iconst 1, 1) := dk_4 (dk_at dksX3_overlapping_1 22 rfl rfl)
theorem dX3_overlapping_47 : decode cX3_overlapping 47 = .ok (.iload 4, 2) := dk_21 4 (dk_at dksX3_overlapping_2 0 rfl rfl)
theorem dX3_overlapping_49 : decode cX3_overlapping 49 = .ok (.ishl, 1) := dk_120 (dk_at dksX3_overlapping_2 2 rfl rfl)
theorem dX3_overlapping_50 : decode cX3_overlapping 50 = .ok (.goto 4, 3) := dk_167 0 4 (dk_at dksX3_overlapping_2 3 rfl rfl)
theorem dX3_overlapping_53 : decode cX3_overlapping 53 = .ok (.iconst 0, 1) := dk_3 (dk_at dksX3_overlapping_2 6 rfl rfl)
theorem dX3_overlapping_54 : decode cX3_overlapping 54 = .ok (.ior, 1) := dk_128 (dk_at dksX3_overlapping_2 7 rfl rfl)
theorem dX3_overlapping_55 : decode cX3_overlapping 55 = .ok (.istore_n 3, 1) := dk_62 (dk_at dksX3_overlapping_2 8 rfl rfl)
theorem dX3_overlapping_56 : decode cX3_overlapping 56 = .ok (.iinc 4 1, 3) := dk_132 4 1 (dk_at dksX3_overlapping_2 9 rfl rfl)
theorem dX3_overlapping_59 : decode cX3_overlapping 59 = .ok (.goto (-54), 3) := dk_167 255 202 (dk_at dksX3_overlapping_2 12 rfl rfl)
theorem dX3_overlapping_62 : decode cX3_overlapping 62 = .ok (.iload_n 3, 1) := dk_29 (dk_at dksX3_overlapping_2 15 rfl rfl)
theorem dX3_overlapping_63 : decode cX3_overlapping 63 = .ok (.ireturn, 1) := dk_172 (dk_at dksX3_overlapping_2 16 rfl rfl)
abbrev cX3_interrupt : ByteArray := prog_12_method_31_code
def yX3_interrupt : MethodName := ⟨RX3, "interrupt", "(II)Z"⟩
def dkwX3_interrupt_3 : List UInt8 := [159, 0, 7, 4, 167, 0, 4, 3, 172]
abbrev dktX3_interrupt_3 : List UInt8 := dkwX3_interrupt_3 ++ []
def dkwX3_interrupt_2 : List UInt8 := [155, 0, 31, 42, 28, 6, 182, 0, 47, 155, 0, 22, 42, 27, 6, 182, 0, 47, 42, 28, 6, 182, 0, 47]
abbrev dktX3_interrupt_2 : List UInt8 := dkwX3_interrupt_2 ++ dktX3_interrupt_3
def dkwX3_interrupt_1 : List UInt8 := [182, 0, 47, 162, 0, 7, 4, 167, 0, 4, 3, 62, 29, 153, 0, 40, 42, 27, 6, 182, 0, 47]
abbrev dktX3_interrupt_1 : List UInt8 := dkwX3_interrupt_1 ++ dktX3_interrupt_2
def dkwX3_interrupt_0 : List UInt8 := [42, 27, 3, 182, 0, 47, 42, 28, 3, 182, 0, 47, 164, 0, 22, 42, 27, 3, 182, 0, 47, 42, 28, 4]
abbrev dktX3_interrupt_0 : List UInt8 := dkwX3_interrupt_0 ++ dktX3_interrupt_1
theorem dksX3_interrupt_0 : cX3_interrupt.data.toList.drop 0 = dktX3_interrupt_0 := by decide +kernel
theorem dksX3_interrupt_1 : cX3_interrupt.data.toList.drop 24 = dktX3_interrupt_1 := dk_seg dksX3_interrupt_0 24 rfl rfl
theorem dksX3_interrupt_2 : cX3_interrupt.data.toList.drop 46 = dktX3_interrupt_2 := dk_seg dksX3_interrupt_1 22 rfl rfl
theorem dksX3_interrupt_3 : cX3_interrupt.data.toList.drop 70 = dktX3_interrupt_3 := dk_seg dksX3_interrupt_2 24 rfl rfl
theorem dX3_interrupt_0 : decode cX3_interrupt 0 = .ok (.aload_n 0, 1) := dk_42 (dk_at dksX3_interrupt_0 0 rfl rfl)
theorem dX3_interrupt_1 : decode cX3_interrupt 1 = .ok (.iload_n 1, 1) := dk_27 (dk_at dksX3_interrupt_0 1 rfl rfl)
theorem dX3_interrupt_2 : decode cX3_interrupt 2 = .ok (.iconst 0, 1) := dk_3 (dk_at dksX3_interrupt_0 2 rfl rfl)
theorem dX3_interrupt_3 : decode cX3_interrupt 3 = .ok (.invokevirtual 47, 3) := dk_182 0 47 (dk_at dksX3_interrupt_0 3 rfl rfl)
theorem dX3_interrupt_6 : decode cX3_interrupt 6 = .ok (.aload_n 0, 1) := dk_42 (dk_at dksX3_interrupt_0 6 rfl rfl)
theorem dX3_interrupt_7 : decode cX3_interrupt 7 = .ok (.iload_n 2, 1) := dk_28 (dk_at dksX3_interrupt_0 7 rfl rfl)
theorem dX3_interrupt_8 : decode cX3_interrupt 8 = .ok (.iconst 0, 1) := dk_3 (dk_at dksX3_interrupt_0 8 rfl rfl)
theorem dX3_interrupt_9 : decode cX3_interrupt 9 = .ok (.invokevirtual 47, 3) := dk_182 0 47 (dk_at dksX3_interrupt_0 9 rfl rfl)
theorem dX3_interrupt_12 : decode cX3_interrupt 12 = .ok (.if_icmp .le 22, 3) := dk_164 0 22 (dk_at dksX3_interrupt_0 12 rfl rfl)
theorem dX3_interrupt_15 : decode cX3_interrupt 15 = .ok (.aload_n 0, 1) := dk_42 (dk_at dksX3_interrupt_0 15 rfl rfl)
theorem dX3_interrupt_16 : decode cX3_interrupt 16 = .ok (.iload_n 1, 1) := dk_27 (dk_at dksX3_interrupt_0 16 rfl rfl)
theorem dX3_interrupt_17 : decode cX3_interrupt 17 = .ok (.iconst 0, 1) := dk_3 (dk_at dksX3_interrupt_0 17 rfl rfl)
theorem dX3_interrupt_18 : decode cX3_interrupt 18 = .ok (.invokevirtual 47, 3) := dk_182 0 47 (dk_at dksX3_interrupt_0 18 rfl rfl)
theorem dX3_interrupt_21 : decode cX3_interrupt 21 = .ok (.aload_n 0, 1) := dk_42 (dk_at dksX3_interrupt_0 21 rfl rfl)
theorem dX3_interrupt_22 : decode cX3_interrupt 22 = .ok (.iload_n 2, 1) := dk_28 (dk_at dksX3_interrupt_0 22 rfl rfl)
theorem dX3_interrupt_23 : decode cX3_interrupt 23 = .ok (.iconst 1, 1) := dk_4 (dk_at dksX3_interrupt_0 23 rfl rfl)
theorem dX3_interrupt_24 : decode cX3_interrupt 24 = .ok (.invokevirtual 47, 3) := dk_182 0 47 (dk_at dksX3_interrupt_1 0 rfl rfl)
theorem dX3_interrupt_27 : decode cX3_interrupt 27 = .ok (.if_icmp .ge 7, 3) := dk_162 0 7 (dk_at dksX3_interrupt_1 3 rfl rfl)
theorem dX3_interrupt_30 : decode cX3_interrupt 30 = .ok (.iconst 1, 1) := dk_4 (dk_at dksX3_interrupt_1 6 rfl rfl)
theorem dX3_interrupt_31 : decode cX3_interrupt 31 = .ok (.goto 4, 3) := dk_167 0 4 (dk_at dksX3_interrupt_1 7 rfl rfl)
theorem dX3_interrupt_34 : decode cX3_interrupt 34 = .ok (.iconst 0, 1) := dk_3 (dk_at dksX3_interrupt_1 10 rfl rfl)
theorem dX3_interrupt_35 : decode cX3_interrupt 35 = .ok (.istore_n 3, 1) := dk_62 (dk_at dksX3_interrupt_1 11 rfl rfl)
theorem dX3_interrupt_36 : decode cX3_interrupt 36 = .ok (.iload_n 3, 1) := dk_29 (dk_at dksX3_interrupt_1 12 rfl rfl)
theorem dX3_interrupt_37 : decode cX3_interrupt 37 = .ok (.ifCond .eq 40, 3) := dk_153 0 40 (dk_at dksX3_interrupt_1 13 rfl rfl)
theorem dX3_interrupt_40 : decode cX3_interrupt 40 = .ok (.aload_n 0, 1) := dk_42 (dk_at dksX3_interrupt_1 16 rfl rfl)
theorem dX3_interrupt_41 : decode cX3_interrupt 41 = .ok (.iload_n 1, 1) := dk_27 (dk_at dksX3_interrupt_1 17 rfl rfl)
theorem dX3_interrupt_42 : decode cX3_interrupt 42 = .ok (.iconst 3, 1) := dk_6 (dk_at dksX3_interrupt_1 18 rfl rfl)
theorem dX3_interrupt_43 : decode cX3_interrupt 43 = .ok (.invokevirtual 47, 3) := dk_182 0 47 (dk_at dksX3_interrupt_1 19 rfl rfl)
theorem dX3_interrupt_46 : decode cX3_interrupt 46 = .ok (.ifCond .lt 31, 3) := dk_155 0 31 (dk_at dksX3_interrupt_2 0 rfl rfl)
theorem dX3_interrupt_49 : decode cX3_interrupt 49 = .ok (.aload_n 0, 1) := dk_42 (dk_at dksX3_interrupt_2 3 rfl rfl)
theorem dX3_interrupt_50 : decode cX3_interrupt 50 = .ok (.iload_n 2, 1) := dk_28 (dk_at dksX3_interrupt_2 4 rfl rfl)
theorem dX3_interrupt_51 : decode cX3_interrupt 51 = .ok (.iconst 3, 1) := dk_6 (dk_at dksX3_interrupt_2 5 rfl rfl)
theorem dX3_interrupt_52 : decode cX3_interrupt 52 = .ok (.invokevirtual 47, 3) := dk_182 0 47 (dk_at dksX3_interrupt_2 6 rfl rfl)
theorem dX3_interrupt_55 : decode cX3_interrupt 55 = .ok (.ifCond .lt 22, 3) := dk_155 0 22 (dk_at dksX3_interrupt_2 9 rfl rfl)
theorem dX3_interrupt_58 : decode cX3_interrupt 58 = .ok (.aload_n 0, 1) := dk_42 (dk_at dksX3_interrupt_2 12 rfl rfl)
theorem dX3_interrupt_59 : decode cX3_interrupt 59 = .ok (.iload_n 1, 1) := dk_27 (dk_at dksX3_interrupt_2 13 rfl rfl)
theorem dX3_interrupt_60 : decode cX3_interrupt 60 = .ok (.iconst 3, 1) := dk_6 (dk_at dksX3_interrupt_2 14 rfl rfl)
theorem dX3_interrupt_61 : decode cX3_interrupt 61 = .ok (.invokevirtual 47, 3) := dk_182 0 47 (dk_at dksX3_interrupt_2 15 rfl rfl)
theorem dX3_interrupt_64 : decode cX3_interrupt 64 = .ok (.aload_n 0, 1) := dk_42 (dk_at dksX3_interrupt_2 18 rfl rfl)
theorem dX3_interrupt_65 : decode cX3_interrupt 65 = .ok (.iload_n 2, 1) := dk_28 (dk_at dksX3_interrupt_2 19 rfl rfl)
theorem dX3_interrupt_66 : decode cX3_interrupt 66 = .ok (.iconst 3, 1) := dk_6 (dk_at dksX3_interrupt_2 20 rfl rfl)
theorem dX3_interrupt_67 : decode cX3_interrupt 67 = .ok (.invokevirtual 47, 3) := dk_182 0 47 (dk_at dksX3_interrupt_2 21 rfl rfl)
theorem dX3_interrupt_70 : decode cX3_interrupt 70 = .ok (.if_icmp .eq 7, 3) := dk_159 0 7 (dk_at dksX3_interrupt_3 0 rfl rfl)
theorem dX3_interrupt_73 : decode cX3_interrupt 73 = .ok (.iconst 1, 1) := dk_4 (dk_at dksX3_interrupt_3 3 rfl rfl)
theorem dX3_interrupt_74 : decode cX3_interrupt 74 = .ok (.goto 4, 3) := dk_167 0 4 (dk_at dksX3_interrupt_3 4 rfl rfl)
theorem dX3_interrupt_77 : decode cX3_interrupt 77 = .ok (.iconst 0, 1) := dk_3 (dk_at dksX3_interrupt_3 7 rfl rfl)
theorem dX3_interrupt_78 : decode cX3_interrupt 78 = .ok (.ireturn, 1) := dk_172 (dk_at dksX3_interrupt_3 8 rfl rfl)
abbrev cX3_overlap : ByteArray := prog_12_method_30_code
def yX3_overlap : MethodName := ⟨RX3, "overlap", "(II)Z"⟩
def dkwX3_overlap_1 : List UInt8 := [182, 0, 47, 42, 27, 4, 182, 0, 47, 162, 0, 7, 4, 167, 0, 4, 3, 172]
abbrev dktX3_overlap_1 : List UInt8 := dkwX3_overlap_1 ++ []
def dkwX3_overlap_0 : List UInt8 := [27, 28, 159, 0, 37, 42, 27, 3, 182, 0, 47, 42, 28, 4, 182, 0, 47, 162, 0, 22, 42, 28, 3]
abbrev dktX3_overlap_0 : List UInt8 := dkwX3_overlap_0 ++ dktX3_overlap_1
theorem dksX3_overlap_0 : cX3_overlap.data.toList.drop 0 = dktX3_overlap_0 := by decide +kernel
theorem dksX3_overlap_1 : cX3_overlap.data.toList.drop 23 = dktX3_overlap_1 := dk_seg dksX3_overlap_0 23 rfl rfl
theorem dX3_overlap_0 : decode cX3_overlap 0 = .ok (.iload_n 1, 1) := dk_27 (dk_at dksX3_overlap_0 0 rfl rfl)
theorem dX3_overlap_1 : decode cX3_overlap 1 = .ok (.iload_n 2, 1) := dk_28 (dk_at dksX3_overlap_0 1 rfl rfl)
theorem dX3_overlap_2 : decode cX3_overlap 2 = .ok (.if_icmp .eq 37, 3) := dk_159 0 37 (dk_at dksX3_overlap_0 2 rfl rfl)
theorem dX3_overlap_5 : decode cX3_overlap 5 = .ok (.aload_n 0, 1) := dk_42 (dk_at dksX3_overlap_0 5 rfl rfl)
theorem dX3_overlap_6 : decode cX3_overlap 6 = .ok (.iload_n 1, 1) := dk_27 (dk_at dksX3_overlap_0 6 rfl rfl)
theorem dX3_overlap_7 : decode cX3_overlap 7 = .ok (.iconst 0, 1) := dk_3 (dk_at dksX3_overlap_0 7 rfl rfl)
theorem dX3_overlap_8 : decode cX3_overlap 8 = .ok (.invokevirtual 47, 3) := dk_182 0 47 (dk_at dksX3_overlap_0 8 rfl rfl)
theorem dX3_overlap_11 : decode cX3_overlap 11 = .ok (.aload_n 0, 1) := dk_42 (dk_at dksX3_overlap_0 11 rfl rfl)
theorem dX3_overlap_12 : decode cX3_overlap 12 = .ok (.iload_n 2, 1) := dk_28 (dk_at dksX3_overlap_0 12 rfl rfl)
theorem dX3_overlap_13 : decode cX3_overlap 13 = .ok (.iconst 1, 1) := dk_4 (dk_at dksX3_overlap_0 13 rfl rfl)
theorem dX3_overlap_14 : decode cX3_overlap 14 = .ok (.invokevirtual 47, 3) := dk_182 0 47 (dk_at dksX3_overlap_0 14 rfl rfl)
theorem dX3_overlap_17 : decode cX3_overlap 17 = .ok (.if_icmp .ge 22, 3) := dk_162 0 22 (dk_at dksX3_overlap_0 17 rfl rfl)
theorem dX3_overlap_20 : decode cX3_overlap 20 = .ok (.aload_n 0, 1) := dk_42 (dk_at dksX3_overlap_0 20 rfl rfl)
theorem dX3_overlap_21 : decode cX3_overlap 21 = .ok (.iload_n 2, 1) := dk_28 (dk_at dksX3_overlap_0 21 rfl rfl)
theorem dX3_overlap_22 : decode cX3_overlap 22 = .ok (.iconst 0, 1) := dk_3 (dk_at dksX3_overlap_0 22 rfl rfl)
theorem dX3_overlap_23 : decode cX3_overlap 23 = .ok (.invokevirtual 47, 3) := dk_182 0 47 (dk_at dksX3_overlap_1 0 rfl rfl)
theorem dX3_overlap_26 : decode cX3_overlap 26 = .ok (.aload_n 0, 1) := dk_42 (dk_at dksX3_overlap_1 3 rfl rfl)
theorem dX3_overlap_27 : decode cX3_overlap 27 = .ok (.iload_n 1, 1) := dk_27 (dk_at dksX3_overlap_1 4 rfl rfl)
theorem dX3_overlap_28 : decode cX3_overlap 28 = .ok (.iconst 1, 1) := dk_4 (dk_at dksX3_overlap_1 5 rfl rfl)
theorem dX3_overlap_29 : decode cX3_overlap 29 = .ok (.invokevirtual 47, 3) := dk_182 0 47 (dk_at dksX3_overlap_1 6 rfl rfl)
theorem dX3_overlap_32 : decode cX3_overlap 32 = .ok (.if_icmp .ge 7, 3) := dk_162 0 7 (dk_at dksX3_overlap_1 9 rfl rfl)
theorem dX3_overlap_35 : decode cX3_overlap 35 = .ok (.iconst 1, 1) := dk_4 (dk_at dksX3_overlap_1 12 rfl rfl)
theorem dX3_overlap_36 : decode cX3_overlap 36 = .ok (.goto 4, 3) := dk_167 0 4 (dk_at dksX3_overlap_1 13 rfl rfl)
theorem dX3_overlap_39 : decode cX3_overlap 39 = .ok (.iconst 0, 1) := dk_3 (dk_at dksX3_overlap_1 16 rfl rfl)
theorem dX3_overlap_40 : decode cX3_overlap 40 = .ok (.ireturn, 1) := dk_172 (dk_at dksX3_overlap_1 17 rfl rfl)
abbrev cX3_alone : ByteArray := prog_12_method_35_code
def yX3_alone : MethodName := ⟨RX3, "alone", "(I)I"⟩
def dkwX3_alone_1 : List UInt8 := [182, 0, 107, 4, 27, 120, 160, 0, 7, 4, 167, 0, 4, 3, 96, 61, 132, 3, 1, 167, 255, 224, 28, 172]
abbrev dktX3_alone_1 : List UInt8 := dkwX3_alone_1 ++ []
def dkwX3_alone_0 : List UInt8 := [3, 61, 42, 27, 3, 182, 0, 47, 62, 29, 42, 27, 4, 182, 0, 47, 162, 0, 28, 28, 42, 29]
abbrev dktX3_alone_0 : List UInt8 := dkwX3_alone_0 ++ dktX3_alone_1
theorem dksX3_alone_0 : cX3_alone.data.toList.drop 0 = dktX3_alone_0 := by decide +kernel
theorem dksX3_alone_1 : cX3_alone.data.toList.drop 22 = dktX3_alone_1 := dk_seg dksX3_alone_0 22 rfl rfl
theorem dX3_alone_0 : decode cX3_alone 0 = .ok (.iconst 0, 1) := dk_3 (dk_at dksX3_alone_0 0 rfl rfl)
theorem dX3_alone_1 : decode cX3_alone 1 = .ok (.istore_n 2, 1) := dk_61 (dk_at dksX3_alone_0 1 rfl rfl)
theorem dX3_alone_2 : decode cX3_alone 2 = .ok (.aload_n 0, 1) := dk_42 (dk_at dksX3_alone_0 2 rfl rfl)
theorem dX3_alone_3 : decode cX3_alone 3 = .ok (.iload_n 1, 1) := dk_27 (dk_at dksX3_alone_0 3 rfl rfl)
theorem dX3_alone_4 : decode cX3_alone 4 = .ok (.iconst 0, 1) := dk_3 (dk_at dksX3_alone_0 4 rfl rfl)
theorem dX3_alone_5 : decode cX3_alone 5 = .ok (.invokevirtual 47, 3) := dk_182 0 47 (dk_at dksX3_alone_0 5 rfl rfl)
theorem dX3_alone_8 : decode cX3_alone 8 = .ok (.istore_n 3, 1) := dk_62 (dk_at dksX3_alone_0 8 rfl rfl)
theorem dX3_alone_9 : decode cX3_alone 9 = .ok (.iload_n 3, 1) := dk_29 (dk_at dksX3_alone_0 9 rfl rfl)
theorem dX3_alone_10 : decode cX3_alone 10 = .ok (.aload_n 0, 1) := dk_42 (dk_at dksX3_alone_0 10 rfl rfl)
theorem dX3_alone_11 : decode cX3_alone 11 = .ok (.iload_n 1, 1) := dk_27 (dk_at dksX3_alone_0 11 rfl rfl)
theorem dX3_alone_12 : decode cX3_alone 12 = .ok (.iconst 1, 1) := dk_4 (dk_at dksX3_alone_0 12 rfl rfl)
theorem dX3_alone_13 : decode cX3_alone 13 = .ok (.invokevirtual 47, 3) := dk_182 0 47 (dk_at dksX3_alone_0 13 rfl rfl)
theorem dX3_alone_16 : decode cX3_alone 16 = .ok (.if_icmp .ge 28, 3) := dk_162 0 28 (dk_at dksX3_alone_0 16 rfl rfl)
theorem dX3_alone_19 : decode cX3_alone 19 = .ok (.iload_n 2, 1) := dk_28 (dk_at dksX3_alone_0 19 rfl rfl)
theorem dX3_alone_20 : decode cX3_alone 20 = .ok (.aload_n 0, 1) := dk_42 (dk_at dksX3_alone_0 20 rfl rfl)
theorem dX3_alone_21 : decode cX3_alone 21 = .ok (.iload_n 3, 1) := dk_29 (dk_at dksX3_alone_0 21 rfl rfl)
theorem dX3_alone_22 : decode cX3_alone 22 = .ok (.invokevirtual 107, 3) := dk_182 0 107 (dk_at dksX3_alone_1 0 rfl rfl)
theorem dX3_alone_25 : decode cX3_alone 25 = .ok (.iconst 1, 1) := dk_4 (dk_at dksX3_alone_1 3 rfl rfl)
theorem dX3_alone_26 : decode cX3_alone 26 = .ok (.iload_n 1, 1) := dk_27 (dk_at dksX3_alone_1 4 rfl rfl)
theorem dX3_alone_27 : decode cX3_alone 27 = .ok (.ishl, 1) := dk_120 (dk_at dksX3_alone_1 5 rfl rfl)
theorem dX3_alone_28 : decode cX3_alone 28 = .ok (.if_icmp .ne 7, 3) := dk_160 0 7 (dk_at dksX3_alone_1 6 rfl rfl)
theorem dX3_alone_31 : decode cX3_alone 31 = .ok (.iconst 1, 1) := dk_4 (dk_at dksX3_alone_1 9 rfl rfl)
theorem dX3_alone_32 : decode cX3_alone 32 = .ok (.goto 4, 3) := dk_167 0 4 (dk_at dksX3_alone_1 10 rfl rfl)
theorem dX3_alone_35 : decode cX3_alone 35 = .ok (.iconst 0, 1) := dk_3 (dk_at dksX3_alone_1 13 rfl rfl)
theorem dX3_alone_36 : decode cX3_alone 36 = .ok (.iadd, 1) := dk_96 (dk_at dksX3_alone_1 14 rfl rfl)
theorem dX3_alone_37 : decode cX3_alone 37 = .ok (.istore_n 2, 1) := dk_61 (dk_at dksX3_alone_1 15 rfl rfl)
theorem dX3_alone_38 : decode cX3_alone 38 = .ok (.iinc 3 1, 3) := dk_132 3 1 (dk_at dksX3_alone_1 16 rfl rfl)
theorem dX3_alone_41 : decode cX3_alone 41 = .ok (.goto (-32), 3) := dk_167 255 224 (dk_at dksX3_alone_1 19 rfl rfl)
theorem dX3_alone_44 : decode cX3_alone 44 = .ok (.iload_n 2, 1) := dk_28 (dk_at dksX3_alone_1 22 rfl rfl)
theorem dX3_alone_45 : decode cX3_alone 45 = .ok (.ireturn, 1) := dk_172 (dk_at dksX3_alone_1 23 rfl rfl)
abbrev cX3_going : ByteArray := prog_12_method_34_code
def yX3_going : MethodName := ⟨RX3, "going", "(I)I"⟩
def dkwX3_going_1 : List UInt8 := [153, 0, 9, 4, 29, 120, 167, 0, 4, 3, 128, 61, 132, 3, 1, 167, 255, 222, 28, 172]
abbrev dktX3_going_1 : List UInt8 := dkwX3_going_1 ++ []
def dkwX3_going_0 : List UInt8 := [3, 61, 3, 62, 29, 42, 180, 0, 7, 17, 1, 26, 46, 162, 0, 28, 28, 42, 29, 27, 182, 0, 104]
abbrev dktX3_going_0 : List UInt8 := dkwX3_going_0 ++ dktX3_going_1
theorem dksX3_going_0 : cX3_going.data.toList.drop 0 = dktX3_going_0 := by decide +kernel
theorem dksX3_going_1 : cX3_going.data.toList.drop 23 = dktX3_going_1 := dk_seg dksX3_going_0 23 rfl rfl
theorem dX3_going_0 : decode cX3_going 0 = .ok (.iconst 0, 1) := dk_3 (dk_at dksX3_going_0 0 rfl rfl)
theorem dX3_going_1 : decode cX3_going 1 = .ok (.istore_n 2, 1) := dk_61 (dk_at dksX3_going_0 1 rfl rfl)
theorem dX3_going_2 : decode cX3_going 2 = .ok (.iconst 0, 1) := dk_3 (dk_at dksX3_going_0 2 rfl rfl)
theorem dX3_going_3 : decode cX3_going 3 = .ok (.istore_n 3, 1) := dk_62 (dk_at dksX3_going_0 3 rfl rfl)
theorem dX3_going_4 : decode cX3_going 4 = .ok (.iload_n 3, 1) := dk_29 (dk_at dksX3_going_0 4 rfl rfl)
theorem dX3_going_5 : decode cX3_going 5 = .ok (.aload_n 0, 1) := dk_42 (dk_at dksX3_going_0 5 rfl rfl)
theorem dX3_going_6 : decode cX3_going 6 = .ok (.getfield 7, 3) := dk_180 0 7 (dk_at dksX3_going_0 6 rfl rfl)
theorem dX3_going_9 : decode cX3_going 9 = .ok (.sipush 282, 3) := dk_17 1 26 (dk_at dksX3_going_0 9 rfl rfl)
theorem dX3_going_12 : decode cX3_going 12 = .ok (.iaload, 1) := dk_46 (dk_at dksX3_going_0 12 rfl rfl)
theorem dX3_going_13 : decode cX3_going 13 = .ok (.if_icmp .ge 28, 3) := dk_162 0 28 (dk_at dksX3_going_0 13 rfl rfl)
theorem dX3_going_16 : decode cX3_going 16 = .ok (.iload_n 2, 1) := dk_28 (dk_at dksX3_going_0 16 rfl rfl)
theorem dX3_going_17 : decode cX3_going 17 = .ok (.aload_n 0, 1) := dk_42 (dk_at dksX3_going_0 17 rfl rfl)
theorem dX3_going_18 : decode cX3_going 18 = .ok (.iload_n 3, 1) := dk_29 (dk_at dksX3_going_0 18 rfl rfl)
theorem dX3_going_19 : decode cX3_going 19 = .ok (.iload_n 1, 1) := dk_27 (dk_at dksX3_going_0 19 rfl rfl)
theorem dX3_going_20 : decode cX3_going 20 = .ok (.invokevirtual 104, 3) := dk_182 0 104 (dk_at dksX3_going_0 20 rfl rfl)
theorem dX3_going_23 : decode cX3_going 23 = .ok (.ifCond .eq 9, 3) := dk_153 0 9 (dk_at dksX3_going_1 0 rfl rfl)
theorem dX3_going_26 : decode cX3_going 26 = .ok (.iconst 1, 1) := dk_4 (dk_at dksX3_going_1 3 rfl rfl)
theorem dX3_going_27 : decode cX3_going 27 = .ok (.iload_n 3, 1) := dk_29 (dk_at dksX3_going_1 4 rfl rfl)
theorem dX3_going_28 : decode cX3_going 28 = .ok (.ishl, 1) := dk_120 (dk_at dksX3_going_1 5 rfl rfl)
theorem dX3_going_29 : decode cX3_going 29 = .ok (.goto 4, 3) := dk_167 0 4 (dk_at dksX3_going_1 6 rfl rfl)
theorem dX3_going_32 : decode cX3_going 32 = .ok (.iconst 0, 1) := dk_3 (dk_at dksX3_going_1 9 rfl rfl)
theorem dX3_going_33 : decode cX3_going 33 = .ok (.ior, 1) := dk_128 (dk_at dksX3_going_1 10 rfl rfl)
theorem dX3_going_34 : decode cX3_going 34 = .ok (.istore_n 2, 1) := dk_61 (dk_at dksX3_going_1 11 rfl rfl)
theorem dX3_going_35 : decode cX3_going 35 = .ok (.iinc 3 1, 3) := dk_132 3 1 (dk_at dksX3_going_1 12 rfl rfl)
theorem dX3_going_38 : decode cX3_going 38 = .ok (.goto (-34), 3) := dk_167 255 222 (dk_at dksX3_going_1 15 rfl rfl)
theorem dX3_going_41 : decode cX3_going 41 = .ok (.iload_n 2, 1) := dk_28 (dk_at dksX3_going_1 18 rfl rfl)
theorem dX3_going_42 : decode cX3_going 42 = .ok (.ireturn, 1) := dk_172 (dk_at dksX3_going_1 19 rfl rfl)
abbrev cX3_goesOn : ByteArray := prog_12_method_33_code
def yX3_goesOn : MethodName := ⟨RX3, "goesOn", "(II)Z"⟩
def dkwX3_goesOn_1 : List UInt8 := [3, 172]
abbrev dktX3_goesOn_1 : List UInt8 := dkwX3_goesOn_1 ++ []
def dkwX3_goesOn_0 : List UInt8 := [42, 27, 3, 182, 0, 47, 28, 163, 0, 17, 28, 42, 27, 4, 182, 0, 47, 162, 0, 7, 4, 167, 0, 4]
abbrev dktX3_goesOn_0 : List UInt8 := dkwX3_goesOn_0 ++ dktX3_goesOn_1
theorem dksX3_goesOn_0 : cX3_goesOn.data.toList.drop 0 = dktX3_goesOn_0 := by decide +kernel
theorem dksX3_goesOn_1 : cX3_goesOn.data.toList.drop 24 = dktX3_goesOn_1 := dk_seg dksX3_goesOn_0 24 rfl rfl
theorem dX3_goesOn_0 : decode cX3_goesOn 0 = .ok (.aload_n 0, 1) := dk_42 (dk_at dksX3_goesOn_0 0 rfl rfl)
theorem dX3_goesOn_1 : decode cX3_goesOn 1 = .ok (.iload_n 1, 1) := dk_27 (dk_at dksX3_goesOn_0 1 rfl rfl)
theorem dX3_goesOn_2 : decode cX3_goesOn 2 = .ok (.iconst 0, 1) := dk_3 (dk_at dksX3_goesOn_0 2 rfl rfl)
theorem dX3_goesOn_3 : decode cX3_goesOn 3 = .ok (.invokevirtual 47, 3) := dk_182 0 47 (dk_at dksX3_goesOn_0 3 rfl rfl)
theorem dX3_goesOn_6 : decode cX3_goesOn 6 = .ok (.iload_n 2, 1) := dk_28 (dk_at dksX3_goesOn_0 6 rfl rfl)
theorem dX3_goesOn_7 : decode cX3_goesOn 7 = .ok (.if_icmp .gt 17, 3) := dk_163 0 17 (dk_at dksX3_goesOn_0 7 rfl rfl)
theorem dX3_goesOn_10 : decode cX3_goesOn 10 = .ok (.iload_n 2, 1) := dk_28 (dk_at dksX3_goesOn_0 10 rfl rfl)
theorem dX3_goesOn_11 : decode cX3_goesOn 11 = .ok (.aload_n 0, 1) := dk_42 (dk_at dksX3_goesOn_0 11 rfl rfl)
theorem dX3_goesOn_12 : decode cX3_goesOn 12 = .ok (.iload_n 1, 1) := dk_27 (dk_at dksX3_goesOn_0 12 rfl rfl)
theorem dX3_goesOn_13 : decode cX3_goesOn 13 = .ok (.iconst 1, 1) := dk_4 (dk_at dksX3_goesOn_0 13 rfl rfl)
theorem dX3_goesOn_14 : decode cX3_goesOn 14 = .ok (.invokevirtual 47, 3) := dk_182 0 47 (dk_at dksX3_goesOn_0 14 rfl rfl)
theorem dX3_goesOn_17 : decode cX3_goesOn 17 = .ok (.if_icmp .ge 7, 3) := dk_162 0 7 (dk_at dksX3_goesOn_0 17 rfl rfl)
theorem dX3_goesOn_20 : decode cX3_goesOn 20 = .ok (.iconst 1, 1) := dk_4 (dk_at dksX3_goesOn_0 20 rfl rfl)
theorem dX3_goesOn_21 : decode cX3_goesOn 21 = .ok (.goto 4, 3) := dk_167 0 4 (dk_at dksX3_goesOn_0 21 rfl rfl)
theorem dX3_goesOn_24 : decode cX3_goesOn 24 = .ok (.iconst 0, 1) := dk_3 (dk_at dksX3_goesOn_1 0 rfl rfl)
theorem dX3_goesOn_25 : decode cX3_goesOn 25 = .ok (.ireturn, 1) := dk_172 (dk_at dksX3_goesOn_1 1 rfl rfl)
abbrev cX3_termAt : ByteArray := prog_12_method_37_code
def yX3_termAt : MethodName := ⟨RX3, "termAt", "(III)I"⟩
def dkwX3_termAt_2 : List UInt8 := [154, 0, 8, 21, 4, 167, 0, 9, 42, 21, 4, 182, 0, 73, 172]
abbrev dktX3_termAt_2 : List UInt8 := dkwX3_termAt_2 ++ []
def dkwX3_termAt_1 : List UInt8 := [28, 42, 27, 7, 182, 0, 47, 161, 0, 6, 18, 110, 172, 42, 27, 8, 28, 96, 182, 0, 47, 54, 4, 29]
abbrev dktX3_termAt_1 : List UInt8 := dkwX3_termAt_1 ++ dktX3_termAt_2
def dkwX3_termAt_0 : List UInt8 := [42, 27, 182, 0, 66, 153, 0, 16, 28, 155, 0, 12, 29, 3, 4, 184, 0, 39, 154, 0, 6, 18, 50, 172]
abbrev dktX3_termAt_0 : List UInt8 := dkwX3_termAt_0 ++ dktX3_termAt_1
theorem dksX3_termAt_0 : cX3_termAt.data.toList.drop 0 = dktX3_termAt_0 := by decide +kernel
theorem dksX3_termAt_1 : cX3_termAt.data.toList.drop 24 = dktX3_termAt_1 := dk_seg dksX3_termAt_0 24 rfl rfl
theorem dksX3_termAt_2 : cX3_termAt.data.toList.drop 48 = dktX3_termAt_2 := dk_seg dksX3_termAt_1 24 rfl rfl
theorem dX3_termAt_0 : decode cX3_termAt 0 = .ok (.aload_n 0, 1) := dk_42 (dk_at dksX3_termAt_0 0 rfl rfl)
theorem dX3_termAt_1 : decode cX3_termAt 1 = .ok (.iload_n 1, 1) := dk_27 (dk_at dksX3_termAt_0 1 rfl rfl)
theorem dX3_termAt_2 : decode cX3_termAt 2 = .ok (.invokevirtual 66, 3) := dk_182 0 66 (dk_at dksX3_termAt_0 2 rfl rfl)
theorem dX3_termAt_5 : decode cX3_termAt 5 = .ok (.ifCond .eq 16, 3) := dk_153 0 16 (dk_at dksX3_termAt_0 5 rfl rfl)
theorem dX3_termAt_8 : decode cX3_termAt 8 = .ok (.iload_n 2, 1) := dk_28 (dk_at dksX3_termAt_0 8 rfl rfl)
theorem dX3_termAt_9 : decode cX3_termAt 9 = .ok (.ifCond .lt 12, 3) := dk_155 0 12 (dk_at dksX3_termAt_0 9 rfl rfl)
theorem dX3_termAt_12 : decode cX3_termAt 12 = .ok (.iload_n 3, 1) := dk_29 (dk_at dksX3_termAt_0 12 rfl rfl)
theorem dX3_termAt_13 : decode cX3_termAt 13 = .ok (.iconst 0, 1) := dk_3 (dk_at dksX3_termAt_0 13 rfl rfl)
theorem dX3_termAt_14 : decode cX3_termAt 14 = .ok (.iconst 1, 1) := dk_4 (dk_at dksX3_termAt_0 14 rfl rfl)
theorem dX3_termAt_15 : decode cX3_termAt 15 = .ok (.invokestatic 39, 3) := dk_184 0 39 (dk_at dksX3_termAt_0 15 rfl rfl)
theorem dX3_termAt_18 : decode cX3_termAt 18 = .ok (.ifCond .ne 6, 3) := dk_154 0 6 (dk_at dksX3_termAt_0 18 rfl rfl)
theorem dX3_termAt_21 : decode cX3_termAt 21 = .ok (.ldc 50, 2) := dk_18 50 (dk_at dksX3_termAt_0 21 rfl rfl)
theorem dX3_termAt_23 : decode cX3_termAt 23 = .ok (.ireturn, 1) := dk_172 (dk_at dksX3_termAt_0 23 rfl rfl)
theorem dX3_termAt_24 : decode cX3_termAt 24 = .ok (.iload_n 2, 1) := dk_28 (dk_at dksX3_termAt_1 0 rfl rfl)
theorem dX3_termAt_25 : decode cX3_termAt 25 = .ok (.aload_n 0, 1) := dk_42 (dk_at dksX3_termAt_1 1 rfl rfl)
theorem dX3_termAt_26 : decode cX3_termAt 26 = .ok (.iload_n 1, 1) := dk_27 (dk_at dksX3_termAt_1 2 rfl rfl)
theorem dX3_termAt_27 : decode cX3_termAt 27 = .ok (.iconst 4, 1) := dk_7 (dk_at dksX3_termAt_1 3 rfl rfl)
theorem dX3_termAt_28 : decode cX3_termAt 28 = .ok (.invokevirtual 47, 3) := dk_182 0 47 (dk_at dksX3_termAt_1 4 rfl rfl)
theorem dX3_termAt_31 : decode cX3_termAt 31 = .ok (.if_icmp .lt 6, 3) := dk_161 0 6 (dk_at dksX3_termAt_1 7 rfl rfl)
theorem dX3_termAt_34 : decode cX3_termAt 34 = .ok (.ldc 110, 2) := dk_18 110 (dk_at dksX3_termAt_1 10 rfl rfl)
theorem dX3_termAt_36 : decode cX3_termAt 36 = .ok (.ireturn, 1) := dk_172 (dk_at dksX3_termAt_1 12 rfl rfl)
theorem dX3_termAt_37 : decode cX3_termAt 37 = .ok (.aload_n 0, 1) := dk_42 (dk_at dksX3_termAt_1 13 rfl rfl)
theorem dX3_termAt_38 : decode cX3_termAt 38 = .ok (.iload_n 1, 1) := dk_27 (dk_at dksX3_termAt_1 14 rfl rfl)
theorem dX3_termAt_39 : decode cX3_termAt 39 = .ok (.iconst 5, 1) := dk_8 (dk_at dksX3_termAt_1 15 rfl rfl)
theorem dX3_termAt_40 : decode cX3_termAt 40 = .ok (.iload_n 2, 1) := dk_28 (dk_at dksX3_termAt_1 16 rfl rfl)
theorem dX3_termAt_41 : decode cX3_termAt 41 = .ok (.iadd, 1) := dk_96 (dk_at dksX3_termAt_1 17 rfl rfl)
theorem dX3_termAt_42 : decode cX3_termAt 42 = .ok (.invokevirtual 47, 3) := dk_182 0 47 (dk_at dksX3_termAt_1 18 rfl rfl)
theorem dX3_termAt_45 : decode cX3_termAt 45 = .ok (.istore 4, 2) := dk_54 4 (dk_at dksX3_termAt_1 21 rfl rfl)
theorem dX3_termAt_47 : decode cX3_termAt 47 = .ok (.iload_n 3, 1) := dk_29 (dk_at dksX3_termAt_1 23 rfl rfl)
theorem dX3_termAt_48 : decode cX3_termAt 48 = .ok (.ifCond .ne 8, 3) := dk_154 0 8 (dk_at dksX3_termAt_2 0 rfl rfl)
theorem dX3_termAt_51 : decode cX3_termAt 51 = .ok (.iload 4, 2) := dk_21 4 (dk_at dksX3_termAt_2 3 rfl rfl)
theorem dX3_termAt_53 : decode cX3_termAt 53 = .ok (.goto 9, 3) := dk_167 0 9 (dk_at dksX3_termAt_2 5 rfl rfl)
theorem dX3_termAt_56 : decode cX3_termAt 56 = .ok (.aload_n 0, 1) := dk_42 (dk_at dksX3_termAt_2 8 rfl rfl)
theorem dX3_termAt_57 : decode cX3_termAt 57 = .ok (.iload 4, 2) := dk_21 4 (dk_at dksX3_termAt_2 9 rfl rfl)
theorem dX3_termAt_59 : decode cX3_termAt 59 = .ok (.invokevirtual 73, 3) := dk_182 0 73 (dk_at dksX3_termAt_2 11 rfl rfl)
theorem dX3_termAt_62 : decode cX3_termAt 62 = .ok (.ireturn, 1) := dk_172 (dk_at dksX3_termAt_2 14 rfl rfl)
abbrev cX3_termOf : ByteArray := prog_12_method_42_code
def yX3_termOf : MethodName := ⟨RX3, "termOf", "(II)I"⟩
def dkwX3_termOf_4 : List UInt8 := [172, 42, 27, 28, 182, 0, 127, 172]
abbrev dktX3_termOf_4 : List UInt8 := dkwX3_termOf_4 ++ []
def dkwX3_termOf_3 : List UInt8 := [17, 1, 4, 27, 96, 46, 172, 42, 27, 182, 0, 73, 172, 42, 27, 182, 0, 121, 172, 42, 27, 182, 0, 124]
abbrev dktX3_termOf_3 : List UInt8 := dkwX3_termOf_3 ++ dktX3_termOf_4
def dkwX3_termOf_2 : List UInt8 := [42, 180, 0, 7, 17, 1, 4, 27, 96, 46, 156, 0, 8, 18, 110, 167, 0, 13, 42, 180, 0, 7]
abbrev dktX3_termOf_2 : List UInt8 := dkwX3_termOf_2 ++ dktX3_termOf_3
def dkwX3_termOf_1 : List UInt8 := [170, 0, 0, 0, 0, 0, 90, 0, 0, 0, 0, 0, 0, 0, 6, 0, 0, 0, 43, 0, 0, 0, 72, 0, 0, 0, 78, 0, 0, 0, 90, 0, 0, 0, 90, 0, 0, 0, 90, 0, 0, 0, 84]
abbrev dktX3_termOf_1 : List UInt8 := dkwX3_termOf_1 ++ dktX3_termOf_2
def dkwX3_termOf_0 : List UInt8 := [27, 184, 0, 70, 153, 0, 13, 28, 3, 16, 6, 184, 0, 39, 154, 0, 6, 18, 50, 172, 28]
abbrev dktX3_termOf_0 : List UInt8 := dkwX3_termOf_0 ++ dktX3_termOf_1
theorem dksX3_termOf_0 : cX3_termOf.data.toList.drop 0 = dktX3_termOf_0 := by decide +kernel
theorem dksX3_termOf_1 : cX3_termOf.data.toList.drop 21 = dktX3_termOf_1 := dk_seg dksX3_termOf_0 21 rfl rfl
theorem dksX3_termOf_2 : cX3_termOf.data.toList.drop 64 = dktX3_termOf_2 := dk_seg dksX3_termOf_1 43 rfl rfl
theorem dksX3_termOf_3 : cX3_termOf.data.toList.drop 86 = dktX3_termOf_3 := dk_seg dksX3_termOf_2 22 rfl rfl
theorem dksX3_termOf_4 : cX3_termOf.data.toList.drop 110 = dktX3_termOf_4 := dk_seg dksX3_termOf_3 24 rfl rfl
theorem dX3_termOf_0 : decode cX3_termOf 0 = .ok (.iload_n 1, 1) := dk_27 (dk_at dksX3_termOf_0 0 rfl rfl)
theorem dX3_termOf_1 : decode cX3_termOf 1 = .ok (.invokestatic 70, 3) := dk_184 0 70 (dk_at dksX3_termOf_0 1 rfl rfl)
theorem dX3_termOf_4 : decode cX3_termOf 4 = .ok (.ifCond .eq 13, 3) := dk_153 0 13 (dk_at dksX3_termOf_0 4 rfl rfl)
theorem dX3_termOf_7 : decode cX3_termOf 7 = .ok (.iload_n 2, 1) := dk_28 (dk_at dksX3_termOf_0 7 rfl rfl)
theorem dX3_termOf_8 : decode cX3_termOf 8 = .ok (.iconst 0, 1) := dk_3 (dk_at dksX3_termOf_0 8 rfl rfl)
theorem dX3_termOf_9 : decode cX3_termOf 9 = .ok (.bipush 6, 2) := dk_16 6 (dk_at dksX3_termOf_0 9 rfl rfl)
theorem dX3_termOf_11 : decode cX3_termOf 11 = .ok (.invokestatic 39, 3) := dk_184 0 39 (dk_at dksX3_termOf_0 11 rfl rfl)
theorem dX3_termOf_14 : decode cX3_termOf 14 = .ok (.ifCond .ne 6, 3) := dk_154 0 6 (dk_at dksX3_termOf_0 14 rfl rfl)
theorem dX3_termOf_17 : decode cX3_termOf 17 = .ok (.ldc 50, 2) := dk_18 50 (dk_at dksX3_termOf_0 17 rfl rfl)
theorem dX3_termOf_19 : decode cX3_termOf 19 = .ok (.ireturn, 1) := dk_172 (dk_at dksX3_termOf_0 19 rfl rfl)
theorem dX3_termOf_20 : decode cX3_termOf 20 = .ok (.iload_n 2, 1) := dk_28 (dk_at dksX3_termOf_0 20 rfl rfl)
theorem dX3_termOf_21 : decode cX3_termOf 21 = .ok (.tableswitch 90 0 6 #[43, 72, 78, 90, 90, 90, 84], 43) := by decide +kernel
theorem dX3_termOf_64 : decode cX3_termOf 64 = .ok (.aload_n 0, 1) := dk_42 (dk_at dksX3_termOf_2 0 rfl rfl)
theorem dX3_termOf_65 : decode cX3_termOf 65 = .ok (.getfield 7, 3) := dk_180 0 7 (dk_at dksX3_termOf_2 1 rfl rfl)
theorem dX3_termOf_68 : decode cX3_termOf 68 = .ok (.sipush 260, 3) := dk_17 1 4 (dk_at dksX3_termOf_2 4 rfl rfl)
theorem dX3_termOf_71 : decode cX3_termOf 71 = .ok (.iload_n 1, 1) := dk_27 (dk_at dksX3_termOf_2 7 rfl rfl)
theorem dX3_termOf_72 : decode cX3_termOf 72 = .ok (.iadd, 1) := dk_96 (dk_at dksX3_termOf_2 8 rfl rfl)
theorem dX3_termOf_73 : decode cX3_termOf 73 = .ok (.iaload, 1) := dk_46 (dk_at dksX3_termOf_2 9 rfl rfl)
theorem dX3_termOf_74 : decode cX3_termOf 74 = .ok (.ifCond .ge 8, 3) := dk_156 0 8 (dk_at dksX3_termOf_2 10 rfl rfl)
theorem dX3_termOf_77 : decode cX3_termOf 77 = .ok (.ldc 110, 2) := dk_18 110 (dk_at dksX3_termOf_2 13 rfl rfl)
theorem dX3_termOf_79 : decode cX3_termOf 79 = .ok (.goto 13, 3) := dk_167 0 13 (dk_at dksX3_termOf_2 15 rfl rfl)
theorem dX3_termOf_82 : decode cX3_termOf 82 = .ok (.aload_n 0, 1) := dk_42 (dk_at dksX3_termOf_2 18 rfl rfl)
theorem dX3_termOf_83 : decode cX3_termOf 83 = .ok (.getfield 7, 3) := dk_180 0 7 (dk_at dksX3_termOf_2 19 rfl rfl)
theorem dX3_termOf_86 : decode cX3_termOf 86 = .ok (.sipush 260, 3) := dk_17 1 4 (dk_at dksX3_termOf_3 0 rfl rfl)
theorem dX3_termOf_89 : decode cX3_termOf 89 = .ok (.iload_n 1, 1) := dk_27 (dk_at dksX3_termOf_3 3 rfl rfl)
theorem dX3_termOf_90 : decode cX3_termOf 90 = .ok (.iadd, 1) := dk_96 (dk_at dksX3_termOf_3 4 rfl rfl)
theorem dX3_termOf_91 : decode cX3_termOf 91 = .ok (.iaload, 1) := dk_46 (dk_at dksX3_termOf_3 5 rfl rfl)
theorem dX3_termOf_92 : decode cX3_termOf 92 = .ok (.ireturn, 1) := dk_172 (dk_at dksX3_termOf_3 6 rfl rfl)
theorem dX3_termOf_93 : decode cX3_termOf 93 = .ok (.aload_n 0, 1) := dk_42 (dk_at dksX3_termOf_3 7 rfl rfl)
theorem dX3_termOf_94 : decode cX3_termOf 94 = .ok (.iload_n 1, 1) := dk_27 (dk_at dksX3_termOf_3 8 rfl rfl)
theorem dX3_termOf_95 : decode cX3_termOf 95 = .ok (.invokevirtual 73, 3) := dk_182 0 73 (dk_at dksX3_termOf_3 9 rfl rfl)
theorem dX3_termOf_98 : decode cX3_termOf 98 = .ok (.ireturn, 1) := dk_172 (dk_at dksX3_termOf_3 12 rfl rfl)
theorem dX3_termOf_99 : decode cX3_termOf 99 = .ok (.aload_n 0, 1) := dk_42 (dk_at dksX3_termOf_3 13 rfl rfl)
theorem dX3_termOf_100 : decode cX3_termOf 100 = .ok (.iload_n 1, 1) := dk_27 (dk_at dksX3_termOf_3 14 rfl rfl)
theorem dX3_termOf_101 : decode cX3_termOf 101 = .ok (.invokevirtual 121, 3) := dk_182 0 121 (dk_at dksX3_termOf_3 15 rfl rfl)
theorem dX3_termOf_104 : decode cX3_termOf 104 = .ok (.ireturn, 1) := dk_172 (dk_at dksX3_termOf_3 18 rfl rfl)
theorem dX3_termOf_105 : decode cX3_termOf 105 = .ok (.aload_n 0, 1) := dk_42 (dk_at dksX3_termOf_3 19 rfl rfl)
theorem dX3_termOf_106 : decode cX3_termOf 106 = .ok (.iload_n 1, 1) := dk_27 (dk_at dksX3_termOf_3 20 rfl rfl)
theorem dX3_termOf_107 : decode cX3_termOf 107 = .ok (.invokevirtual 124, 3) := dk_182 0 124 (dk_at dksX3_termOf_3 21 rfl rfl)
theorem dX3_termOf_110 : decode cX3_termOf 110 = .ok (.ireturn, 1) := dk_172 (dk_at dksX3_termOf_4 0 rfl rfl)
theorem dX3_termOf_111 : decode cX3_termOf 111 = .ok (.aload_n 0, 1) := dk_42 (dk_at dksX3_termOf_4 1 rfl rfl)
theorem dX3_termOf_112 : decode cX3_termOf 112 = .ok (.iload_n 1, 1) := dk_27 (dk_at dksX3_termOf_4 2 rfl rfl)
theorem dX3_termOf_113 : decode cX3_termOf 113 = .ok (.iload_n 2, 1) := dk_28 (dk_at dksX3_termOf_4 3 rfl rfl)
theorem dX3_termOf_114 : decode cX3_termOf 114 = .ok (.invokevirtual 127, 3) := dk_182 0 127 (dk_at dksX3_termOf_4 4 rfl rfl)
theorem dX3_termOf_117 : decode cX3_termOf 117 = .ok (.ireturn, 1) := dk_172 (dk_at dksX3_termOf_4 7 rfl rfl)
abbrev cX3_chain : ByteArray := prog_12_method_38_code
def yX3_chain : MethodName := ⟨RX3, "chain", "(I)I"⟩
def dkwX3_chain_1 : List UInt8 := [17, 1, 4, 29, 96, 46, 62, 167, 255, 229, 28, 172]
abbrev dktX3_chain_1 : List UInt8 := dkwX3_chain_1 ++ []
def dkwX3_chain_0 : List UInt8 := [3, 61, 27, 62, 42, 180, 0, 7, 17, 1, 4, 29, 96, 46, 155, 0, 20, 132, 2, 1, 42, 180, 0, 7]
abbrev dktX3_chain_0 : List UInt8 := dkwX3_chain_0 ++ dktX3_chain_1
theorem dksX3_chain_0 : cX3_chain.data.toList.drop 0 = dktX3_chain_0 := by decide +kernel
theorem dksX3_chain_1 : cX3_chain.data.toList.drop 24 = dktX3_chain_1 := dk_seg dksX3_chain_0 24 rfl rfl
theorem dX3_chain_0 : decode cX3_chain 0 = .ok (.iconst 0, 1) := dk_3 (dk_at dksX3_chain_0 0 rfl rfl)
theorem dX3_chain_1 : decode cX3_chain 1 = .ok (.istore_n 2, 1) := dk_61 (dk_at dksX3_chain_0 1 rfl rfl)
theorem dX3_chain_2 : decode cX3_chain 2 = .ok (.iload_n 1, 1) := dk_27 (dk_at dksX3_chain_0 2 rfl rfl)
theorem dX3_chain_3 : decode cX3_chain 3 = .ok (.istore_n 3, 1) := dk_62 (dk_at dksX3_chain_0 3 rfl rfl)
theorem dX3_chain_4 : decode cX3_chain 4 = .ok (.aload_n 0, 1) := dk_42 (dk_at dksX3_chain_0 4 rfl rfl)
theorem dX3_chain_5 : decode cX3_chain 5 = .ok (.getfield 7, 3) := dk_180 0 7 (dk_at dksX3_chain_0 5 rfl rfl)
theorem dX3_chain_8 : decode cX3_chain 8 = .ok (.sipush 260, 3) := dk_17 1 4 (dk_at dksX3_chain_0 8 rfl rfl)
theorem dX3_chain_11 : decode cX3_chain 11 = .ok (.iload_n 3, 1) := dk_29 (dk_at dksX3_chain_0 11 rfl rfl)
theorem dX3_chain_12 : decode cX3_chain 12 = .ok (.iadd, 1) := dk_96 (dk_at dksX3_chain_0 12 rfl rfl)
theorem dX3_chain_13 : decode cX3_chain 13 = .ok (.iaload, 1) := dk_46 (dk_at dksX3_chain_0 13 rfl rfl)
theorem dX3_chain_14 : decode cX3_chain 14 = .ok (.ifCond .lt 20, 3) := dk_155 0 20 (dk_at dksX3_chain_0 14 rfl rfl)
theorem dX3_chain_17 : decode cX3_chain 17 = .ok (.iinc 2 1, 3) := dk_132 2 1 (dk_at dksX3_chain_0 17 rfl rfl)
theorem dX3_chain_20 : decode cX3_chain 20 = .ok (.aload_n 0, 1) := dk_42 (dk_at dksX3_chain_0 20 rfl rfl)
theorem dX3_chain_21 : decode cX3_chain 21 = .ok (.getfield 7, 3) := dk_180 0 7 (dk_at dksX3_chain_0 21 rfl rfl)
theorem dX3_chain_24 : decode cX3_chain 24 = .ok (.sipush 260, 3) := dk_17 1 4 (dk_at dksX3_chain_1 0 rfl rfl)
theorem dX3_chain_27 : decode cX3_chain 27 = .ok (.iload_n 3, 1) := dk_29 (dk_at dksX3_chain_1 3 rfl rfl)
theorem dX3_chain_28 : decode cX3_chain 28 = .ok (.iadd, 1) := dk_96 (dk_at dksX3_chain_1 4 rfl rfl)
theorem dX3_chain_29 : decode cX3_chain 29 = .ok (.iaload, 1) := dk_46 (dk_at dksX3_chain_1 5 rfl rfl)
theorem dX3_chain_30 : decode cX3_chain 30 = .ok (.istore_n 3, 1) := dk_62 (dk_at dksX3_chain_1 6 rfl rfl)
theorem dX3_chain_31 : decode cX3_chain 31 = .ok (.goto (-27), 3) := dk_167 255 229 (dk_at dksX3_chain_1 7 rfl rfl)
theorem dX3_chain_34 : decode cX3_chain 34 = .ok (.iload_n 2, 1) := dk_28 (dk_at dksX3_chain_1 10 rfl rfl)
theorem dX3_chain_35 : decode cX3_chain 35 = .ok (.ireturn, 1) := dk_172 (dk_at dksX3_chain_1 11 rfl rfl)
abbrev cX3_shownAs : ByteArray := prog_12_method_41_code
def yX3_shownAs : MethodName := ⟨RX3, "shownAs", "(I)I"⟩
def dkwX3_shownAs_1 : List UInt8 := [167, 0, 4, 3, 128, 61, 132, 3, 1, 167, 255, 228, 28, 172]
abbrev dktX3_shownAs_1 : List UInt8 := dkwX3_shownAs_1 ++ []
def dkwX3_shownAs_0 : List UInt8 := [3, 61, 3, 62, 29, 16, 16, 162, 0, 28, 28, 42, 29, 182, 0, 73, 27, 160, 0, 9, 4, 29, 120]
abbrev dktX3_shownAs_0 : List UInt8 := dkwX3_shownAs_0 ++ dktX3_shownAs_1
theorem dksX3_shownAs_0 : cX3_shownAs.data.toList.drop 0 = dktX3_shownAs_0 := by decide +kernel
theorem dksX3_shownAs_1 : cX3_shownAs.data.toList.drop 23 = dktX3_shownAs_1 := dk_seg dksX3_shownAs_0 23 rfl rfl
theorem dX3_shownAs_0 : decode cX3_shownAs 0 = .ok (.iconst 0, 1) := dk_3 (dk_at dksX3_shownAs_0 0 rfl rfl)
theorem dX3_shownAs_1 : decode cX3_shownAs 1 = .ok (.istore_n 2, 1) := dk_61 (dk_at dksX3_shownAs_0 1 rfl rfl)
theorem dX3_shownAs_2 : decode cX3_shownAs 2 = .ok (.iconst 0, 1) := dk_3 (dk_at dksX3_shownAs_0 2 rfl rfl)
theorem dX3_shownAs_3 : decode cX3_shownAs 3 = .ok (.istore_n 3, 1) := dk_62 (dk_at dksX3_shownAs_0 3 rfl rfl)
theorem dX3_shownAs_4 : decode cX3_shownAs 4 = .ok (.iload_n 3, 1) := dk_29 (dk_at dksX3_shownAs_0 4 rfl rfl)
theorem dX3_shownAs_5 : decode cX3_shownAs 5 = .ok (.bipush 16, 2) := dk_16 16 (dk_at dksX3_shownAs_0 5 rfl rfl)
theorem dX3_shownAs_7 : decode cX3_shownAs 7 = .ok (.if_icmp .ge 28, 3) := dk_162 0 28 (dk_at dksX3_shownAs_0 7 rfl rfl)
theorem dX3_shownAs_10 : decode cX3_shownAs 10 = .ok (.iload_n 2, 1) := dk_28 (dk_at dksX3_shownAs_0 10 rfl rfl)
theorem dX3_shownAs_11 : decode cX3_shownAs 11 = .ok (.aload_n 0, 1) := dk_42 (dk_at dksX3_shownAs_0 11 rfl rfl)
theorem dX3_shownAs_12 : decode cX3_shownAs 12 = .ok (.iload_n 3, 1) := dk_29 (dk_at dksX3_shownAs_0 12 rfl rfl)
theorem dX3_shownAs_13 : decode cX3_shownAs 13 = .ok (.invokevirtual 73, 3) := dk_182 0 73 (dk_at dksX3_shownAs_0 13 rfl rfl)
theorem dX3_shownAs_16 : decode cX3_shownAs 16 = .ok (.iload_n 1, 1) := dk_27 (dk_at dksX3_shownAs_0 16 rfl rfl)
theorem dX3_shownAs_17 : decode cX3_shownAs 17 = .ok (.if_icmp .ne 9, 3) := dk_160 0 9 (dk_at dksX3_shownAs_0 17 rfl rfl)
theorem dX3_shownAs_20 : decode cX3_shownAs 20 = .ok (.iconst 1, 1) := dk_4 (dk_at dksX3_shownAs_0 20 rfl rfl)
theorem dX3_shownAs_21 : decode cX3_shownAs 21 = .ok (.iload_n 3, 1) := dk_29 (dk_at dksX3_shownAs_0 21 rfl rfl)
theorem dX3_shownAs_22 : decode cX3_shownAs 22 = .ok (.ishl, 1) := dk_120 (dk_at dksX3_shownAs_0 22 rfl rfl)
theorem dX3_shownAs_23 : decode cX3_shownAs 23 = .ok (.goto 4, 3) := dk_167 0 4 (dk_at dksX3_shownAs_1 0 rfl rfl)
theorem dX3_shownAs_26 : decode cX3_shownAs 26 = .ok (.iconst 0, 1) := dk_3 (dk_at dksX3_shownAs_1 3 rfl rfl)
theorem dX3_shownAs_27 : decode cX3_shownAs 27 = .ok (.ior, 1) := dk_128 (dk_at dksX3_shownAs_1 4 rfl rfl)
theorem dX3_shownAs_28 : decode cX3_shownAs 28 = .ok (.istore_n 2, 1) := dk_61 (dk_at dksX3_shownAs_1 5 rfl rfl)
theorem dX3_shownAs_29 : decode cX3_shownAs 29 = .ok (.iinc 3 1, 3) := dk_132 3 1 (dk_at dksX3_shownAs_1 6 rfl rfl)
theorem dX3_shownAs_32 : decode cX3_shownAs 32 = .ok (.goto (-28), 3) := dk_167 255 228 (dk_at dksX3_shownAs_1 9 rfl rfl)
theorem dX3_shownAs_35 : decode cX3_shownAs 35 = .ok (.iload_n 2, 1) := dk_28 (dk_at dksX3_shownAs_1 12 rfl rfl)
theorem dX3_shownAs_36 : decode cX3_shownAs 36 = .ok (.ireturn, 1) := dk_172 (dk_at dksX3_shownAs_1 13 rfl rfl)
abbrev cX3_showing : ByteArray := prog_12_method_40_code
def yX3_showing : MethodName := ⟨RX3, "showing", "(II)I"⟩
def dkwX3_showing_4 : List UInt8 := [167, 255, 168, 29, 172]
abbrev dktX3_showing_4 : List UInt8 := dkwX3_showing_4 ++ []
def dkwX3_showing_3 : List UInt8 := [167, 0, 19, 29, 28, 7, 160, 0, 10, 4, 21, 4, 120, 167, 0, 5, 21, 6, 128, 62, 132, 4, 1]
abbrev dktX3_showing_3 : List UInt8 := dkwX3_showing_3 ++ dktX3_showing_4
def dkwX3_showing_2 : List UInt8 := [167, 0, 4, 3, 54, 6, 28, 6, 160, 0, 10, 29, 21, 5, 96, 167, 0, 28, 21, 5, 154, 0, 7, 29]
abbrev dktX3_showing_2 : List UInt8 := dkwX3_showing_2 ++ dktX3_showing_3
def dkwX3_showing_1 : List UInt8 := [182, 0, 118, 54, 5, 42, 21, 4, 6, 182, 0, 47, 155, 0, 15, 4, 42, 21, 4, 6, 182, 0, 47, 120]
abbrev dktX3_showing_1 : List UInt8 := dkwX3_showing_1 ++ dktX3_showing_2
def dkwX3_showing_0 : List UInt8 := [3, 62, 3, 54, 4, 21, 4, 42, 180, 0, 7, 17, 1, 26, 46, 162, 0, 81, 42, 21, 4, 27]
abbrev dktX3_showing_0 : List UInt8 := dkwX3_showing_0 ++ dktX3_showing_1
theorem dksX3_showing_0 : cX3_showing.data.toList.drop 0 = dktX3_showing_0 := by decide +kernel
theorem dksX3_showing_1 : cX3_showing.data.toList.drop 22 = dktX3_showing_1 := dk_seg dksX3_showing_0 22 rfl rfl
theorem dksX3_showing_2 : cX3_showing.data.toList.drop 46 = dktX3_showing_2 := dk_seg dksX3_showing_1 24 rfl rfl
theorem dksX3_showing_3 : cX3_showing.data.toList.drop 70 = dktX3_showing_3 := dk_seg dksX3_showing_2 24 rfl rfl
theorem dksX3_showing_4 : cX3_showing.data.toList.drop 93 = dktX3_showing_4 := dk_seg dksX3_showing_3 23 rfl rfl
theorem dX3_showing_0 : decode cX3_showing 0 = .ok (.iconst 0, 1) := dk_3 (dk_at dksX3_showing_0 0 rfl rfl)
theorem dX3_showing_1 : decode cX3_showing 1 = .ok (.istore_n 3, 1) := dk_62 (dk_at dksX3_showing_0 1 rfl rfl)
theorem dX3_showing_2 : decode cX3_showing 2 = .ok (.iconst 0, 1) := dk_3 (dk_at dksX3_showing_0 2 rfl rfl)
theorem dX3_showing_3 : decode cX3_showing 3 = .ok (.istore 4, 2) := dk_54 4 (dk_at dksX3_showing_0 3 rfl rfl)
theorem dX3_showing_5 : decode cX3_showing 5 = .ok (.iload 4, 2) := dk_21 4 (dk_at dksX3_showing_0 5 rfl rfl)
theorem dX3_showing_7 : decode cX3_showing 7 = .ok (.aload_n 0, 1) := dk_42 (dk_at dksX3_showing_0 7 rfl rfl)
theorem dX3_showing_8 : decode cX3_showing 8 = .ok (.getfield 7, 3) := dk_180 0 7 (dk_at dksX3_showing_0 8 rfl rfl)
theorem dX3_showing_11 : decode cX3_showing 11 = .ok (.sipush 282, 3) := dk_17 1 26 (dk_at dksX3_showing_0 11 rfl rfl)
theorem dX3_showing_14 : decode cX3_showing 14 = .ok (.iaload, 1) := dk_46 (dk_at dksX3_showing_0 14 rfl rfl)
theorem dX3_showing_15 : decode cX3_showing 15 = .ok (.if_icmp .ge 81, 3) := dk_162 0 81 (dk_at dksX3_showing_0 15 rfl rfl)
theorem dX3_showing_18 : decode cX3_showing 18 = .ok (.aload_n 0, 1) := dk_42 (dk_at dksX3_showing_0 18 rfl rfl)
theorem dX3_showing_19 : decode cX3_showing 19 = .ok (.iload 4, 2) := dk_21 4 (dk_at dksX3_showing_0 19 rfl rfl)
theorem dX3_showing_21 : decode cX3_showing 21 = .ok (.iload_n 1, 1) := dk_27 (dk_at dksX3_showing_0 21 rfl rfl)
theorem dX3_showing_22 : decode cX3_showing 22 = .ok (.invokevirtual 118, 3) := dk_182 0 118 (dk_at dksX3_showing_1 0 rfl rfl)
theorem dX3_showing_25 : decode cX3_showing 25 = .ok (.istore 5, 2) := dk_54 5 (dk_at dksX3_showing_1 3 rfl rfl)
theorem dX3_showing_27 : decode cX3_showing 27 = .ok (.aload_n 0, 1) := dk_42 (dk_at dksX3_showing_1 5 rfl rfl)
theorem dX3_showing_28 : decode cX3_showing 28 = .ok (.iload 4, 2) := dk_21 4 (dk_at dksX3_showing_1 6 rfl rfl)
theorem dX3_showing_30 : decode cX3_showing 30 = .ok (.iconst 3, 1) := dk_6 (dk_at dksX3_showing_1 8 rfl rfl)
theorem dX3_showing_31 : decode cX3_showing 31 = .ok (.invokevirtual 47, 3) := dk_182 0 47 (dk_at dksX3_showing_1 9 rfl rfl)
theorem dX3_showing_34 : decode cX3_showing 34 = .ok (.ifCond .lt 15, 3) := dk_155 0 15 (dk_at dksX3_showing_1 12 rfl rfl)
theorem dX3_showing_37 : decode cX3_showing 37 = .ok (.iconst 1, 1) := dk_4 (dk_at dksX3_showing_1 15 rfl rfl)
theorem dX3_showing_38 : decode cX3_showing 38 = .ok (.aload_n 0, 1) := dk_42 (dk_at dksX3_showing_1 16 rfl rfl)
theorem dX3_showing_39 : decode cX3_showing 39 = .ok (.iload 4, 2) := dk_21 4 (dk_at dksX3_showing_1 17 rfl rfl)
theorem dX3_showing_41 : decode cX3_showing 41 = .ok (.iconst 3, 1) := dk_6 (dk_at dksX3_showing_1 19 rfl rfl)
theorem dX3_showing_42 : decode cX3_showing 42 = .ok (.invokevirtual 47, 3) := dk_182 0 47 (dk_at dksX3_showing_1 20 rfl rfl)
theorem dX3_showing_45 : decode cX3_showing 45 = .ok (.ishl, 1) := dk_120 (dk_at dksX3_showing_1 23 rfl rfl)
theorem dX3_showing_46 : decode cX3_showing 46 = .ok (.goto 4, 3) := dk_167 0 4 (dk_at dksX3_showing_2 0 rfl rfl)
theorem dX3_showing_49 : decode cX3_showing 49 = .ok (.iconst 0, 1) := dk_3 (dk_at dksX3_showing_2 3 rfl rfl)
theorem dX3_showing_50 : decode cX3_showing 50 = .ok (.istore 6, 2) := dk_54 6 (dk_at dksX3_showing_2 4 rfl rfl)
theorem dX3_showing_52 : decode cX3_showing 52 = .ok (.iload_n 2, 1) := dk_28 (dk_at dksX3_showing_2 6 rfl rfl)
theorem dX3_showing_53 : decode cX3_showing 53 = .ok (.iconst 3, 1) := dk_6 (dk_at dksX3_showing_2 7 rfl rfl)
theorem dX3_showing_54 : decode cX3_showing 54 = .ok (.if_icmp .ne 10, 3) := dk_160 0 10 (dk_at dksX3_showing_2 8 rfl rfl)
theorem dX3_showing_57 : decode cX3_showing 57 = .ok (.iload_n 3, 1) := dk_29 (dk_at dksX3_showing_2 11 rfl rfl)
theorem dX3_showing_58 : decode cX3_showing 58 = .ok (.iload 5, 2) := dk_21 5 (dk_at dksX3_showing_2 12 rfl rfl)
theorem dX3_showing_60 : decode cX3_showing 60 = .ok (.iadd, 1) := dk_96 (dk_at dksX3_showing_2 14 rfl rfl)
theorem dX3_showing_61 : decode cX3_showing 61 = .ok (.goto 28, 3) := dk_167 0 28 (dk_at dksX3_showing_2 15 rfl rfl)
theorem dX3_showing_64 : decode cX3_showing 64 = .ok (.iload 5, 2) := dk_21 5 (dk_at dksX3_showing_2 18 rfl rfl)
theorem dX3_showing_66 : decode cX3_showing 66 = .ok (.ifCond .ne 7, 3) := dk_154 0 7 (dk_at dksX3_showing_2 20 rfl rfl)
theorem dX3_showing_69 : decode cX3_showing 69 = .ok (.iload_n 3, 1) := dk_29 (dk_at dksX3_showing_2 23 rfl rfl)
theorem dX3_showing_70 : decode cX3_showing 70 = .ok (.goto 19, 3) := dk_167 0 19 (dk_at dksX3_showing_3 0 rfl rfl)
theorem dX3_showing_73 : decode cX3_showing 73 = .ok (.iload_n 3, 1) := dk_29 (dk_at dksX3_showing_3 3 rfl rfl)
theorem dX3_showing_74 : decode cX3_showing 74 = .ok (.iload_n 2, 1) := dk_28 (dk_at dksX3_showing_3 4 rfl rfl)
theorem dX3_showing_75 : decode cX3_showing 75 = .ok (.iconst 4, 1) := dk_7 (dk_at dksX3_showing_3 5 rfl rfl)
theorem dX3_showing_76 : decode cX3_showing 76 = .ok (.if_icmp .ne 10, 3) := dk_160 0 10 (dk_at dksX3_showing_3 6 rfl rfl)
theorem dX3_showing_79 : decode cX3_showing 79 = .ok (.iconst 1, 1) := dk_4 (dk_at dksX3_showing_3 9 rfl rfl)
theorem dX3_showing_80 : decode cX3_showing 80 = .ok (.iload 4, 2) := dk_21 4 (dk_at dksX3_showing_3 10 rfl rfl)
theorem dX3_showing_82 : decode cX3_showing 82 = .ok (.ishl, 1) := dk_120 (dk_at dksX3_showing_3 12 rfl rfl)
theorem dX3_showing_83 : decode cX3_showing 83 = .ok (.goto 5, 3) := dk_167 0 5 (dk_at dksX3_showing_3 13 rfl rfl)
theorem dX3_showing_86 : decode cX3_showing 86 = .ok (.iload 6, 2) := dk_21 6 (dk_at dksX3_showing_3 16 rfl rfl)
theorem dX3_showing_88 : decode cX3_showing 88 = .ok (.ior, 1) := dk_128 (dk_at dksX3_showing_3 18 rfl rfl)
theorem dX3_showing_89 : decode cX3_showing 89 = .ok (.istore_n 3, 1) := dk_62 (dk_at dksX3_showing_3 19 rfl rfl)
theorem dX3_showing_90 : decode cX3_showing 90 = .ok (.iinc 4 1, 3) := dk_132 4 1 (dk_at dksX3_showing_3 20 rfl rfl)
theorem dX3_showing_93 : decode cX3_showing 93 = .ok (.goto (-88), 3) := dk_167 255 168 (dk_at dksX3_showing_4 0 rfl rfl)
theorem dX3_showing_96 : decode cX3_showing 96 = .ok (.iload_n 3, 1) := dk_29 (dk_at dksX3_showing_4 3 rfl rfl)
theorem dX3_showing_97 : decode cX3_showing 97 = .ok (.ireturn, 1) := dk_172 (dk_at dksX3_showing_4 4 rfl rfl)
abbrev cX3_shows : ByteArray := prog_12_method_39_code
def yX3_shows : MethodName := ⟨RX3, "shows", "(II)I"⟩
def dkwX3_shows_2 : List UInt8 := [172]
abbrev dktX3_shows_2 : List UInt8 := dkwX3_shows_2 ++ []
def dkwX3_shows_1 : List UInt8 := [182, 0, 47, 182, 0, 73, 28, 160, 0, 7, 4, 167, 0, 4, 3, 96, 62, 132, 4, 1, 167, 255, 217, 29]
abbrev dktX3_shows_1 : List UInt8 := dkwX3_shows_1 ++ dktX3_shows_2
def dkwX3_shows_0 : List UInt8 := [3, 62, 3, 54, 4, 21, 4, 42, 27, 7, 182, 0, 47, 162, 0, 34, 29, 42, 42, 27, 8, 21, 4, 96]
abbrev dktX3_shows_0 : List UInt8 := dkwX3_shows_0 ++ dktX3_shows_1
theorem dksX3_shows_0 : cX3_shows.data.toList.drop 0 = dktX3_shows_0 := by decide +kernel
theorem dksX3_shows_1 : cX3_shows.data.toList.drop 24 = dktX3_shows_1 := dk_seg dksX3_shows_0 24 rfl rfl
theorem dksX3_shows_2 : cX3_shows.data.toList.drop 48 = dktX3_shows_2 := dk_seg dksX3_shows_1 24 rfl rfl
theorem dX3_shows_0 : decode cX3_shows 0 = .ok (.iconst 0, 1) := dk_3 (dk_at dksX3_shows_0 0 rfl rfl)
theorem dX3_shows_1 : decode cX3_shows 1 = .ok (.istore_n 3, 1) := dk_62 (dk_at dksX3_shows_0 1 rfl rfl)
theorem dX3_shows_2 : decode cX3_shows 2 = .ok (.iconst 0, 1) := dk_3 (dk_at dksX3_shows_0 2 rfl rfl)
theorem dX3_shows_3 : decode cX3_shows 3 = .ok (.istore 4, 2) := dk_54 4 (dk_at dksX3_shows_0 3 rfl rfl)
theorem dX3_shows_5 : decode cX3_shows 5 = .ok (.iload 4, 2) := dk_21 4 (dk_at dksX3_shows_0 5 rfl rfl)
theorem dX3_shows_7 : decode cX3_shows 7 = .ok (.aload_n 0, 1) := dk_42 (dk_at dksX3_shows_0 7 rfl rfl)
theorem dX3_shows_8 : decode cX3_shows 8 = .ok (.iload_n 1, 1) := dk_27 (dk_at dksX3_shows_0 8 rfl rfl)
theorem dX3_shows_9 : decode cX3_shows 9 = .ok (.iconst 4, 1) := dk_7 (dk_at dksX3_shows_0 9 rfl rfl)
theorem dX3_shows_10 : decode cX3_shows 10 = .ok (.invokevirtual 47, 3) := dk_182 0 47 (dk_at dksX3_shows_0 10 rfl rfl)
theorem dX3_shows_13 : decode cX3_shows 13 = .ok (.if_icmp .ge 34, 3) := dk_162 0 34 (dk_at dksX3_shows_0 13 rfl rfl)
theorem dX3_shows_16 : decode cX3_shows 16 = .ok (.iload_n 3, 1) := dk_29 (dk_at dksX3_shows_0 16 rfl rfl)
theorem dX3_shows_17 : decode cX3_shows 17 = .ok (.aload_n 0, 1) := dk_42 (dk_at dksX3_shows_0 17 rfl rfl)
theorem dX3_shows_18 : decode cX3_shows 18 = .ok (.aload_n 0, 1) := dk_42 (dk_at dksX3_shows_0 18 rfl rfl)
theorem dX3_shows_19 : decode cX3_shows 19 = .ok (.iload_n 1, 1) := dk_27 (dk_at dksX3_shows_0 19 rfl rfl)
theorem dX3_shows_20 : decode cX3_shows 20 = .ok (.iconst 5, 1) := dk_8 (dk_at dksX3_shows_0 20 rfl rfl)
theorem dX3_shows_21 : decode cX3_shows 21 = .ok (.iload 4, 2) := dk_21 4 (dk_at dksX3_shows_0 21 rfl rfl)
theorem dX3_shows_23 : decode cX3_shows 23 = .ok (.iadd, 1) := dk_96 (dk_at dksX3_shows_0 23 rfl rfl)
theorem dX3_shows_24 : decode cX3_shows 24 = .ok (.invokevirtual 47, 3) := dk_182 0 47 (dk_at dksX3_shows_1 0 rfl rfl)
theorem dX3_shows_27 : decode cX3_shows 27 = .ok (.invokevirtual 73, 3) := dk_182 0 73 (dk_at dksX3_shows_1 3 rfl rfl)
theorem dX3_shows_30 : decode cX3_shows 30 = .ok (.iload_n 2, 1) := dk_28 (dk_at dksX3_shows_1 6 rfl rfl)
theorem dX3_shows_31 : decode cX3_shows 31 = .ok (.if_icmp .ne 7, 3) := dk_160 0 7 (dk_at dksX3_shows_1 7 rfl rfl)
theorem dX3_shows_34 : decode cX3_shows 34 = .ok (.iconst 1, 1) := dk_4 (dk_at dksX3_shows_1 10 rfl rfl)
theorem dX3_shows_35 : decode cX3_shows 35 = .ok (.goto 4, 3) := dk_167 0 4 (dk_at dksX3_shows_1 11 rfl rfl)
theorem dX3_shows_38 : decode cX3_shows 38 = .ok (.iconst 0, 1) := dk_3 (dk_at dksX3_shows_1 14 rfl rfl)
theorem dX3_shows_39 : decode cX3_shows 39 = .ok (.iadd, 1) := dk_96 (dk_at dksX3_shows_1 15 rfl rfl)
theorem dX3_shows_40 : decode cX3_shows 40 = .ok (.istore_n 3, 1) := dk_62 (dk_at dksX3_shows_1 16 rfl rfl)
theorem dX3_shows_41 : decode cX3_shows 41 = .ok (.iinc 4 1, 3) := dk_132 4 1 (dk_at dksX3_shows_1 17 rfl rfl)
theorem dX3_shows_44 : decode cX3_shows 44 = .ok (.goto (-39), 3) := dk_167 255 217 (dk_at dksX3_shows_1 20 rfl rfl)
theorem dX3_shows_47 : decode cX3_shows 47 = .ok (.iload_n 3, 1) := dk_29 (dk_at dksX3_shows_1 23 rfl rfl)
theorem dX3_shows_48 : decode cX3_shows 48 = .ok (.ireturn, 1) := dk_172 (dk_at dksX3_shows_2 0 rfl rfl)
abbrev cX3_speakerOf : ByteArray := prog_12_method_48_code
def yX3_speakerOf : MethodName := ⟨RX3, "speakerOf", "(II)I"⟩
def dkwX3_speakerOf_4 : List UInt8 := [182, 0, 146, 172]
abbrev dktX3_speakerOf_4 : List UInt8 := dkwX3_speakerOf_4 ++ []
def dkwX3_speakerOf_3 : List UInt8 := [27, 4, 182, 0, 133, 172, 42, 27, 2, 182, 0, 143, 172, 42, 2, 27, 182, 0, 143, 172, 42, 27]
abbrev dktX3_speakerOf_3 : List UInt8 := dkwX3_speakerOf_3 ++ dktX3_speakerOf_4
def dkwX3_speakerOf_2 : List UInt8 := [42, 180, 0, 7, 17, 1, 20, 27, 96, 46, 172, 42, 27, 182, 0, 88, 172, 42, 27, 182, 0, 130, 172, 42]
abbrev dktX3_speakerOf_2 : List UInt8 := dkwX3_speakerOf_2 ++ dktX3_speakerOf_3
def dkwX3_speakerOf_1 : List UInt8 := [170, 0, 0, 0, 0, 82, 0, 0, 0, 0, 0, 0, 0, 5, 0, 0, 0, 38, 0, 0, 0, 49, 0, 0, 0, 55, 0, 0, 0, 61, 0, 0, 0, 68, 0, 0, 0, 75]
abbrev dktX3_speakerOf_1 : List UInt8 := dkwX3_speakerOf_1 ++ dktX3_speakerOf_2
def dkwX3_speakerOf_0 : List UInt8 := [42, 27, 182, 0, 91, 153, 0, 13, 28, 3, 16, 6, 184, 0, 39, 154, 0, 6, 18, 50, 172, 28]
abbrev dktX3_speakerOf_0 : List UInt8 := dkwX3_speakerOf_0 ++ dktX3_speakerOf_1
theorem dksX3_speakerOf_0 : cX3_speakerOf.data.toList.drop 0 = dktX3_speakerOf_0 := by decide +kernel
theorem dksX3_speakerOf_1 : cX3_speakerOf.data.toList.drop 22 = dktX3_speakerOf_1 := dk_seg dksX3_speakerOf_0 22 rfl rfl
theorem dksX3_speakerOf_2 : cX3_speakerOf.data.toList.drop 60 = dktX3_speakerOf_2 := dk_seg dksX3_speakerOf_1 38 rfl rfl
theorem dksX3_speakerOf_3 : cX3_speakerOf.data.toList.drop 84 = dktX3_speakerOf_3 := dk_seg dksX3_speakerOf_2 24 rfl rfl
theorem dksX3_speakerOf_4 : cX3_speakerOf.data.toList.drop 106 = dktX3_speakerOf_4 := dk_seg dksX3_speakerOf_3 22 rfl rfl
theorem dX3_speakerOf_0 : decode cX3_speakerOf 0 = .ok (.aload_n 0, 1) := dk_42 (dk_at dksX3_speakerOf_0 0 rfl rfl)
theorem dX3_speakerOf_1 : decode cX3_speakerOf 1 = .ok (.iload_n 1, 1) := dk_27 (dk_at dksX3_speakerOf_0 1 rfl rfl)
theorem dX3_speakerOf_2 : decode cX3_speakerOf 2 = .ok (.invokevirtual 91, 3) := dk_182 0 91 (dk_at dksX3_speakerOf_0 2 rfl rfl)
theorem dX3_speakerOf_5 : decode cX3_speakerOf 5 = .ok (.ifCond .eq 13, 3) := dk_153 0 13 (dk_at dksX3_speakerOf_0 5 rfl rfl)
theorem dX3_speakerOf_8 : decode cX3_speakerOf 8 = .ok (.iload_n 2, 1) := dk_28 (dk_at dksX3_speakerOf_0 8 rfl rfl)
theorem dX3_speakerOf_9 : decode cX3_speakerOf 9 = .ok (.iconst 0, 1) := dk_3 (dk_at dksX3_speakerOf_0 9 rfl rfl)
theorem dX3_speakerOf_10 : decode cX3_speakerOf 10 = .ok (.bipush 6, 2) := dk_16 6 (dk_at dksX3_speakerOf_0 10 rfl rfl)
theorem dX3_speakerOf_12 : decode cX3_speakerOf 12 = .ok (.invokestatic 39, 3) := dk_184 0 39 (dk_at dksX3_speakerOf_0 12 rfl rfl)
theorem dX3_speakerOf_15 : decode cX3_speakerOf 15 = .ok (.ifCond .ne 6, 3) := dk_154 0 6 (dk_at dksX3_speakerOf_0 15 rfl rfl)
theorem dX3_speakerOf_18 : decode cX3_speakerOf 18 = .ok (.ldc 50, 2) := dk_18 50 (dk_at dksX3_speakerOf_0 18 rfl rfl)
theorem dX3_speakerOf_20 : decode cX3_speakerOf 20 = .ok (.ireturn, 1) := dk_172 (dk_at dksX3_speakerOf_0 20 rfl rfl)
theorem dX3_speakerOf_21 : decode cX3_speakerOf 21 = .ok (.iload_n 2, 1) := dk_28 (dk_at dksX3_speakerOf_0 21 rfl rfl)
theorem dX3_speakerOf_22 : decode cX3_speakerOf 22 = .ok (.tableswitch 82 0 5 #[38, 49, 55, 61, 68, 75], 38) := by decide +kernel
theorem dX3_speakerOf_60 : decode cX3_speakerOf 60 = .ok (.aload_n 0, 1) := dk_42 (dk_at dksX3_speakerOf_2 0 rfl rfl)
theorem dX3_speakerOf_61 : decode cX3_speakerOf 61 = .ok (.getfield 7, 3) := dk_180 0 7 (dk_at dksX3_speakerOf_2 1 rfl rfl)
theorem dX3_speakerOf_64 : decode cX3_speakerOf 64 = .ok (.sipush 276, 3) := dk_17 1 20 (dk_at dksX3_speakerOf_2 4 rfl rfl)
theorem dX3_speakerOf_67 : decode cX3_speakerOf 67 = .ok (.iload_n 1, 1) := dk_27 (dk_at dksX3_speakerOf_2 7 rfl rfl)
theorem dX3_speakerOf_68 : decode cX3_speakerOf 68 = .ok (.iadd, 1) := dk_96 (dk_at dksX3_speakerOf_2 8 rfl rfl)
theorem dX3_speakerOf_69 : decode cX3_speakerOf 69 = .ok (.iaload, 1) := dk_46 (dk_at dksX3_speakerOf_2 9 rfl rfl)
theorem dX3_speakerOf_70 : decode cX3_speakerOf 70 = .ok (.ireturn, 1) := dk_172 (dk_at dksX3_speakerOf_2 10 rfl rfl)
theorem dX3_speakerOf_71 : decode cX3_speakerOf 71 = .ok (.aload_n 0, 1) := dk_42 (dk_at dksX3_speakerOf_2 11 rfl rfl)
theorem dX3_speakerOf_72 : decode cX3_speakerOf 72 = .ok (.iload_n 1, 1) := dk_27 (dk_at dksX3_speakerOf_2 12 rfl rfl)
theorem dX3_speakerOf_73 : decode cX3_speakerOf 73 = .ok (.invokevirtual 88, 3) := dk_182 0 88 (dk_at dksX3_speakerOf_2 13 rfl rfl)
theorem dX3_speakerOf_76 : decode cX3_speakerOf 76 = .ok (.ireturn, 1) := dk_172 (dk_at dksX3_speakerOf_2 16 rfl rfl)
theorem dX3_speakerOf_77 : decode cX3_speakerOf 77 = .ok (.aload_n 0, 1) := dk_42 (dk_at dksX3_speakerOf_2 17 rfl rfl)
theorem dX3_speakerOf_78 : decode cX3_speakerOf 78 = .ok (.iload_n 1, 1) := dk_27 (dk_at dksX3_speakerOf_2 18 rfl rfl)
theorem dX3_speakerOf_79 : decode cX3_speakerOf 79 = .ok (.invokevirtual 130, 3) := dk_182 0 130 (dk_at dksX3_speakerOf_2 19 rfl rfl)
theorem dX3_speakerOf_82 : decode cX3_speakerOf 82 = .ok (.ireturn, 1) := dk_172 (dk_at dksX3_speakerOf_2 22 rfl rfl)
theorem dX3_speakerOf_83 : decode cX3_speakerOf 83 = .ok (.aload_n 0, 1) := dk_42 (dk_at dksX3_speakerOf_2 23 rfl rfl)
theorem dX3_speakerOf_84 : decode cX3_speakerOf 84 = .ok (.iload_n 1, 1) := dk_27 (dk_at dksX3_speakerOf_3 0 rfl rfl)
theorem dX3_speakerOf_85 : decode cX3_speakerOf 85 = .ok (.iconst 1, 1) := dk_4 (dk_at dksX3_speakerOf_3 1 rfl rfl)
theorem dX3_speakerOf_86 : decode cX3_speakerOf 86 = .ok (.invokevirtual 133, 3) := dk_182 0 133 (dk_at dksX3_speakerOf_3 2 rfl rfl)
theorem dX3_speakerOf_89 : decode cX3_speakerOf 89 = .ok (.ireturn, 1) := dk_172 (dk_at dksX3_speakerOf_3 5 rfl rfl)
theorem dX3_speakerOf_90 : decode cX3_speakerOf 90 = .ok (.aload_n 0, 1) := dk_42 (dk_at dksX3_speakerOf_3 6 rfl rfl)
theorem dX3_speakerOf_91 : decode cX3_speakerOf 91 = .ok (.iload_n 1, 1) := dk_27 (dk_at dksX3_speakerOf_3 7 rfl rfl)
theorem dX3_speakerOf_92 : decode cX3_speakerOf 92 = .ok (.iconst (-1), 1) := dk_2 (dk_at dksX3_speakerOf_3 8 rfl rfl)
theorem dX3_speakerOf_93 : decode cX3_speakerOf 93 = .ok (.invokevirtual 143, 3) := dk_182 0 143 (dk_at dksX3_speakerOf_3 9 rfl rfl)
theorem dX3_speakerOf_96 : decode cX3_speakerOf 96 = .ok (.ireturn, 1) := dk_172 (dk_at dksX3_speakerOf_3 12 rfl rfl)
theorem dX3_speakerOf_97 : decode cX3_speakerOf 97 = .ok (.aload_n 0, 1) := dk_42 (dk_at dksX3_speakerOf_3 13 rfl rfl)
theorem dX3_speakerOf_98 : decode cX3_speakerOf 98 = .ok (.iconst (-1), 1) := dk_2 (dk_at dksX3_speakerOf_3 14 rfl rfl)
theorem dX3_speakerOf_99 : decode cX3_speakerOf 99 = .ok (.iload_n 1, 1) := dk_27 (dk_at dksX3_speakerOf_3 15 rfl rfl)
theorem dX3_speakerOf_100 : decode cX3_speakerOf 100 = .ok (.invokevirtual 143, 3) := dk_182 0 143 (dk_at dksX3_speakerOf_3 16 rfl rfl)
theorem dX3_speakerOf_103 : decode cX3_speakerOf 103 = .ok (.ireturn, 1) := dk_172 (dk_at dksX3_speakerOf_3 19 rfl rfl)
theorem dX3_speakerOf_104 : decode cX3_speakerOf 104 = .ok (.aload_n 0, 1) := dk_42 (dk_at dksX3_speakerOf_3 20 rfl rfl)
theorem dX3_speakerOf_105 : decode cX3_speakerOf 105 = .ok (.iload_n 1, 1) := dk_27 (dk_at dksX3_speakerOf_3 21 rfl rfl)
theorem dX3_speakerOf_106 : decode cX3_speakerOf 106 = .ok (.invokevirtual 146, 3) := dk_182 0 146 (dk_at dksX3_speakerOf_4 0 rfl rfl)
theorem dX3_speakerOf_109 : decode cX3_speakerOf 109 = .ok (.ireturn, 1) := dk_172 (dk_at dksX3_speakerOf_4 3 rfl rfl)
abbrev cX3_secondsOf : ByteArray := prog_12_method_43_code
def yX3_secondsOf : MethodName := ⟨RX3, "secondsOf", "(I)I"⟩
def dkwX3_secondsOf_2 : List UInt8 := [132, 3, 1, 167, 255, 211, 28, 172]
abbrev dktX3_secondsOf_2 : List UInt8 := dkwX3_secondsOf_2 ++ []
def dkwX3_secondsOf_1 : List UInt8 := [160, 0, 19, 42, 29, 4, 182, 0, 47, 42, 29, 3, 182, 0, 47, 100, 167, 0, 4, 3, 96, 61]
abbrev dktX3_secondsOf_1 : List UInt8 := dkwX3_secondsOf_1 ++ dktX3_secondsOf_2
def dkwX3_secondsOf_0 : List UInt8 := [3, 61, 3, 62, 29, 42, 180, 0, 7, 17, 1, 26, 46, 162, 0, 39, 28, 42, 29, 6, 182, 0, 47, 27]
abbrev dktX3_secondsOf_0 : List UInt8 := dkwX3_secondsOf_0 ++ dktX3_secondsOf_1
theorem dksX3_secondsOf_0 : cX3_secondsOf.data.toList.drop 0 = dktX3_secondsOf_0 := by decide +kernel
theorem dksX3_secondsOf_1 : cX3_secondsOf.data.toList.drop 24 = dktX3_secondsOf_1 := dk_seg dksX3_secondsOf_0 24 rfl rfl
theorem dksX3_secondsOf_2 : cX3_secondsOf.data.toList.drop 46 = dktX3_secondsOf_2 := dk_seg dksX3_secondsOf_1 22 rfl rfl
theorem dX3_secondsOf_0 : decode cX3_secondsOf 0 = .ok (.iconst 0, 1) := dk_3 (dk_at dksX3_secondsOf_0 0 rfl rfl)
theorem dX3_secondsOf_1 : decode cX3_secondsOf 1 = .ok (.istore_n 2, 1) := dk_61 (dk_at dksX3_secondsOf_0 1 rfl rfl)
theorem dX3_secondsOf_2 : decode cX3_secondsOf 2 = .ok (.iconst 0, 1) := dk_3 (dk_at dksX3_secondsOf_0 2 rfl rfl)
theorem dX3_secondsOf_3 : decode cX3_secondsOf 3 = .ok (.istore_n 3, 1) := dk_62 (dk_at dksX3_secondsOf_0 3 rfl rfl)
theorem dX3_secondsOf_4 : decode cX3_secondsOf 4 = .ok (.iload_n 3, 1) := dk_29 (dk_at dksX3_secondsOf_0 4 rfl rfl)
theorem dX3_secondsOf_5 : decode cX3_secondsOf 5 = .ok (.aload_n 0, 1) := dk_42 (dk_at dksX3_secondsOf_0 5 rfl rfl)
theorem dX3_secondsOf_6 : decode cX3_secondsOf 6 = .ok (.getfield 7, 3) := dk_180 0 7 (dk_at dksX3_secondsOf_0 6 rfl rfl)
theorem dX3_secondsOf_9 : decode cX3_secondsOf 9 = .ok (.sipush 282, 3) := dk_17 1 26 (dk_at dksX3_secondsOf_0 9 rfl rfl)
theorem dX3_secondsOf_12 : decode cX3_secondsOf 12 = .ok (.iaload, 1) := dk_46 (dk_at dksX3_secondsOf_0 12 rfl rfl)
theorem dX3_secondsOf_13 : decode cX3_secondsOf 13 = .ok (.if_icmp .ge 39, 3) := dk_162 0 39 (dk_at dksX3_secondsOf_0 13 rfl rfl)
theorem dX3_secondsOf_16 : decode cX3_secondsOf 16 = .ok (.iload_n 2, 1) := dk_28 (dk_at dksX3_secondsOf_0 16 rfl rfl)
theorem dX3_secondsOf_17 : decode cX3_secondsOf 17 = .ok (.aload_n 0, 1) := dk_42 (dk_at dksX3_secondsOf_0 17 rfl rfl)
theorem dX3_secondsOf_18 : decode cX3_secondsOf 18 = .ok (.iload_n 3, 1) := dk_29 (dk_at dksX3_secondsOf_0 18 rfl rfl)
theorem dX3_secondsOf_19 : decode cX3_secondsOf 19 = .ok (.iconst 3, 1) := dk_6 (dk_at dksX3_secondsOf_0 19 rfl rfl)
theorem dX3_secondsOf_20 : decode cX3_secondsOf 20 = .ok (.invokevirtual 47, 3) := dk_182 0 47 (dk_at dksX3_secondsOf_0 20 rfl rfl)
theorem dX3_secondsOf_23 : decode cX3_secondsOf 23 = .ok (.iload_n 1, 1) := dk_27 (dk_at dksX3_secondsOf_0 23 rfl rfl)
theorem dX3_secondsOf_24 : decode cX3_secondsOf 24 = .ok (.if_icmp .ne 19, 3) := dk_160 0 19 (dk_at dksX3_secondsOf_1 0 rfl rfl)
theorem dX3_secondsOf_27 : decode cX3_secondsOf 27 = .ok (.aload_n 0, 1) := dk_42 (dk_at dksX3_secondsOf_1 3 rfl rfl)
theorem dX3_secondsOf_28 : decode cX3_secondsOf 28 = .ok (.iload_n 3, 1) := dk_29 (dk_at dksX3_secondsOf_1 4 rfl rfl)
theorem dX3_secondsOf_29 : decode cX3_secondsOf 29 = .ok (.iconst 1, 1) := dk_4 (dk_at dksX3_secondsOf_1 5 rfl rfl)
theorem dX3_secondsOf_30 : decode cX3_secondsOf 30 = .ok (.invokevirtual 47, 3) := dk_182 0 47 (dk_at dksX3_secondsOf_1 6 rfl rfl)
theorem dX3_secondsOf_33 : decode cX3_secondsOf 33 = .ok (.aload_n 0, 1) := dk_42 (dk_at dksX3_secondsOf_1 9 rfl rfl)
theorem dX3_secondsOf_34 : decode cX3_secondsOf 34 = .ok (.iload_n 3, 1) := dk_29 (dk_at dksX3_secondsOf_1 10 rfl rfl)
theorem dX3_secondsOf_35 : decode cX3_secondsOf 35 = .ok (.iconst 0, 1) := dk_3 (dk_at dksX3_secondsOf_1 11 rfl rfl)
theorem dX3_secondsOf_36 : decode cX3_secondsOf 36 = .ok (.invokevirtual 47, 3) := dk_182 0 47 (dk_at dksX3_secondsOf_1 12 rfl rfl)
theorem dX3_secondsOf_39 : decode cX3_secondsOf 39 = .ok (.isub, 1) := dk_100 (dk_at dksX3_secondsOf_1 15 rfl rfl)
theorem dX3_secondsOf_40 : decode cX3_secondsOf 40 = .ok (.goto 4, 3) := dk_167 0 4 (dk_at dksX3_secondsOf_1 16 rfl rfl)
theorem dX3_secondsOf_43 : decode cX3_secondsOf 43 = .ok (.iconst 0, 1) := dk_3 (dk_at dksX3_secondsOf_1 19 rfl rfl)
theorem dX3_secondsOf_44 : decode cX3_secondsOf 44 = .ok (.iadd, 1) := dk_96 (dk_at dksX3_secondsOf_1 20 rfl rfl)
theorem dX3_secondsOf_45 : decode cX3_secondsOf 45 = .ok (.istore_n 2, 1) := dk_61 (dk_at dksX3_secondsOf_1 21 rfl rfl)
theorem dX3_secondsOf_46 : decode cX3_secondsOf 46 = .ok (.iinc 3 1, 3) := dk_132 3 1 (dk_at dksX3_secondsOf_2 0 rfl rfl)
theorem dX3_secondsOf_49 : decode cX3_secondsOf 49 = .ok (.goto (-45), 3) := dk_167 255 211 (dk_at dksX3_secondsOf_2 3 rfl rfl)
theorem dX3_secondsOf_52 : decode cX3_secondsOf 52 = .ok (.iload_n 2, 1) := dk_28 (dk_at dksX3_secondsOf_2 6 rfl rfl)
theorem dX3_secondsOf_53 : decode cX3_secondsOf 53 = .ok (.ireturn, 1) := dk_172 (dk_at dksX3_secondsOf_2 7 rfl rfl)
abbrev cX3_termsOf : ByteArray := prog_12_method_44_code
def yX3_termsOf : MethodName := ⟨RX3, "termsOf", "(IZ)I"⟩
def dkwX3_termsOf_4 : List UInt8 := [167, 255, 167, 29, 172]
abbrev dktX3_termsOf_4 : List UInt8 := dkwX3_termsOf_4 ++ []
def dkwX3_termsOf_3 : List UInt8 := [21, 4, 8, 21, 5, 96, 182, 0, 47, 182, 0, 73, 120, 128, 62, 132, 5, 1, 167, 255, 218, 132, 4, 1]
abbrev dktX3_termsOf_3 : List UInt8 := dkwX3_termsOf_3 ++ dktX3_termsOf_4
def dkwX3_termsOf_2 : List UInt8 := [62, 3, 54, 5, 21, 5, 42, 21, 4, 7, 182, 0, 47, 162, 0, 32, 28, 153, 0, 28, 29, 4, 42, 42]
abbrev dktX3_termsOf_2 : List UInt8 := dkwX3_termsOf_2 ++ dktX3_termsOf_3
def dkwX3_termsOf_1 : List UInt8 := [182, 0, 47, 27, 160, 0, 65, 29, 28, 153, 0, 7, 3, 167, 0, 10, 42, 21, 4, 7, 182, 0, 47, 96]
abbrev dktX3_termsOf_1 : List UInt8 := dkwX3_termsOf_1 ++ dktX3_termsOf_2
def dkwX3_termsOf_0 : List UInt8 := [3, 62, 3, 54, 4, 21, 4, 42, 180, 0, 7, 17, 1, 26, 46, 162, 0, 82, 42, 21, 4, 6]
abbrev dktX3_termsOf_0 : List UInt8 := dkwX3_termsOf_0 ++ dktX3_termsOf_1
theorem dksX3_termsOf_0 : cX3_termsOf.data.toList.drop 0 = dktX3_termsOf_0 := by decide +kernel
theorem dksX3_termsOf_1 : cX3_termsOf.data.toList.drop 22 = dktX3_termsOf_1 := dk_seg dksX3_termsOf_0 22 rfl rfl
theorem dksX3_termsOf_2 : cX3_termsOf.data.toList.drop 46 = dktX3_termsOf_2 := dk_seg dksX3_termsOf_1 24 rfl rfl
theorem dksX3_termsOf_3 : cX3_termsOf.data.toList.drop 70 = dktX3_termsOf_3 := dk_seg dksX3_termsOf_2 24 rfl rfl
theorem dksX3_termsOf_4 : cX3_termsOf.data.toList.drop 94 = dktX3_termsOf_4 := dk_seg dksX3_termsOf_3 24 rfl rfl
theorem dX3_termsOf_0 : decode cX3_termsOf 0 = .ok (.iconst 0, 1) := dk_3 (dk_at dksX3_termsOf_0 0 rfl rfl)
theorem dX3_termsOf_1 : decode cX3_termsOf 1 = .ok (.istore_n 3, 1) := dk_62 (dk_at dksX3_termsOf_0 1 rfl rfl)
theorem dX3_termsOf_2 : decode cX3_termsOf 2 = .ok (.iconst 0, 1) := dk_3 (dk_at dksX3_termsOf_0 2 rfl rfl)
theorem dX3_termsOf_3 : decode cX3_termsOf 3 = .ok (.istore 4, 2) := dk_54 4 (dk_at dksX3_termsOf_0 3 rfl rfl)
theorem dX3_termsOf_5 : decode cX3_termsOf 5 = .ok (.iload 4, 2) := dk_21 4 (dk_at dksX3_termsOf_0 5 rfl rfl)
theorem dX3_termsOf_7 : decode cX3_termsOf 7 = .ok (.aload_n 0, 1) := dk_42 (dk_at dksX3_termsOf_0 7 rfl rfl)
theorem dX3_termsOf_8 : decode cX3_termsOf 8 = .ok (.getfield 7, 3) := dk_180 0 7 (dk_at dksX3_termsOf_0 8 rfl rfl)
theorem dX3_termsOf_11 : decode cX3_termsOf 11 = .ok (.sipush 282, 3) := dk_17 1 26 (dk_at dksX3_termsOf_0 11 rfl rfl)
theorem dX3_termsOf_14 : decode cX3_termsOf 14 = .ok (.iaload, 1) := dk_46 (dk_at dksX3_termsOf_0 14 rfl rfl)
theorem dX3_termsOf_15 : decode cX3_termsOf 15 = .ok (.if_icmp .ge 82, 3) := dk_162 0 82 (dk_at dksX3_termsOf_0 15 rfl rfl)
theorem dX3_termsOf_18 : decode cX3_termsOf 18 = .ok (.aload_n 0, 1) := dk_42 (dk_at dksX3_termsOf_0 18 rfl rfl)
theorem dX3_termsOf_19 : decode cX3_termsOf 19 = .ok (.iload 4, 2) := dk_21 4 (dk_at dksX3_termsOf_0 19 rfl rfl)
theorem dX3_termsOf_21 : decode cX3_termsOf 21 = .ok (.iconst 3, 1) := dk_6 (dk_at dksX3_termsOf_0 21 rfl rfl)
theorem dX3_termsOf_22 : decode cX3_termsOf 22 = .ok (.invokevirtual 47, 3) := dk_182 0 47 (dk_at dksX3_termsOf_1 0 rfl rfl)
theorem dX3_termsOf_25 : decode cX3_termsOf 25 = .ok (.iload_n 1, 1) := dk_27 (dk_at dksX3_termsOf_1 3 rfl rfl)
theorem dX3_termsOf_26 : decode cX3_termsOf 26 = .ok (.if_icmp .ne 65, 3) := dk_160 0 65 (dk_at dksX3_termsOf_1 4 rfl rfl)
theorem dX3_termsOf_29 : decode cX3_termsOf 29 = .ok (.iload_n 3, 1) := dk_29 (dk_at dksX3_termsOf_1 7 rfl rfl)
theorem dX3_termsOf_30 : decode cX3_termsOf 30 = .ok (.iload_n 2, 1) := dk_28 (dk_at dksX3_termsOf_1 8 rfl rfl)
theorem dX3_termsOf_31 : decode cX3_termsOf 31 = .ok (.ifCond .eq 7, 3) := dk_153 0 7 (dk_at dksX3_termsOf_1 9 rfl rfl)
theorem dX3_termsOf_34 : decode cX3_termsOf 34 = .ok (.iconst 0, 1) := dk_3 (dk_at dksX3_termsOf_1 12 rfl rfl)
theorem dX3_termsOf_35 : decode cX3_termsOf 35 = .ok (.goto 10, 3) := dk_167 0 10 (dk_at dksX3_termsOf_1 13 rfl rfl)
theorem dX3_termsOf_38 : decode cX3_termsOf 38 = .ok (.aload_n 0, 1) := dk_42 (dk_at dksX3_termsOf_1 16 rfl rfl)
theorem dX3_termsOf_39 : decode cX3_termsOf 39 = .ok (.iload 4, 2) := dk_21 4 (dk_at dksX3_termsOf_1 17 rfl rfl)
theorem dX3_termsOf_41 : decode cX3_termsOf 41 = .ok (.iconst 4, 1) := dk_7 (dk_at dksX3_termsOf_1 19 rfl rfl)
theorem dX3_termsOf_42 : decode cX3_termsOf 42 = .ok (.invokevirtual 47, 3) := dk_182 0 47 (dk_at dksX3_termsOf_1 20 rfl rfl)
theorem dX3_termsOf_45 : decode cX3_termsOf 45 = .ok (.iadd, 1) := dk_96 (dk_at dksX3_termsOf_1 23 rfl rfl)
theorem dX3_termsOf_46 : decode cX3_termsOf 46 = .ok (.istore_n 3, 1) := dk_62 (dk_at dksX3_termsOf_2 0 rfl rfl)
theorem dX3_termsOf_47 : decode cX3_termsOf 47 = .ok (.iconst 0, 1) := dk_3 (dk_at dksX3_termsOf_2 1 rfl rfl)
theorem dX3_termsOf_48 : decode cX3_termsOf 48 = .ok (.istore 5, 2) := dk_54 5 (dk_at dksX3_termsOf_2 2 rfl rfl)
theorem dX3_termsOf_50 : decode cX3_termsOf 50 = .ok (.iload 5, 2) := dk_21 5 (dk_at dksX3_termsOf_2 4 rfl rfl)
theorem dX3_termsOf_52 : decode cX3_termsOf 52 = .ok (.aload_n 0, 1) := dk_42 (dk_at dksX3_termsOf_2 6 rfl rfl)
theorem dX3_termsOf_53 : decode cX3_termsOf 53 = .ok (.iload 4, 2) := dk_21 4 (dk_at dksX3_termsOf_2 7 rfl rfl)
theorem dX3_termsOf_55 : decode cX3_termsOf 55 = .ok (.iconst 4, 1) := dk_7 (dk_at dksX3_termsOf_2 9 rfl rfl)
theorem dX3_termsOf_56 : decode cX3_termsOf 56 = .ok (.invokevirtual 47, 3) := dk_182 0 47 (dk_at dksX3_termsOf_2 10 rfl rfl)
theorem dX3_termsOf_59 : decode cX3_termsOf 59 = .ok (.if_icmp .ge 32, 3) := dk_162 0 32 (dk_at dksX3_termsOf_2 13 rfl rfl)
theorem dX3_termsOf_62 : decode cX3_termsOf 62 = .ok (.iload_n 2, 1) := dk_28 (dk_at dksX3_termsOf_2 16 rfl rfl)
theorem dX3_termsOf_63 : decode cX3_termsOf 63 = .ok (.ifCond .eq 28, 3) := dk_153 0 28 (dk_at dksX3_termsOf_2 17 rfl rfl)
theorem dX3_termsOf_66 : decode cX3_termsOf 66 = .ok (.iload_n 3, 1) := dk_29 (dk_at dksX3_termsOf_2 20 rfl rfl)
theorem dX3_termsOf_67 : decode cX3_termsOf 67 = .ok (.iconst 1, 1) := dk_4 (dk_at dksX3_termsOf_2 21 rfl rfl)
theorem dX3_termsOf_68 : decode cX3_termsOf 68 = .ok (.aload_n 0, 1) := dk_42 (dk_at dksX3_termsOf_2 22 rfl rfl)
theorem dX3_termsOf_69 : decode cX3_termsOf 69 = .ok (.aload_n 0, 1) := dk_42 (dk_at dksX3_termsOf_2 23 rfl rfl)
theorem dX3_termsOf_70 : decode cX3_termsOf 70 = .ok (.iload 4, 2) := dk_21 4 (dk_at dksX3_termsOf_3 0 rfl rfl)
theorem dX3_termsOf_72 : decode cX3_termsOf 72 = .ok (.iconst 5, 1) := dk_8 (dk_at dksX3_termsOf_3 2 rfl rfl)
theorem dX3_termsOf_73 : decode cX3_termsOf 73 = .ok (.iload 5, 2) := dk_21 5 (dk_at dksX3_termsOf_3 3 rfl rfl)
theorem dX3_termsOf_75 : decode cX3_termsOf 75 = .ok (.iadd, 1) := dk_96 (dk_at dksX3_termsOf_3 5 rfl rfl)
theorem dX3_termsOf_76 : decode cX3_termsOf 76 = .ok (.invokevirtual 47, 3) := dk_182 0 47 (dk_at dksX3_termsOf_3 6 rfl rfl)
theorem dX3_termsOf_79 : decode cX3_termsOf 79 = .ok (.invokevirtual 73, 3) := dk_182 0 73 (dk_at dksX3_termsOf_3 9 rfl rfl)
theorem dX3_termsOf_82 : decode cX3_termsOf 82 = .ok (.ishl, 1) := dk_120 (dk_at dksX3_termsOf_3 12 rfl rfl)
theorem dX3_termsOf_83 : decode cX3_termsOf 83 = .ok (.ior, 1) := dk_128 (dk_at dksX3_termsOf_3 13 rfl rfl)
theorem dX3_termsOf_84 : decode cX3_termsOf 84 = .ok (.istore_n 3, 1) := dk_62 (dk_at dksX3_termsOf_3 14 rfl rfl)
theorem dX3_termsOf_85 : decode cX3_termsOf 85 = .ok (.iinc 5 1, 3) := dk_132 5 1 (dk_at dksX3_termsOf_3 15 rfl rfl)
theorem dX3_termsOf_88 : decode cX3_termsOf 88 = .ok (.goto (-38), 3) := dk_167 255 218 (dk_at dksX3_termsOf_3 18 rfl rfl)
theorem dX3_termsOf_91 : decode cX3_termsOf 91 = .ok (.iinc 4 1, 3) := dk_132 4 1 (dk_at dksX3_termsOf_3 21 rfl rfl)
theorem dX3_termsOf_94 : decode cX3_termsOf 94 = .ok (.goto (-89), 3) := dk_167 255 167 (dk_at dksX3_termsOf_4 0 rfl rfl)
theorem dX3_termsOf_97 : decode cX3_termsOf 97 = .ok (.iload_n 3, 1) := dk_29 (dk_at dksX3_termsOf_4 3 rfl rfl)
theorem dX3_termsOf_98 : decode cX3_termsOf 98 = .ok (.ireturn, 1) := dk_172 (dk_at dksX3_termsOf_4 4 rfl rfl)
abbrev cX3_often : ByteArray := prog_12_method_46_code
def yX3_often : MethodName := ⟨RX3, "often", "(II)I"⟩
def dkwX3_often_4 : List UInt8 := [96, 62, 132, 5, 1, 167, 255, 179, 132, 4, 1, 167, 255, 157, 29, 172]
abbrev dktX3_often_4 : List UInt8 := dkwX3_often_4 ++ []
def dkwX3_often_3 : List UInt8 := [54, 6, 29, 21, 6, 153, 0, 18, 42, 21, 4, 21, 5, 182, 0, 98, 153, 0, 7, 4, 167, 0, 4, 3]
abbrev dktX3_often_3 : List UInt8 := dkwX3_often_3 ++ dktX3_often_4
def dkwX3_often_2 : List UInt8 := [160, 0, 22, 28, 155, 0, 14, 42, 21, 5, 6, 182, 0, 47, 28, 160, 0, 7, 4, 167, 0, 4, 3]
abbrev dktX3_often_2 : List UInt8 := dkwX3_often_2 ++ dktX3_often_3
def dkwX3_often_1 : List UInt8 := [180, 0, 7, 17, 1, 26, 46, 162, 0, 70, 27, 155, 0, 14, 42, 21, 4, 6, 182, 0, 47, 27]
abbrev dktX3_often_1 : List UInt8 := dkwX3_often_1 ++ dktX3_often_2
def dkwX3_often_0 : List UInt8 := [3, 62, 3, 54, 4, 21, 4, 42, 180, 0, 7, 17, 1, 26, 46, 162, 0, 92, 3, 54, 5, 21, 5, 42]
abbrev dktX3_often_0 : List UInt8 := dkwX3_often_0 ++ dktX3_often_1
theorem dksX3_often_0 : cX3_often.data.toList.drop 0 = dktX3_often_0 := by decide +kernel
theorem dksX3_often_1 : cX3_often.data.toList.drop 24 = dktX3_often_1 := dk_seg dksX3_often_0 24 rfl rfl
theorem dksX3_often_2 : cX3_often.data.toList.drop 46 = dktX3_often_2 := dk_seg dksX3_often_1 22 rfl rfl
theorem dksX3_often_3 : cX3_often.data.toList.drop 69 = dktX3_often_3 := dk_seg dksX3_often_2 23 rfl rfl
theorem dksX3_often_4 : cX3_often.data.toList.drop 93 = dktX3_often_4 := dk_seg dksX3_often_3 24 rfl rfl
theorem dX3_often_0 : decode cX3_often 0 = .ok (.iconst 0, 1) := dk_3 (dk_at dksX3_often_0 0 rfl rfl)
theorem dX3_often_1 : decode cX3_often 1 = .ok (.istore_n 3, 1) := dk_62 (dk_at dksX3_often_0 1 rfl rfl)
theorem dX3_often_2 : decode cX3_often 2 = .ok (.iconst 0, 1) := dk_3 (dk_at dksX3_often_0 2 rfl rfl)
theorem dX3_often_3 : decode cX3_often 3 = .ok (.istore 4, 2) := dk_54 4 (dk_at dksX3_often_0 3 rfl rfl)
theorem dX3_often_5 : decode cX3_often 5 = .ok (.iload 4, 2) := dk_21 4 (dk_at dksX3_often_0 5 rfl rfl)
theorem dX3_often_7 : decode cX3_often 7 = .ok (.aload_n 0, 1) := dk_42 (dk_at dksX3_often_0 7 rfl rfl)
theorem dX3_often_8 : decode cX3_often 8 = .ok (.getfield 7, 3) := dk_180 0 7 (dk_at dksX3_often_0 8 rfl rfl)
theorem dX3_often_11 : decode cX3_often 11 = .ok (.sipush 282, 3) := dk_17 1 26 (dk_at dksX3_often_0 11 rfl rfl)
theorem dX3_often_14 : decode cX3_often 14 = .ok (.iaload, 1) := dk_46 (dk_at dksX3_often_0 14 rfl rfl)
theorem dX3_often_15 : decode cX3_often 15 = .ok (.if_icmp .ge 92, 3) := dk_162 0 92 (dk_at dksX3_often_0 15 rfl rfl)
theorem dX3_often_18 : decode cX3_often 18 = .ok (.iconst 0, 1) := dk_3 (dk_at dksX3_often_0 18 rfl rfl)
theorem dX3_often_19 : decode cX3_often 19 = .ok (.istore 5, 2) := dk_54 5 (dk_at dksX3_often_0 19 rfl rfl)
theorem dX3_often_21 : decode cX3_often 21 = .ok (.iload 5, 2) := dk_21 5 (dk_at dksX3_often_0 21 rfl rfl)
theorem dX3_often_23 : decode cX3_often 23 = .ok (.aload_n 0, 1) := dk_42 (dk_at dksX3_often_0 23 rfl rfl)
theorem dX3_often_24 : decode cX3_often 24 = .ok (.getfield 7, 3) := dk_180 0 7 (dk_at dksX3_often_1 0 rfl rfl)
theorem dX3_often_27 : decode cX3_often 27 = .ok (.sipush 282, 3) := dk_17 1 26 (dk_at dksX3_often_1 3 rfl rfl)
theorem dX3_often_30 : decode cX3_often 30 = .ok (.iaload, 1) := dk_46 (dk_at dksX3_often_1 6 rfl rfl)
theorem dX3_often_31 : decode cX3_often 31 = .ok (.if_icmp .ge 70, 3) := dk_162 0 70 (dk_at dksX3_often_1 7 rfl rfl)
theorem dX3_often_34 : decode cX3_often 34 = .ok (.iload_n 1, 1) := dk_27 (dk_at dksX3_often_1 10 rfl rfl)
theorem dX3_often_35 : decode cX3_often 35 = .ok (.ifCond .lt 14, 3) := dk_155 0 14 (dk_at dksX3_often_1 11 rfl rfl)
theorem dX3_often_38 : decode cX3_often 38 = .ok (.aload_n 0, 1) := dk_42 (dk_at dksX3_often_1 14 rfl rfl)
theorem dX3_often_39 : decode cX3_often 39 = .ok (.iload 4, 2) := dk_21 4 (dk_at dksX3_often_1 15 rfl rfl)
theorem dX3_often_41 : decode cX3_often 41 = .ok (.iconst 3, 1) := dk_6 (dk_at dksX3_often_1 17 rfl rfl)
theorem dX3_often_42 : decode cX3_often 42 = .ok (.invokevirtual 47, 3) := dk_182 0 47 (dk_at dksX3_often_1 18 rfl rfl)
theorem dX3_often_45 : decode cX3_often 45 = .ok (.iload_n 1, 1) := dk_27 (dk_at dksX3_often_1 21 rfl rfl)
theorem dX3_often_46 : decode cX3_often 46 = .ok (.if_icmp .ne 22, 3) := dk_160 0 22 (dk_at dksX3_often_2 0 rfl rfl)
theorem dX3_often_49 : decode cX3_often 49 = .ok (.iload_n 2, 1) := dk_28 (dk_at dksX3_often_2 3 rfl rfl)
theorem dX3_often_50 : decode cX3_often 50 = .ok (.ifCond .lt 14, 3) := dk_155 0 14 (dk_at dksX3_often_2 4 rfl rfl)
theorem dX3_often_53 : decode cX3_often 53 = .ok (.aload_n 0, 1) := dk_42 (dk_at dksX3_often_2 7 rfl rfl)
theorem dX3_often_54 : decode cX3_often 54 = .ok (.iload 5, 2) := dk_21 5 (dk_at dksX3_often_2 8 rfl rfl)
theorem dX3_often_56 : decode cX3_often 56 = .ok (.iconst 3, 1) := dk_6 (dk_at dksX3_often_2 10 rfl rfl)
theorem dX3_often_57 : decode cX3_often 57 = .ok (.invokevirtual 47, 3) := dk_182 0 47 (dk_at dksX3_often_2 11 rfl rfl)
theorem dX3_often_60 : decode cX3_often 60 = .ok (.iload_n 2, 1) := dk_28 (dk_at dksX3_often_2 14 rfl rfl)
theorem dX3_often_61 : decode cX3_often 61 = .ok (.if_icmp .ne 7, 3) := dk_160 0 7 (dk_at dksX3_often_2 15 rfl rfl)
theorem dX3_often_64 : decode cX3_often 64 = .ok (.iconst 1, 1) := dk_4 (dk_at dksX3_often_2 18 rfl rfl)
theorem dX3_often_65 : decode cX3_often 65 = .ok (.goto 4, 3) := dk_167 0 4 (dk_at dksX3_often_2 19 rfl rfl)
theorem dX3_often_68 : decode cX3_often 68 = .ok (.iconst 0, 1) := dk_3 (dk_at dksX3_often_2 22 rfl rfl)
theorem dX3_often_69 : decode cX3_often 69 = .ok (.istore 6, 2) := dk_54 6 (dk_at dksX3_often_3 0 rfl rfl)
theorem dX3_often_71 : decode cX3_often 71 = .ok (.iload_n 3, 1) := dk_29 (dk_at dksX3_often_3 2 rfl rfl)
theorem dX3_often_72 : decode cX3_often 72 = .ok (.iload 6, 2) := dk_21 6 (dk_at dksX3_often_3 3 rfl rfl)
theorem dX3_often_74 : decode cX3_often 74 = .ok (.ifCond .eq 18, 3) := dk_153 0 18 (dk_at dksX3_often_3 5 rfl rfl)
theorem dX3_often_77 : decode cX3_often 77 = .ok (.aload_n 0, 1) := dk_42 (dk_at dksX3_often_3 8 rfl rfl)
theorem dX3_often_78 : decode cX3_often 78 = .ok (.iload 4, 2) := dk_21 4 (dk_at dksX3_often_3 9 rfl rfl)
theorem dX3_often_80 : decode cX3_often 80 = .ok (.iload 5, 2) := dk_21 5 (dk_at dksX3_often_3 11 rfl rfl)
theorem dX3_often_82 : decode cX3_often 82 = .ok (.invokevirtual 98, 3) := dk_182 0 98 (dk_at dksX3_often_3 13 rfl rfl)
theorem dX3_often_85 : decode cX3_often 85 = .ok (.ifCond .eq 7, 3) := dk_153 0 7 (dk_at dksX3_often_3 16 rfl rfl)
theorem dX3_often_88 : decode cX3_often 88 = .ok (.iconst 1, 1) := dk_4 (dk_at dksX3_often_3 19 rfl rfl)
theorem dX3_often_89 : decode cX3_often 89 = .ok (.goto 4, 3) := dk_167 0 4 (dk_at dksX3_often_3 20 rfl rfl)
theorem dX3_often_92 : decode cX3_often 92 = .ok (.iconst 0, 1) := dk_3 (dk_at dksX3_often_3 23 rfl rfl)
theorem dX3_often_93 : decode cX3_often 93 = .ok (.iadd, 1) := dk_96 (dk_at dksX3_often_4 0 rfl rfl)
theorem dX3_often_94 : decode cX3_often 94 = .ok (.istore_n 3, 1) := dk_62 (dk_at dksX3_often_4 1 rfl rfl)
theorem dX3_often_95 : decode cX3_often 95 = .ok (.iinc 5 1, 3) := dk_132 5 1 (dk_at dksX3_often_4 2 rfl rfl)
theorem dX3_often_98 : decode cX3_often 98 = .ok (.goto (-77), 3) := dk_167 255 179 (dk_at dksX3_often_4 5 rfl rfl)
theorem dX3_often_101 : decode cX3_often 101 = .ok (.iinc 4 1, 3) := dk_132 4 1 (dk_at dksX3_often_4 8 rfl rfl)
theorem dX3_often_104 : decode cX3_often 104 = .ok (.goto (-99), 3) := dk_167 255 157 (dk_at dksX3_often_4 11 rfl rfl)
theorem dX3_often_107 : decode cX3_often 107 = .ok (.iload_n 3, 1) := dk_29 (dk_at dksX3_often_4 14 rfl rfl)
theorem dX3_often_108 : decode cX3_often 108 = .ok (.ireturn, 1) := dk_172 (dk_at dksX3_often_4 15 rfl rfl)
abbrev cX3_byMinute : ByteArray := prog_12_method_47_code
def yX3_byMinute : MethodName := ⟨RX3, "byMinute", "(I)I"⟩
def dkwX3_byMinute_1 : List UInt8 := [28, 134, 110, 70, 28, 154, 0, 8, 18, 110, 167, 0, 7, 37, 184, 0, 137, 172]
abbrev dktX3_byMinute_1 : List UInt8 := dkwX3_byMinute_1 ++ []
def dkwX3_byMinute_0 : List UInt8 := [42, 27, 182, 0, 130, 61, 42, 27, 3, 182, 0, 133, 134, 18, 136, 106, 28, 154, 0, 7, 4, 167, 0, 4]
abbrev dktX3_byMinute_0 : List UInt8 := dkwX3_byMinute_0 ++ dktX3_byMinute_1
theorem dksX3_byMinute_0 : cX3_byMinute.data.toList.drop 0 = dktX3_byMinute_0 := by decide +kernel
theorem dksX3_byMinute_1 : cX3_byMinute.data.toList.drop 24 = dktX3_byMinute_1 := dk_seg dksX3_byMinute_0 24 rfl rfl
theorem dX3_byMinute_0 : decode cX3_byMinute 0 = .ok (.aload_n 0, 1) := dk_42 (dk_at dksX3_byMinute_0 0 rfl rfl)
theorem dX3_byMinute_1 : decode cX3_byMinute 1 = .ok (.iload_n 1, 1) := dk_27 (dk_at dksX3_byMinute_0 1 rfl rfl)
theorem dX3_byMinute_2 : decode cX3_byMinute 2 = .ok (.invokevirtual 130, 3) := dk_182 0 130 (dk_at dksX3_byMinute_0 2 rfl rfl)
theorem dX3_byMinute_5 : decode cX3_byMinute 5 = .ok (.istore_n 2, 1) := dk_61 (dk_at dksX3_byMinute_0 5 rfl rfl)
theorem dX3_byMinute_6 : decode cX3_byMinute 6 = .ok (.aload_n 0, 1) := dk_42 (dk_at dksX3_byMinute_0 6 rfl rfl)
theorem dX3_byMinute_7 : decode cX3_byMinute 7 = .ok (.iload_n 1, 1) := dk_27 (dk_at dksX3_byMinute_0 7 rfl rfl)
theorem dX3_byMinute_8 : decode cX3_byMinute 8 = .ok (.iconst 0, 1) := dk_3 (dk_at dksX3_byMinute_0 8 rfl rfl)
theorem dX3_byMinute_9 : decode cX3_byMinute 9 = .ok (.invokevirtual 133, 3) := dk_182 0 133 (dk_at dksX3_byMinute_0 9 rfl rfl)
theorem dX3_byMinute_12 : decode cX3_byMinute 12 = .ok (.i2f, 1) := dk_134 (dk_at dksX3_byMinute_0 12 rfl rfl)
theorem dX3_byMinute_13 : decode cX3_byMinute 13 = .ok (.ldc 136, 2) := dk_18 136 (dk_at dksX3_byMinute_0 13 rfl rfl)
theorem dX3_byMinute_15 : decode cX3_byMinute 15 = .ok (.fmul, 1) := dk_106 (dk_at dksX3_byMinute_0 15 rfl rfl)
theorem dX3_byMinute_16 : decode cX3_byMinute 16 = .ok (.iload_n 2, 1) := dk_28 (dk_at dksX3_byMinute_0 16 rfl rfl)
theorem dX3_byMinute_17 : decode cX3_byMinute 17 = .ok (.ifCond .ne 7, 3) := dk_154 0 7 (dk_at dksX3_byMinute_0 17 rfl rfl)
theorem dX3_byMinute_20 : decode cX3_byMinute 20 = .ok (.iconst 1, 1) := dk_4 (dk_at dksX3_byMinute_0 20 rfl rfl)
theorem dX3_byMinute_21 : decode cX3_byMinute 21 = .ok (.goto 4, 3) := dk_167 0 4 (dk_at dksX3_byMinute_0 21 rfl rfl)
theorem dX3_byMinute_24 : decode cX3_byMinute 24 = .ok (.iload_n 2, 1) := dk_28 (dk_at dksX3_byMinute_1 0 rfl rfl)
theorem dX3_byMinute_25 : decode cX3_byMinute 25 = .ok (.i2f, 1) := dk_134 (dk_at dksX3_byMinute_1 1 rfl rfl)
theorem dX3_byMinute_26 : decode cX3_byMinute 26 = .ok (.fdiv, 1) := dk_110 (dk_at dksX3_byMinute_1 2 rfl rfl)
theorem dX3_byMinute_27 : decode cX3_byMinute 27 = .ok (.fstore_n 3, 1) := dk_70 (dk_at dksX3_byMinute_1 3 rfl rfl)
theorem dX3_byMinute_28 : decode cX3_byMinute 28 = .ok (.iload_n 2, 1) := dk_28 (dk_at dksX3_byMinute_1 4 rfl rfl)
theorem dX3_byMinute_29 : decode cX3_byMinute 29 = .ok (.ifCond .ne 8, 3) := dk_154 0 8 (dk_at dksX3_byMinute_1 5 rfl rfl)
theorem dX3_byMinute_32 : decode cX3_byMinute 32 = .ok (.ldc 110, 2) := dk_18 110 (dk_at dksX3_byMinute_1 8 rfl rfl)
theorem dX3_byMinute_34 : decode cX3_byMinute 34 = .ok (.goto 7, 3) := dk_167 0 7 (dk_at dksX3_byMinute_1 10 rfl rfl)
theorem dX3_byMinute_37 : decode cX3_byMinute 37 = .ok (.fload_n 3, 1) := dk_37 (dk_at dksX3_byMinute_1 13 rfl rfl)
theorem dX3_byMinute_38 : decode cX3_byMinute 38 = .ok (.invokestatic 137, 3) := dk_184 0 137 (dk_at dksX3_byMinute_1 14 rfl rfl)
theorem dX3_byMinute_41 : decode cX3_byMinute 41 = .ok (.ireturn, 1) := dk_172 (dk_at dksX3_byMinute_1 17 rfl rfl)
abbrev cX3_during : ByteArray := prog_12_method_50_code
def yX3_during : MethodName := ⟨RX3, "during", "(II)I"⟩
def dkwX3_during_1 : List UInt8 := [154, 0, 11, 42, 27, 182, 0, 107, 167, 0, 12, 42, 42, 27, 182, 0, 107, 182, 0, 149, 172]
abbrev dktX3_during_1 : List UInt8 := dkwX3_during_1 ++ []
def dkwX3_during_0 : List UInt8 := [27, 3, 17, 7, 207, 184, 0, 39, 153, 0, 12, 28, 3, 4, 184, 0, 39, 154, 0, 6, 18, 50, 172, 28]
abbrev dktX3_during_0 : List UInt8 := dkwX3_during_0 ++ dktX3_during_1
theorem dksX3_during_0 : cX3_during.data.toList.drop 0 = dktX3_during_0 := by decide +kernel
theorem dksX3_during_1 : cX3_during.data.toList.drop 24 = dktX3_during_1 := dk_seg dksX3_during_0 24 rfl rfl
theorem dX3_during_0 : decode cX3_during 0 = .ok (.iload_n 1, 1) := dk_27 (dk_at dksX3_during_0 0 rfl rfl)
theorem dX3_during_1 : decode cX3_during 1 = .ok (.iconst 0, 1) := dk_3 (dk_at dksX3_during_0 1 rfl rfl)
theorem dX3_during_2 : decode cX3_during 2 = .ok (.sipush 1999, 3) := dk_17 7 207 (dk_at dksX3_during_0 2 rfl rfl)
theorem dX3_during_5 : decode cX3_during 5 = .ok (.invokestatic 39, 3) := dk_184 0 39 (dk_at dksX3_during_0 5 rfl rfl)
theorem dX3_during_8 : decode cX3_during 8 = .ok (.ifCond .eq 12, 3) := dk_153 0 12 (dk_at dksX3_during_0 8 rfl rfl)
theorem dX3_during_11 : decode cX3_during 11 = .ok (.iload_n 2, 1) := dk_28 (dk_at dksX3_during_0 11 rfl rfl)
theorem dX3_during_12 : decode cX3_during 12 = .ok (.iconst 0, 1) := dk_3 (dk_at dksX3_during_0 12 rfl rfl)
theorem dX3_during_13 : decode cX3_during 13 = .ok (.iconst 1, 1) := dk_4 (dk_at dksX3_during_0 13 rfl rfl)
theorem dX3_during_14 : decode cX3_during 14 = .ok (.invokestatic 39, 3) := dk_184 0 39 (dk_at dksX3_during_0 14 rfl rfl)
theorem dX3_during_17 : decode cX3_during 17 = .ok (.ifCond .ne 6, 3) := dk_154 0 6 (dk_at dksX3_during_0 17 rfl rfl)
theorem dX3_during_20 : decode cX3_during 20 = .ok (.ldc 50, 2) := dk_18 50 (dk_at dksX3_during_0 20 rfl rfl)
theorem dX3_during_22 : decode cX3_during 22 = .ok (.ireturn, 1) := dk_172 (dk_at dksX3_during_0 22 rfl rfl)
theorem dX3_during_23 : decode cX3_during 23 = .ok (.iload_n 2, 1) := dk_28 (dk_at dksX3_during_0 23 rfl rfl)
theorem dX3_during_24 : decode cX3_during 24 = .ok (.ifCond .ne 11, 3) := dk_154 0 11 (dk_at dksX3_during_1 0 rfl rfl)
theorem dX3_during_27 : decode cX3_during 27 = .ok (.aload_n 0, 1) := dk_42 (dk_at dksX3_during_1 3 rfl rfl)
theorem dX3_during_28 : decode cX3_during 28 = .ok (.iload_n 1, 1) := dk_27 (dk_at dksX3_during_1 4 rfl rfl)
theorem dX3_during_29 : decode cX3_during 29 = .ok (.invokevirtual 107, 3) := dk_182 0 107 (dk_at dksX3_during_1 5 rfl rfl)
theorem dX3_during_32 : decode cX3_during 32 = .ok (.goto 12, 3) := dk_167 0 12 (dk_at dksX3_during_1 8 rfl rfl)
theorem dX3_during_35 : decode cX3_during 35 = .ok (.aload_n 0, 1) := dk_42 (dk_at dksX3_during_1 11 rfl rfl)
theorem dX3_during_36 : decode cX3_during 36 = .ok (.aload_n 0, 1) := dk_42 (dk_at dksX3_during_1 12 rfl rfl)
theorem dX3_during_37 : decode cX3_during 37 = .ok (.iload_n 1, 1) := dk_27 (dk_at dksX3_during_1 13 rfl rfl)
theorem dX3_during_38 : decode cX3_during 38 = .ok (.invokevirtual 107, 3) := dk_182 0 107 (dk_at dksX3_during_1 14 rfl rfl)
theorem dX3_during_41 : decode cX3_during 41 = .ok (.invokevirtual 149, 3) := dk_182 0 149 (dk_at dksX3_during_1 17 rfl rfl)
theorem dX3_during_44 : decode cX3_during 44 = .ok (.ireturn, 1) := dk_172 (dk_at dksX3_during_1 20 rfl rfl)
abbrev cX3_voices : ByteArray := prog_12_method_49_code
def yX3_voices : MethodName := ⟨RX3, "voices", "(I)I"⟩
def dkwX3_voices_2 : List UInt8 := [128, 61, 132, 3, 1, 167, 255, 208, 28, 172]
abbrev dktX3_voices_2 : List UInt8 := dkwX3_voices_2 ++ []
def dkwX3_voices_1 : List UInt8 := [160, 0, 23, 42, 29, 6, 182, 0, 47, 155, 0, 14, 4, 42, 29, 6, 182, 0, 47, 120, 167, 0, 4, 3]
abbrev dktX3_voices_1 : List UInt8 := dkwX3_voices_1 ++ dktX3_voices_2
def dkwX3_voices_0 : List UInt8 := [3, 61, 3, 62, 29, 42, 180, 0, 7, 17, 1, 26, 46, 162, 0, 42, 28, 27, 29, 122, 4, 126, 4]
abbrev dktX3_voices_0 : List UInt8 := dkwX3_voices_0 ++ dktX3_voices_1
theorem dksX3_voices_0 : cX3_voices.data.toList.drop 0 = dktX3_voices_0 := by decide +kernel
theorem dksX3_voices_1 : cX3_voices.data.toList.drop 23 = dktX3_voices_1 := dk_seg dksX3_voices_0 23 rfl rfl
theorem dksX3_voices_2 : cX3_voices.data.toList.drop 47 = dktX3_voices_2 := dk_seg dksX3_voices_1 24 rfl rfl
theorem dX3_voices_0 : decode cX3_voices 0 = .ok (.iconst 0, 1) := dk_3 (dk_at dksX3_voices_0 0 rfl rfl)
theorem dX3_voices_1 : decode cX3_voices 1 = .ok (.istore_n 2, 1) := dk_61 (dk_at dksX3_voices_0 1 rfl rfl)
theorem dX3_voices_2 : decode cX3_voices 2 = .ok (.iconst 0, 1) := dk_3 (dk_at dksX3_voices_0 2 rfl rfl)
theorem dX3_voices_3 : decode cX3_voices 3 = .ok (.istore_n 3, 1) := dk_62 (dk_at dksX3_voices_0 3 rfl rfl)
theorem dX3_voices_4 : decode cX3_voices 4 = .ok (.iload_n 3, 1) := dk_29 (dk_at dksX3_voices_0 4 rfl rfl)
theorem dX3_voices_5 : decode cX3_voices 5 = .ok (.aload_n 0, 1) := dk_42 (dk_at dksX3_voices_0 5 rfl rfl)
theorem dX3_voices_6 : decode cX3_voices 6 = .ok (.getfield 7, 3) := dk_180 0 7 (dk_at dksX3_voices_0 6 rfl rfl)
theorem dX3_voices_9 : decode cX3_voices 9 = .ok (.sipush 282, 3) := dk_17 1 26 (dk_at dksX3_voices_0 9 rfl rfl)
theorem dX3_voices_12 : decode cX3_voices 12 = .ok (.iaload, 1) := dk_46 (dk_at dksX3_voices_0 12 rfl rfl)
theorem dX3_voices_13 : decode cX3_voices 13 = .ok (.if_icmp .ge 42, 3) := dk_162 0 42 (dk_at dksX3_voices_0 13 rfl rfl)
theorem dX3_voices_16 : decode cX3_voices 16 = .ok (.iload_n 2, 1) := dk_28 (dk_at dksX3_voices_0 16 rfl rfl)
theorem dX3_voices_17 : decode cX3_voices 17 = .ok (.iload_n 1, 1) := dk_27 (dk_at dksX3_voices_0 17 rfl rfl)
theorem dX3_voices_18 : decode cX3_voices 18 = .ok (.iload_n 3, 1) := dk_29 (dk_at dksX3_voices_0 18 rfl rfl)
theorem dX3_voices_19 : decode cX3_voices 19 = .ok (.ishr, 1) := dk_122 (dk_at dksX3_voices_0 19 rfl rfl)
theorem dX3_voices_20 : decode cX3_voices 20 = .ok (.iconst 1, 1) := dk_4 (dk_at dksX3_voices_0 20 rfl rfl)
theorem dX3_voices_21 : decode cX3_voices 21 = .ok (.iand, 1) := dk_126 (dk_at dksX3_voices_0 21 rfl rfl)
theorem dX3_voices_22 : decode cX3_voices 22 = .ok (.iconst 1, 1) := dk_4 (dk_at dksX3_voices_0 22 rfl rfl)
theorem dX3_voices_23 : decode cX3_voices 23 = .ok (.if_icmp .ne 23, 3) := dk_160 0 23 (dk_at dksX3_voices_1 0 rfl rfl)
theorem dX3_voices_26 : decode cX3_voices 26 = .ok (.aload_n 0, 1) := dk_42 (dk_at dksX3_voices_1 3 rfl rfl)
theorem dX3_voices_27 : decode cX3_voices 27 = .ok (.iload_n 3, 1) := dk_29 (dk_at dksX3_voices_1 4 rfl rfl)
theorem dX3_voices_28 : decode cX3_voices 28 = .ok (.iconst 3, 1) := dk_6 (dk_at dksX3_voices_1 5 rfl rfl)
theorem dX3_voices_29 : decode cX3_voices 29 = .ok (.invokevirtual 47, 3) := dk_182 0 47 (dk_at dksX3_voices_1 6 rfl rfl)
theorem dX3_voices_32 : decode cX3_voices 32 = .ok (.ifCond .lt 14, 3) := dk_155 0 14 (dk_at dksX3_voices_1 9 rfl rfl)
theorem dX3_voices_35 : decode cX3_voices 35 = .ok (.iconst 1, 1) := dk_4 (dk_at dksX3_voices_1 12 rfl rfl)
theorem dX3_voices_36 : decode cX3_voices 36 = .ok (.aload_n 0, 1) := dk_42 (dk_at dksX3_voices_1 13 rfl rfl)
theorem dX3_voices_37 : decode cX3_voices 37 = .ok (.iload_n 3, 1) := dk_29 (dk_at dksX3_voices_1 14 rfl rfl)
theorem dX3_voices_38 : decode cX3_voices 38 = .ok (.iconst 3, 1) := dk_6 (dk_at dksX3_voices_1 15 rfl rfl)
theorem dX3_voices_39 : decode cX3_voices 39 = .ok (.invokevirtual 47, 3) := dk_182 0 47 (dk_at dksX3_voices_1 16 rfl rfl)
theorem dX3_voices_42 : decode cX3_voices 42 = .ok (.ishl, 1) := dk_120 (dk_at dksX3_voices_1 19 rfl rfl)
theorem dX3_voices_43 : decode cX3_voices 43 = .ok (.goto 4, 3) := dk_167 0 4 (dk_at dksX3_voices_1 20 rfl rfl)
theorem dX3_voices_46 : decode cX3_voices 46 = .ok (.iconst 0, 1) := dk_3 (dk_at dksX3_voices_1 23 rfl rfl)
theorem dX3_voices_47 : decode cX3_voices 47 = .ok (.ior, 1) := dk_128 (dk_at dksX3_voices_2 0 rfl rfl)
theorem dX3_voices_48 : decode cX3_voices 48 = .ok (.istore_n 2, 1) := dk_61 (dk_at dksX3_voices_2 1 rfl rfl)
theorem dX3_voices_49 : decode cX3_voices 49 = .ok (.iinc 3 1, 3) := dk_132 3 1 (dk_at dksX3_voices_2 2 rfl rfl)
theorem dX3_voices_52 : decode cX3_voices 52 = .ok (.goto (-48), 3) := dk_167 255 208 (dk_at dksX3_voices_2 5 rfl rfl)
theorem dX3_voices_55 : decode cX3_voices 55 = .ok (.iload_n 2, 1) := dk_28 (dk_at dksX3_voices_2 8 rfl rfl)
theorem dX3_voices_56 : decode cX3_voices 56 = .ok (.ireturn, 1) := dk_172 (dk_at dksX3_voices_2 9 rfl rfl)
abbrev cX3_interrupts : ByteArray := prog_12_method_51_code
def yX3_interrupts : MethodName := ⟨RX3, "interrupts", "(II)I"⟩
def dkwX3_interrupts_1 : List UInt8 := [182, 0, 143, 167, 0, 5, 18, 50, 172]
abbrev dktX3_interrupts_1 : List UInt8 := dkwX3_interrupts_1 ++ []
def dkwX3_interrupts_0 : List UInt8 := [42, 27, 182, 0, 91, 153, 0, 25, 42, 28, 182, 0, 91, 153, 0, 17, 27, 28, 159, 0, 12, 42, 27, 28]
abbrev dktX3_interrupts_0 : List UInt8 := dkwX3_interrupts_0 ++ dktX3_interrupts_1
theorem dksX3_interrupts_0 : cX3_interrupts.data.toList.drop 0 = dktX3_interrupts_0 := by decide +kernel
theorem dksX3_interrupts_1 : cX3_interrupts.data.toList.drop 24 = dktX3_interrupts_1 := dk_seg dksX3_interrupts_0 24 rfl rfl
theorem dX3_interrupts_0 : decode cX3_interrupts 0 = .ok (.aload_n 0, 1) := dk_42 (dk_at dksX3_interrupts_0 0 rfl rfl)
theorem dX3_interrupts_1 : decode cX3_interrupts 1 = .ok (.iload_n 1, 1) := dk_27 (dk_at dksX3_interrupts_0 1 rfl rfl)
theorem dX3_interrupts_2 : decode cX3_interrupts 2 = .ok (.invokevirtual 91, 3) := dk_182 0 91 (dk_at dksX3_interrupts_0 2 rfl rfl)
theorem dX3_interrupts_5 : decode cX3_interrupts 5 = .ok (.ifCond .eq 25, 3) := dk_153 0 25 (dk_at dksX3_interrupts_0 5 rfl rfl)
theorem dX3_interrupts_8 : decode cX3_interrupts 8 = .ok (.aload_n 0, 1) := dk_42 (dk_at dksX3_interrupts_0 8 rfl rfl)
theorem dX3_interrupts_9 : decode cX3_interrupts 9 = .ok (.iload_n 2, 1) := dk_28 (dk_at dksX3_interrupts_0 9 rfl rfl)
theorem dX3_interrupts_10 : decode cX3_interrupts 10 = .ok (.invokevirtual 91, 3) := dk_182 0 91 (dk_at dksX3_interrupts_0 10 rfl rfl)
theorem dX3_interrupts_13 : decode cX3_interrupts 13 = .ok (.ifCond .eq 17, 3) := dk_153 0 17 (dk_at dksX3_interrupts_0 13 rfl rfl)
theorem dX3_interrupts_16 : decode cX3_interrupts 16 = .ok (.iload_n 1, 1) := dk_27 (dk_at dksX3_interrupts_0 16 rfl rfl)
theorem dX3_interrupts_17 : decode cX3_interrupts 17 = .ok (.iload_n 2, 1) := dk_28 (dk_at dksX3_interrupts_0 17 rfl rfl)
theorem dX3_interrupts_18 : decode cX3_interrupts 18 = .ok (.if_icmp .eq 12, 3) := dk_159 0 12 (dk_at dksX3_interrupts_0 18 rfl rfl)
theorem dX3_interrupts_21 : decode cX3_interrupts 21 = .ok (.aload_n 0, 1) := dk_42 (dk_at dksX3_interrupts_0 21 rfl rfl)
theorem dX3_interrupts_22 : decode cX3_interrupts 22 = .ok (.iload_n 1, 1) := dk_27 (dk_at dksX3_interrupts_0 22 rfl rfl)
theorem dX3_interrupts_23 : decode cX3_interrupts 23 = .ok (.iload_n 2, 1) := dk_28 (dk_at dksX3_interrupts_0 23 rfl rfl)
theorem dX3_interrupts_24 : decode cX3_interrupts 24 = .ok (.invokevirtual 143, 3) := dk_182 0 143 (dk_at dksX3_interrupts_1 0 rfl rfl)
theorem dX3_interrupts_27 : decode cX3_interrupts 27 = .ok (.goto 5, 3) := dk_167 0 5 (dk_at dksX3_interrupts_1 3 rfl rfl)
theorem dX3_interrupts_30 : decode cX3_interrupts 30 = .ok (.ldc 50, 2) := dk_18 50 (dk_at dksX3_interrupts_1 6 rfl rfl)
theorem dX3_interrupts_32 : decode cX3_interrupts 32 = .ok (.ireturn, 1) := dk_172 (dk_at dksX3_interrupts_1 8 rfl rfl)
abbrev cX3_nearest : ByteArray := prog_12_method_52_code
def yX3_nearest : MethodName := ⟨RX3, "nearest", "(I)I"⟩
def dkwX3_nearest_1 : List UInt8 := [18, 110, 167, 0, 8, 42, 27, 182, 0, 63, 172]
abbrev dktX3_nearest_1 : List UInt8 := dkwX3_nearest_1 ++ []
def dkwX3_nearest_0 : List UInt8 := [27, 16, 50, 17, 1, 244, 184, 0, 39, 154, 0, 6, 18, 50, 172, 42, 27, 182, 0, 63, 156, 0, 8]
abbrev dktX3_nearest_0 : List UInt8 := dkwX3_nearest_0 ++ dktX3_nearest_1
theorem dksX3_nearest_0 : cX3_nearest.data.toList.drop 0 = dktX3_nearest_0 := by decide +kernel
theorem dksX3_nearest_1 : cX3_nearest.data.toList.drop 23 = dktX3_nearest_1 := dk_seg dksX3_nearest_0 23 rfl rfl
theorem dX3_nearest_0 : decode cX3_nearest 0 = .ok (.iload_n 1, 1) := dk_27 (dk_at dksX3_nearest_0 0 rfl rfl)
theorem dX3_nearest_1 : decode cX3_nearest 1 = .ok (.bipush 50, 2) := dk_16 50 (dk_at dksX3_nearest_0 1 rfl rfl)
theorem dX3_nearest_3 : decode cX3_nearest 3 = .ok (.sipush 500, 3) := dk_17 1 244 (dk_at dksX3_nearest_0 3 rfl rfl)
theorem dX3_nearest_6 : decode cX3_nearest 6 = .ok (.invokestatic 39, 3) := dk_184 0 39 (dk_at dksX3_nearest_0 6 rfl rfl)
theorem dX3_nearest_9 : decode cX3_nearest 9 = .ok (.ifCond .ne 6, 3) := dk_154 0 6 (dk_at dksX3_nearest_0 9 rfl rfl)
theorem dX3_nearest_12 : decode cX3_nearest 12 = .ok (.ldc 50, 2) := dk_18 50 (dk_at dksX3_nearest_0 12 rfl rfl)
theorem dX3_nearest_14 : decode cX3_nearest 14 = .ok (.ireturn, 1) := dk_172 (dk_at dksX3_nearest_0 14 rfl rfl)
theorem dX3_nearest_15 : decode cX3_nearest 15 = .ok (.aload_n 0, 1) := dk_42 (dk_at dksX3_nearest_0 15 rfl rfl)
theorem dX3_nearest_16 : decode cX3_nearest 16 = .ok (.iload_n 1, 1) := dk_27 (dk_at dksX3_nearest_0 16 rfl rfl)
theorem dX3_nearest_17 : decode cX3_nearest 17 = .ok (.invokevirtual 63, 3) := dk_182 0 63 (dk_at dksX3_nearest_0 17 rfl rfl)
theorem dX3_nearest_20 : decode cX3_nearest 20 = .ok (.ifCond .ge 8, 3) := dk_156 0 8 (dk_at dksX3_nearest_0 20 rfl rfl)
theorem dX3_nearest_23 : decode cX3_nearest 23 = .ok (.ldc 110, 2) := dk_18 110 (dk_at dksX3_nearest_1 0 rfl rfl)
theorem dX3_nearest_25 : decode cX3_nearest 25 = .ok (.goto 8, 3) := dk_167 0 8 (dk_at dksX3_nearest_1 2 rfl rfl)
theorem dX3_nearest_28 : decode cX3_nearest 28 = .ok (.aload_n 0, 1) := dk_42 (dk_at dksX3_nearest_1 5 rfl rfl)
theorem dX3_nearest_29 : decode cX3_nearest 29 = .ok (.iload_n 1, 1) := dk_27 (dk_at dksX3_nearest_1 6 rfl rfl)
theorem dX3_nearest_30 : decode cX3_nearest 30 = .ok (.invokevirtual 63, 3) := dk_182 0 63 (dk_at dksX3_nearest_1 7 rfl rfl)
theorem dX3_nearest_33 : decode cX3_nearest 33 = .ok (.ireturn, 1) := dk_172 (dk_at dksX3_nearest_1 10 rfl rfl)
abbrev cX3_would : ByteArray := prog_12_method_53_code
def yX3_would : MethodName := ⟨RX3, "would", "(II)I"⟩
def dkwX3_would_0 : List UInt8 := [42, 27, 28, 182, 0, 81, 62, 29, 156, 0, 7, 29, 167, 0, 10, 42, 27, 28, 3, 182, 0, 84, 172]
abbrev dktX3_would_0 : List UInt8 := dkwX3_would_0 ++ []
theorem dksX3_would_0 : cX3_would.data.toList.drop 0 = dktX3_would_0 := by decide +kernel
theorem dX3_would_0 : decode cX3_would 0 = .ok (.aload_n 0, 1) := dk_42 (dk_at dksX3_would_0 0 rfl rfl)
theorem dX3_would_1 : decode cX3_would 1 = .ok (.iload_n 1, 1) := dk_27 (dk_at dksX3_would_0 1 rfl rfl)
theorem dX3_would_2 : decode cX3_would 2 = .ok (.iload_n 2, 1) := dk_28 (dk_at dksX3_would_0 2 rfl rfl)
theorem dX3_would_3 : decode cX3_would 3 = .ok (.invokevirtual 81, 3) := dk_182 0 81 (dk_at dksX3_would_0 3 rfl rfl)
theorem dX3_would_6 : decode cX3_would 6 = .ok (.istore_n 3, 1) := dk_62 (dk_at dksX3_would_0 6 rfl rfl)
theorem dX3_would_7 : decode cX3_would 7 = .ok (.iload_n 3, 1) := dk_29 (dk_at dksX3_would_0 7 rfl rfl)
theorem dX3_would_8 : decode cX3_would 8 = .ok (.ifCond .ge 7, 3) := dk_156 0 7 (dk_at dksX3_would_0 8 rfl rfl)
theorem dX3_would_11 : decode cX3_would 11 = .ok (.iload_n 3, 1) := dk_29 (dk_at dksX3_would_0 11 rfl rfl)
theorem dX3_would_12 : decode cX3_would 12 = .ok (.goto 10, 3) := dk_167 0 10 (dk_at dksX3_would_0 12 rfl rfl)
theorem dX3_would_15 : decode cX3_would 15 = .ok (.aload_n 0, 1) := dk_42 (dk_at dksX3_would_0 15 rfl rfl)
theorem dX3_would_16 : decode cX3_would 16 = .ok (.iload_n 1, 1) := dk_27 (dk_at dksX3_would_0 16 rfl rfl)
theorem dX3_would_17 : decode cX3_would 17 = .ok (.iload_n 2, 1) := dk_28 (dk_at dksX3_would_0 17 rfl rfl)
theorem dX3_would_18 : decode cX3_would 18 = .ok (.iconst 0, 1) := dk_3 (dk_at dksX3_would_0 18 rfl rfl)
theorem dX3_would_19 : decode cX3_would 19 = .ok (.invokevirtual 84, 3) := dk_182 0 84 (dk_at dksX3_would_0 19 rfl rfl)
theorem dX3_would_22 : decode cX3_would 22 = .ok (.ireturn, 1) := dk_172 (dk_at dksX3_would_0 22 rfl rfl)
abbrev cX3_together : ByteArray := prog_12_method_55_code
def yX3_together : MethodName := ⟨RX3, "together", "(I)I"⟩
def dkwX3_together_5 : List UInt8 := [27, 154, 0, 7, 28, 167, 0, 14, 27, 4, 160, 0, 7, 29, 167, 0, 5, 21, 4, 172]
abbrev dktX3_together_5 : List UInt8 := dkwX3_together_5 ++ []
def dkwX3_together_4 : List UInt8 := [54, 4, 132, 6, 1, 167, 255, 192, 132, 5, 1, 167, 255, 173, 21, 4, 154, 0, 8, 18, 110, 167, 0, 22]
abbrev dktX3_together_4 : List UInt8 := dkwX3_together_4 ++ dktX3_together_5
def dkwX3_together_3 : List UInt8 := [164, 0, 8, 21, 6, 167, 0, 4, 29, 62, 21, 7, 21, 4, 164, 0, 8, 21, 7, 167, 0, 5, 21, 4]
abbrev dktX3_together_3 : List UInt8 := dkwX3_together_3 ++ dktX3_together_4
def dkwX3_together_2 : List UInt8 := [182, 0, 152, 54, 7, 21, 7, 21, 4, 164, 0, 8, 21, 5, 167, 0, 4, 28, 61, 21, 7, 21, 4]
abbrev dktX3_together_2 : List UInt8 := dkwX3_together_2 ++ dktX3_together_3
def dkwX3_together_1 : List UInt8 := [16, 16, 162, 0, 82, 21, 5, 4, 96, 54, 6, 21, 6, 16, 16, 162, 0, 63, 42, 21, 5, 21, 6]
abbrev dktX3_together_1 : List UInt8 := dkwX3_together_1 ++ dktX3_together_2
def dkwX3_together_0 : List UInt8 := [27, 3, 5, 184, 0, 39, 154, 0, 6, 18, 50, 172, 3, 61, 3, 62, 3, 54, 4, 3, 54, 5, 21, 5]
abbrev dktX3_together_0 : List UInt8 := dkwX3_together_0 ++ dktX3_together_1
theorem dksX3_together_0 : cX3_together.data.toList.drop 0 = dktX3_together_0 := by decide +kernel
theorem dksX3_together_1 : cX3_together.data.toList.drop 24 = dktX3_together_1 := dk_seg dksX3_together_0 24 rfl rfl
theorem dksX3_together_2 : cX3_together.data.toList.drop 47 = dktX3_together_2 := dk_seg dksX3_together_1 23 rfl rfl
theorem dksX3_together_3 : cX3_together.data.toList.drop 70 = dktX3_together_3 := dk_seg dksX3_together_2 23 rfl rfl
theorem dksX3_together_4 : cX3_together.data.toList.drop 94 = dktX3_together_4 := dk_seg dksX3_together_3 24 rfl rfl
theorem dksX3_together_5 : cX3_together.data.toList.drop 118 = dktX3_together_5 := dk_seg dksX3_together_4 24 rfl rfl
theorem dX3_together_0 : decode cX3_together 0 = .ok (.iload_n 1, 1) := dk_27 (dk_at dksX3_together_0 0 rfl rfl)
theorem dX3_together_1 : decode cX3_together 1 = .ok (.iconst 0, 1) := dk_3 (dk_at dksX3_together_0 1 rfl rfl)
theorem dX3_together_2 : decode cX3_together 2 = .ok (.iconst 2, 1) := dk_5 (dk_at dksX3_together_0 2 rfl rfl)
theorem dX3_together_3 : decode cX3_together 3 = .ok (.invokestatic 39, 3) := dk_184 0 39 (dk_at dksX3_together_0 3 rfl rfl)
theorem dX3_together_6 : decode cX3_together 6 = .ok (.ifCond .ne 6, 3) := dk_154 0 6 (dk_at dksX3_together_0 6 rfl rfl)
theorem dX3_together_9 : decode cX3_together 9 = .ok (.ldc 50, 2) := dk_18 50 (dk_at dksX3_together_0 9 rfl rfl)
theorem dX3_together_11 : decode cX3_together 11 = .ok (.ireturn, 1) := dk_172 (dk_at dksX3_together_0 11 rfl rfl)
theorem dX3_together_12 : decode cX3_together 12 = .ok (.iconst 0, 1) := dk_3 (dk_at dksX3_together_0 12 rfl rfl)
theorem dX3_together_13 : decode cX3_together 13 = .ok (.istore_n 2, 1) := dk_61 (dk_at dksX3_together_0 13 rfl rfl)
theorem dX3_together_14 : decode cX3_together 14 = .ok (.iconst 0, 1) := dk_3 (dk_at dksX3_together_0 14 rfl rfl)
theorem dX3_together_15 : decode cX3_together 15 = .ok (.istore_n 3, 1) := dk_62 (dk_at dksX3_together_0 15 rfl rfl)
theorem dX3_together_16 : decode cX3_together 16 = .ok (.iconst 0, 1) := dk_3 (dk_at dksX3_together_0 16 rfl rfl)
theorem dX3_together_17 : decode cX3_together 17 = .ok (.istore 4, 2) := dk_54 4 (dk_at dksX3_together_0 17 rfl rfl)
theorem dX3_together_19 : decode cX3_together 19 = .ok (.iconst 0, 1) := dk_3 (dk_at dksX3_together_0 19 rfl rfl)
theorem dX3_together_20 : decode cX3_together 20 = .ok (.istore 5, 2) := dk_54 5 (dk_at dksX3_together_0 20 rfl rfl)
theorem dX3_together_22 : decode cX3_together 22 = .ok (.iload 5, 2) := dk_21 5 (dk_at dksX3_together_0 22 rfl rfl)
theorem dX3_together_24 : decode cX3_together 24 = .ok (.bipush 16, 2) := dk_16 16 (dk_at dksX3_together_1 0 rfl rfl)
theorem dX3_together_26 : decode cX3_together 26 = .ok (.if_icmp .ge 82, 3) := dk_162 0 82 (dk_at dksX3_together_1 2 rfl rfl)
theorem dX3_together_29 : decode cX3_together 29 = .ok (.iload 5, 2) := dk_21 5 (dk_at dksX3_together_1 5 rfl rfl)
theorem dX3_together_31 : decode cX3_together 31 = .ok (.iconst 1, 1) := dk_4 (dk_at dksX3_together_1 7 rfl rfl)
theorem dX3_together_32 : decode cX3_together 32 = .ok (.iadd, 1) := dk_96 (dk_at dksX3_together_1 8 rfl rfl)
theorem dX3_together_33 : decode cX3_together 33 = .ok (.istore 6, 2) := dk_54 6 (dk_at dksX3_together_1 9 rfl rfl)
theorem dX3_together_35 : decode cX3_together 35 = .ok (.iload 6, 2) := dk_21 6 (dk_at dksX3_together_1 11 rfl rfl)
theorem dX3_together_37 : decode cX3_together 37 = .ok (.bipush 16, 2) := dk_16 16 (dk_at dksX3_together_1 13 rfl rfl)
theorem dX3_together_39 : decode cX3_together 39 = .ok (.if_icmp .ge 63, 3) := dk_162 0 63 (dk_at dksX3_together_1 15 rfl rfl)
theorem dX3_together_42 : decode cX3_together 42 = .ok (.aload_n 0, 1) := dk_42 (dk_at dksX3_together_1 18 rfl rfl)
theorem dX3_together_43 : decode cX3_together 43 = .ok (.iload 5, 2) := dk_21 5 (dk_at dksX3_together_1 19 rfl rfl)
theorem dX3_together_45 : decode cX3_together 45 = .ok (.iload 6, 2) := dk_21 6 (dk_at dksX3_together_1 21 rfl rfl)
theorem dX3_together_47 : decode cX3_together 47 = .ok (.invokevirtual 152, 3) := dk_182 0 152 (dk_at dksX3_together_2 0 rfl rfl)
theorem dX3_together_50 : decode cX3_together 50 = .ok (.istore 7, 2) := dk_54 7 (dk_at dksX3_together_2 3 rfl rfl)
theorem dX3_together_52 : decode cX3_together 52 = .ok (.iload 7, 2) := dk_21 7 (dk_at dksX3_together_2 5 rfl rfl)
theorem dX3_together_54 : decode cX3_together 54 = .ok (.iload 4, 2) := dk_21 4 (dk_at dksX3_together_2 7 rfl rfl)
theorem dX3_together_56 : decode cX3_together 56 = .ok (.if_icmp .le 8, 3) := dk_164 0 8 (dk_at dksX3_together_2 9 rfl rfl)
theorem dX3_together_59 : decode cX3_together 59 = .ok (.iload 5, 2) := dk_21 5 (dk_at dksX3_together_2 12 rfl rfl)
theorem dX3_together_61 : decode cX3_together 61 = .ok (.goto 4, 3) := dk_167 0 4 (dk_at dksX3_together_2 14 rfl rfl)
theorem dX3_together_64 : decode cX3_together 64 = .ok (.iload_n 2, 1) := dk_28 (dk_at dksX3_together_2 17 rfl rfl)
theorem dX3_together_65 : decode cX3_together 65 = .ok (.istore_n 2, 1) := dk_61 (dk_at dksX3_together_2 18 rfl rfl)
theorem dX3_together_66 : decode cX3_together 66 = .ok (.iload 7, 2) := dk_21 7 (dk_at dksX3_together_2 19 rfl rfl)
theorem dX3_together_68 : decode cX3_together 68 = .ok (.iload 4, 2) := dk_21 4 (dk_at dksX3_together_2 21 rfl rfl)
theorem dX3_together_70 : decode cX3_together 70 = .ok (.if_icmp .le 8, 3) := dk_164 0 8 (dk_at dksX3_together_3 0 rfl rfl)
theorem dX3_together_73 : decode cX3_together 73 = .ok (.iload 6, 2) := dk_21 6 (dk_at dksX3_together_3 3 rfl rfl)
theorem dX3_together_75 : decode cX3_together 75 = .ok (.goto 4, 3) := dk_167 0 4 (dk_at dksX3_together_3 5 rfl rfl)
theorem dX3_together_78 : decode cX3_together 78 = .ok (.iload_n 3, 1) := dk_29 (dk_at dksX3_together_3 8 rfl rfl)
theorem dX3_together_79 : decode cX3_together 79 = .ok (.istore_n 3, 1) := dk_62 (dk_at dksX3_together_3 9 rfl rfl)
theorem dX3_together_80 : decode cX3_together 80 = .ok (.iload 7, 2) := dk_21 7 (dk_at dksX3_together_3 10 rfl rfl)
theorem dX3_together_82 : decode cX3_together 82 = .ok (.iload 4, 2) := dk_21 4 (dk_at dksX3_together_3 12 rfl rfl)
theorem dX3_together_84 : decode cX3_together 84 = .ok (.if_icmp .le 8, 3) := dk_164 0 8 (dk_at dksX3_together_3 14 rfl rfl)
theorem dX3_together_87 : decode cX3_together 87 = .ok (.iload 7, 2) := dk_21 7 (dk_at dksX3_together_3 17 rfl rfl)
theorem dX3_together_89 : decode cX3_together 89 = .ok (.goto 5, 3) := dk_167 0 5 (dk_at dksX3_together_3 19 rfl rfl)
theorem dX3_together_92 : decode cX3_together 92 = .ok (.iload 4, 2) := dk_21 4 (dk_at dksX3_together_3 22 rfl rfl)
theorem dX3_together_94 : decode cX3_together 94 = .ok (.istore 4, 2) := dk_54 4 (dk_at dksX3_together_4 0 rfl rfl)
theorem dX3_together_96 : decode cX3_together 96 = .ok (.iinc 6 1, 3) := dk_132 6 1 (dk_at dksX3_together_4 2 rfl rfl)
theorem dX3_together_99 : decode cX3_together 99 = .ok (.goto (-64), 3) := dk_167 255 192 (dk_at dksX3_together_4 5 rfl rfl)
theorem dX3_together_102 : decode cX3_together 102 = .ok (.iinc 5 1, 3) := dk_132 5 1 (dk_at dksX3_together_4 8 rfl rfl)
theorem dX3_together_105 : decode cX3_together 105 = .ok (.goto (-83), 3) := dk_167 255 173 (dk_at dksX3_together_4 11 rfl rfl)
theorem dX3_together_108 : decode cX3_together 108 = .ok (.iload 4, 2) := dk_21 4 (dk_at dksX3_together_4 14 rfl rfl)
theorem dX3_together_110 : decode cX3_together 110 = .ok (.ifCond .ne 8, 3) := dk_154 0 8 (dk_at dksX3_together_4 16 rfl rfl)
theorem dX3_together_113 : decode cX3_together 113 = .ok (.ldc 110, 2) := dk_18 110 (dk_at dksX3_together_4 19 rfl rfl)
theorem dX3_together_115 : decode cX3_together 115 = .ok (.goto 22, 3) := dk_167 0 22 (dk_at dksX3_together_4 21 rfl rfl)
theorem dX3_together_118 : decode cX3_together 118 = .ok (.iload_n 1, 1) := dk_27 (dk_at dksX3_together_5 0 rfl rfl)
theorem dX3_together_119 : decode cX3_together 119 = .ok (.ifCond .ne 7, 3) := dk_154 0 7 (dk_at dksX3_together_5 1 rfl rfl)
theorem dX3_together_122 : decode cX3_together 122 = .ok (.iload_n 2, 1) := dk_28 (dk_at dksX3_together_5 4 rfl rfl)
theorem dX3_together_123 : decode cX3_together 123 = .ok (.goto 14, 3) := dk_167 0 14 (dk_at dksX3_together_5 5 rfl rfl)
theorem dX3_together_126 : decode cX3_together 126 = .ok (.iload_n 1, 1) := dk_27 (dk_at dksX3_together_5 8 rfl rfl)
theorem dX3_together_127 : decode cX3_together 127 = .ok (.iconst 1, 1) := dk_4 (dk_at dksX3_together_5 9 rfl rfl)
theorem dX3_together_128 : decode cX3_together 128 = .ok (.if_icmp .ne 7, 3) := dk_160 0 7 (dk_at dksX3_together_5 10 rfl rfl)
theorem dX3_together_131 : decode cX3_together 131 = .ok (.iload_n 3, 1) := dk_29 (dk_at dksX3_together_5 13 rfl rfl)
theorem dX3_together_132 : decode cX3_together 132 = .ok (.goto 5, 3) := dk_167 0 5 (dk_at dksX3_together_5 14 rfl rfl)
theorem dX3_together_135 : decode cX3_together 135 = .ok (.iload 4, 2) := dk_21 4 (dk_at dksX3_together_5 17 rfl rfl)
theorem dX3_together_137 : decode cX3_together 137 = .ok (.ireturn, 1) := dk_172 (dk_at dksX3_together_5 19 rfl rfl)
abbrev cX3_both : ByteArray := prog_12_method_54_code
def yX3_both : MethodName := ⟨RX3, "both", "(II)I"⟩
def dkwX3_both_2 : List UInt8 := [132, 4, 1, 167, 255, 212, 29, 172]
abbrev dktX3_both_2 : List UInt8 := dkwX3_both_2 ++ []
def dkwX3_both_1 : List UInt8 := [182, 0, 118, 158, 0, 17, 42, 21, 4, 28, 182, 0, 118, 158, 0, 7, 4, 167, 0, 4, 3, 96, 62]
abbrev dktX3_both_1 : List UInt8 := dkwX3_both_1 ++ dktX3_both_2
def dkwX3_both_0 : List UInt8 := [3, 62, 3, 54, 4, 21, 4, 42, 180, 0, 7, 17, 1, 26, 46, 162, 0, 37, 29, 42, 21, 4, 27]
abbrev dktX3_both_0 : List UInt8 := dkwX3_both_0 ++ dktX3_both_1
theorem dksX3_both_0 : cX3_both.data.toList.drop 0 = dktX3_both_0 := by decide +kernel
theorem dksX3_both_1 : cX3_both.data.toList.drop 23 = dktX3_both_1 := dk_seg dksX3_both_0 23 rfl rfl
theorem dksX3_both_2 : cX3_both.data.toList.drop 46 = dktX3_both_2 := dk_seg dksX3_both_1 23 rfl rfl
theorem dX3_both_0 : decode cX3_both 0 = .ok (.iconst 0, 1) := dk_3 (dk_at dksX3_both_0 0 rfl rfl)
theorem dX3_both_1 : decode cX3_both 1 = .ok (.istore_n 3, 1) := dk_62 (dk_at dksX3_both_0 1 rfl rfl)
theorem dX3_both_2 : decode cX3_both 2 = .ok (.iconst 0, 1) := dk_3 (dk_at dksX3_both_0 2 rfl rfl)
theorem dX3_both_3 : decode cX3_both 3 = .ok (.istore 4, 2) := dk_54 4 (dk_at dksX3_both_0 3 rfl rfl)
theorem dX3_both_5 : decode cX3_both 5 = .ok (.iload 4, 2) := dk_21 4 (dk_at dksX3_both_0 5 rfl rfl)
theorem dX3_both_7 : decode cX3_both 7 = .ok (.aload_n 0, 1) := dk_42 (dk_at dksX3_both_0 7 rfl rfl)
theorem dX3_both_8 : decode cX3_both 8 = .ok (.getfield 7, 3) := dk_180 0 7 (dk_at dksX3_both_0 8 rfl rfl)
theorem dX3_both_11 : decode cX3_both 11 = .ok (.sipush 282, 3) := dk_17 1 26 (dk_at dksX3_both_0 11 rfl rfl)
theorem dX3_both_14 : decode cX3_both 14 = .ok (.iaload, 1) := dk_46 (dk_at dksX3_both_0 14 rfl rfl)
theorem dX3_both_15 : decode cX3_both 15 = .ok (.if_icmp .ge 37, 3) := dk_162 0 37 (dk_at dksX3_both_0 15 rfl rfl)
theorem dX3_both_18 : decode cX3_both 18 = .ok (.iload_n 3, 1) := dk_29 (dk_at dksX3_both_0 18 rfl rfl)
theorem dX3_both_19 : decode cX3_both 19 = .ok (.aload_n 0, 1) := dk_42 (dk_at dksX3_both_0 19 rfl rfl)
theorem dX3_both_20 : decode cX3_both 20 = .ok (.iload 4, 2) := dk_21 4 (dk_at dksX3_both_0 20 rfl rfl)
theorem dX3_both_22 : decode cX3_both 22 = .ok (.iload_n 1, 1) := dk_27 (dk_at dksX3_both_0 22 rfl rfl)
theorem dX3_both_23 : decode cX3_both 23 = .ok (.invokevirtual 118, 3) := dk_182 0 118 (dk_at dksX3_both_1 0 rfl rfl)
theorem dX3_both_26 : decode cX3_both 26 = .ok (.ifCond .le 17, 3) := dk_158 0 17 (dk_at dksX3_both_1 3 rfl rfl)
theorem dX3_both_29 : decode cX3_both 29 = .ok (.aload_n 0, 1) := dk_42 (dk_at dksX3_both_1 6 rfl rfl)
theorem dX3_both_30 : decode cX3_both 30 = .ok (.iload 4, 2) := dk_21 4 (dk_at dksX3_both_1 7 rfl rfl)
theorem dX3_both_32 : decode cX3_both 32 = .ok (.iload_n 2, 1) := dk_28 (dk_at dksX3_both_1 9 rfl rfl)
theorem dX3_both_33 : decode cX3_both 33 = .ok (.invokevirtual 118, 3) := dk_182 0 118 (dk_at dksX3_both_1 10 rfl rfl)
theorem dX3_both_36 : decode cX3_both 36 = .ok (.ifCond .le 7, 3) := dk_158 0 7 (dk_at dksX3_both_1 13 rfl rfl)
theorem dX3_both_39 : decode cX3_both 39 = .ok (.iconst 1, 1) := dk_4 (dk_at dksX3_both_1 16 rfl rfl)
theorem dX3_both_40 : decode cX3_both 40 = .ok (.goto 4, 3) := dk_167 0 4 (dk_at dksX3_both_1 17 rfl rfl)
theorem dX3_both_43 : decode cX3_both 43 = .ok (.iconst 0, 1) := dk_3 (dk_at dksX3_both_1 20 rfl rfl)
theorem dX3_both_44 : decode cX3_both 44 = .ok (.iadd, 1) := dk_96 (dk_at dksX3_both_1 21 rfl rfl)
theorem dX3_both_45 : decode cX3_both 45 = .ok (.istore_n 3, 1) := dk_62 (dk_at dksX3_both_1 22 rfl rfl)
theorem dX3_both_46 : decode cX3_both 46 = .ok (.iinc 4 1, 3) := dk_132 4 1 (dk_at dksX3_both_2 0 rfl rfl)
theorem dX3_both_49 : decode cX3_both 49 = .ok (.goto (-44), 3) := dk_167 255 212 (dk_at dksX3_both_2 3 rfl rfl)
theorem dX3_both_52 : decode cX3_both 52 = .ok (.iload_n 3, 1) := dk_29 (dk_at dksX3_both_2 6 rfl rfl)
theorem dX3_both_53 : decode cX3_both 53 = .ok (.ireturn, 1) := dk_172 (dk_at dksX3_both_2 7 rfl rfl)
abbrev cX3_silence : ByteArray := prog_12_method_57_code
def yX3_silence : MethodName := ⟨RX3, "silence", "(I)I"⟩
def dkwX3_silence_5 : List UInt8 := [154, 0, 7, 28, 167, 0, 4, 29, 172]
abbrev dktX3_silence_5 : List UInt8 := dkwX3_silence_5 ++ []
def dkwX3_silence_4 : List UInt8 := [21, 4, 167, 0, 4, 29, 62, 132, 6, 1, 167, 255, 185, 29, 154, 0, 8, 18, 110, 167, 0, 12, 27]
abbrev dktX3_silence_4 : List UInt8 := dkwX3_silence_4 ++ dktX3_silence_5
def dkwX3_silence_3 : List UInt8 := [21, 4, 29, 164, 0, 13, 21, 6, 21, 4, 100, 4, 96, 167, 0, 4, 28, 61, 21, 4, 29, 164, 0, 8]
abbrev dktX3_silence_3 : List UInt8 := dkwX3_silence_3 ++ dktX3_silence_4
def dkwX3_silence_2 : List UInt8 := [46, 158, 0, 59, 42, 21, 6, 182, 0, 107, 154, 0, 10, 21, 4, 4, 96, 167, 0, 4, 3, 54, 4]
abbrev dktX3_silence_2 : List UInt8 := dkwX3_silence_2 ++ dktX3_silence_3
def dkwX3_silence_1 : List UInt8 := [54, 5, 42, 3, 3, 182, 0, 47, 54, 6, 21, 6, 21, 5, 162, 0, 70, 42, 180, 0, 7, 17, 1, 26]
abbrev dktX3_silence_1 : List UInt8 := dkwX3_silence_1 ++ dktX3_silence_2
def dkwX3_silence_0 : List UInt8 := [27, 3, 4, 184, 0, 39, 154, 0, 6, 18, 50, 172, 3, 61, 3, 62, 3, 54, 4, 42, 182, 0, 155]
abbrev dktX3_silence_0 : List UInt8 := dkwX3_silence_0 ++ dktX3_silence_1
theorem dksX3_silence_0 : cX3_silence.data.toList.drop 0 = dktX3_silence_0 := by decide +kernel
theorem dksX3_silence_1 : cX3_silence.data.toList.drop 23 = dktX3_silence_1 := dk_seg dksX3_silence_0 23 rfl rfl
theorem dksX3_silence_2 : cX3_silence.data.toList.drop 47 = dktX3_silence_2 := dk_seg dksX3_silence_1 24 rfl rfl
theorem dksX3_silence_3 : cX3_silence.data.toList.drop 70 = dktX3_silence_3 := dk_seg dksX3_silence_2 23 rfl rfl
theorem dksX3_silence_4 : cX3_silence.data.toList.drop 94 = dktX3_silence_4 := dk_seg dksX3_silence_3 24 rfl rfl
theorem dksX3_silence_5 : cX3_silence.data.toList.drop 117 = dktX3_silence_5 := dk_seg dksX3_silence_4 23 rfl rfl
theorem dX3_silence_0 : decode cX3_silence 0 = .ok (.iload_n 1, 1) := dk_27 (dk_at dksX3_silence_0 0 rfl rfl)
theorem dX3_silence_1 : decode cX3_silence 1 = .ok (.iconst 0, 1) := dk_3 (dk_at dksX3_silence_0 1 rfl rfl)
theorem dX3_silence_2 : decode cX3_silence 2 = .ok (.iconst 1, 1) := dk_4 (dk_at dksX3_silence_0 2 rfl rfl)
theorem dX3_silence_3 : decode cX3_silence 3 = .ok (.invokestatic 39, 3) := dk_184 0 39 (dk_at dksX3_silence_0 3 rfl rfl)
theorem dX3_silence_6 : decode cX3_silence 6 = .ok (.ifCond .ne 6, 3) := dk_154 0 6 (dk_at dksX3_silence_0 6 rfl rfl)
theorem dX3_silence_9 : decode cX3_silence 9 = .ok (.ldc 50, 2) := dk_18 50 (dk_at dksX3_silence_0 9 rfl rfl)
theorem dX3_silence_11 : decode cX3_silence 11 = .ok (.ireturn, 1) := dk_172 (dk_at dksX3_silence_0 11 rfl rfl)
theorem dX3_silence_12 : decode cX3_silence 12 = .ok (.iconst 0, 1) := dk_3 (dk_at dksX3_silence_0 12 rfl rfl)
theorem dX3_silence_13 : decode cX3_silence 13 = .ok (.istore_n 2, 1) := dk_61 (dk_at dksX3_silence_0 13 rfl rfl)
theorem dX3_silence_14 : decode cX3_silence 14 = .ok (.iconst 0, 1) := dk_3 (dk_at dksX3_silence_0 14 rfl rfl)
theorem dX3_silence_15 : decode cX3_silence 15 = .ok (.istore_n 3, 1) := dk_62 (dk_at dksX3_silence_0 15 rfl rfl)
theorem dX3_silence_16 : decode cX3_silence 16 = .ok (.iconst 0, 1) := dk_3 (dk_at dksX3_silence_0 16 rfl rfl)
theorem dX3_silence_17 : decode cX3_silence 17 = .ok (.istore 4, 2) := dk_54 4 (dk_at dksX3_silence_0 17 rfl rfl)
theorem dX3_silence_19 : decode cX3_silence 19 = .ok (.aload_n 0, 1) := dk_42 (dk_at dksX3_silence_0 19 rfl rfl)
theorem dX3_silence_20 : decode cX3_silence 20 = .ok (.invokevirtual 155, 3) := dk_182 0 155 (dk_at dksX3_silence_0 20 rfl rfl)
theorem dX3_silence_23 : decode cX3_silence 23 = .ok (.istore 5, 2) := dk_54 5 (dk_at dksX3_silence_1 0 rfl rfl)
theorem dX3_silence_25 : decode cX3_silence 25 = .ok (.aload_n 0, 1) := dk_42 (dk_at dksX3_silence_1 2 rfl rfl)
theorem dX3_silence_26 : decode cX3_silence 26 = .ok (.iconst 0, 1) := dk_3 (dk_at dksX3_silence_1 3 rfl rfl)
theorem dX3_silence_27 : decode cX3_silence 27 = .ok (.iconst 0, 1) := dk_3 (dk_at dksX3_silence_1 4 rfl rfl)
theorem dX3_silence_28 : decode cX3_silence 28 = .ok (.invokevirtual 47, 3) := dk_182 0 47 (dk_at dksX3_silence_1 5 rfl rfl)
theorem dX3_silence_31 : decode cX3_silence 31 = .ok (.istore 6, 2) := dk_54 6 (dk_at dksX3_silence_1 8 rfl rfl)
theorem dX3_silence_33 : decode cX3_silence 33 = .ok (.iload 6, 2) := dk_21 6 (dk_at dksX3_silence_1 10 rfl rfl)
theorem dX3_silence_35 : decode cX3_silence 35 = .ok (.iload 5, 2) := dk_21 5 (dk_at dksX3_silence_1 12 rfl rfl)
theorem dX3_silence_37 : decode cX3_silence 37 = .ok (.if_icmp .ge 70, 3) := dk_162 0 70 (dk_at dksX3_silence_1 14 rfl rfl)
theorem dX3_silence_40 : decode cX3_silence 40 = .ok (.aload_n 0, 1) := dk_42 (dk_at dksX3_silence_1 17 rfl rfl)
theorem dX3_silence_41 : decode cX3_silence 41 = .ok (.getfield 7, 3) := dk_180 0 7 (dk_at dksX3_silence_1 18 rfl rfl)
theorem dX3_silence_44 : decode cX3_silence 44 = .ok (.sipush 282, 3) := dk_17 1 26 (dk_at dksX3_silence_1 21 rfl rfl)
theorem dX3_silence_47 : decode cX3_silence 47 = .ok (.iaload, 1) := dk_46 (dk_at dksX3_silence_2 0 rfl rfl)
theorem dX3_silence_48 : decode cX3_silence 48 = .ok (.ifCond .le 59, 3) := dk_158 0 59 (dk_at dksX3_silence_2 1 rfl rfl)
theorem dX3_silence_51 : decode cX3_silence 51 = .ok (.aload_n 0, 1) := dk_42 (dk_at dksX3_silence_2 4 rfl rfl)
theorem dX3_silence_52 : decode cX3_silence 52 = .ok (.iload 6, 2) := dk_21 6 (dk_at dksX3_silence_2 5 rfl rfl)
theorem dX3_silence_54 : decode cX3_silence 54 = .ok (.invokevirtual 107, 3) := dk_182 0 107 (dk_at dksX3_silence_2 7 rfl rfl)
theorem dX3_silence_57 : decode cX3_silence 57 = .ok (.ifCond .ne 10, 3) := dk_154 0 10 (dk_at dksX3_silence_2 10 rfl rfl)
theorem dX3_silence_60 : decode cX3_silence 60 = .ok (.iload 4, 2) := dk_21 4 (dk_at dksX3_silence_2 13 rfl rfl)
theorem dX3_silence_62 : decode cX3_silence 62 = .ok (.iconst 1, 1) := dk_4 (dk_at dksX3_silence_2 15 rfl rfl)
theorem dX3_silence_63 : decode cX3_silence 63 = .ok (.iadd, 1) := dk_96 (dk_at dksX3_silence_2 16 rfl rfl)
theorem dX3_silence_64 : decode cX3_silence 64 = .ok (.goto 4, 3) := dk_167 0 4 (dk_at dksX3_silence_2 17 rfl rfl)
theorem dX3_silence_67 : decode cX3_silence 67 = .ok (.iconst 0, 1) := dk_3 (dk_at dksX3_silence_2 20 rfl rfl)
theorem dX3_silence_68 : decode cX3_silence 68 = .ok (.istore 4, 2) := dk_54 4 (dk_at dksX3_silence_2 21 rfl rfl)
theorem dX3_silence_70 : decode cX3_silence 70 = .ok (.iload 4, 2) := dk_21 4 (dk_at dksX3_silence_3 0 rfl rfl)
theorem dX3_silence_72 : decode cX3_silence 72 = .ok (.iload_n 3, 1) := dk_29 (dk_at dksX3_silence_3 2 rfl rfl)
theorem dX3_silence_73 : decode cX3_silence 73 = .ok (.if_icmp .le 13, 3) := dk_164 0 13 (dk_at dksX3_silence_3 3 rfl rfl)
theorem dX3_silence_76 : decode cX3_silence 76 = .ok (.iload 6, 2) := dk_21 6 (dk_at dksX3_silence_3 6 rfl rfl)
theorem dX3_silence_78 : decode cX3_silence 78 = .ok (.iload 4, 2) := dk_21 4 (dk_at dksX3_silence_3 8 rfl rfl)
theorem dX3_silence_80 : decode cX3_silence 80 = .ok (.isub, 1) := dk_100 (dk_at dksX3_silence_3 10 rfl rfl)
theorem dX3_silence_81 : decode cX3_silence 81 = .ok (.iconst 1, 1) := dk_4 (dk_at dksX3_silence_3 11 rfl rfl)
theorem dX3_silence_82 : decode cX3_silence 82 = .ok (.iadd, 1) := dk_96 (dk_at dksX3_silence_3 12 rfl rfl)
theorem dX3_silence_83 : decode cX3_silence 83 = .ok (.goto 4, 3) := dk_167 0 4 (dk_at dksX3_silence_3 13 rfl rfl)
theorem dX3_silence_86 : decode cX3_silence 86 = .ok (.iload_n 2, 1) := dk_28 (dk_at dksX3_silence_3 16 rfl rfl)
theorem dX3_silence_87 : decode cX3_silence 87 = .ok (.istore_n 2, 1) := dk_61 (dk_at dksX3_silence_3 17 rfl rfl)
theorem dX3_silence_88 : decode cX3_silence 88 = .ok (.iload 4, 2) := dk_21 4 (dk_at dksX3_silence_3 18 rfl rfl)
theorem dX3_silence_90 : decode cX3_silence 90 = .ok (.iload_n 3, 1) := dk_29 (dk_at dksX3_silence_3 20 rfl rfl)
theorem dX3_silence_91 : decode cX3_silence 91 = .ok (.if_icmp .le 8, 3) := dk_164 0 8 (dk_at dksX3_silence_3 21 rfl rfl)
theorem dX3_silence_94 : decode cX3_silence 94 = .ok (.iload 4, 2) := dk_21 4 (dk_at dksX3_silence_4 0 rfl rfl)
theorem dX3_silence_96 : decode cX3_silence 96 = .ok (.goto 4, 3) := dk_167 0 4 (dk_at dksX3_silence_4 2 rfl rfl)
theorem dX3_silence_99 : decode cX3_silence 99 = .ok (.iload_n 3, 1) := dk_29 (dk_at dksX3_silence_4 5 rfl rfl)
theorem dX3_silence_100 : decode cX3_silence 100 = .ok (.istore_n 3, 1) := dk_62 (dk_at dksX3_silence_4 6 rfl rfl)
theorem dX3_silence_101 : decode cX3_silence 101 = .ok (.iinc 6 1, 3) := dk_132 6 1 (dk_at dksX3_silence_4 7 rfl rfl)
theorem dX3_silence_104 : decode cX3_silence 104 = .ok (.goto (-71), 3) := dk_167 255 185 (dk_at dksX3_silence_4 10 rfl rfl)
theorem dX3_silence_107 : decode cX3_silence 107 = .ok (.iload_n 3, 1) := dk_29 (dk_at dksX3_silence_4 13 rfl rfl)
theorem dX3_silence_108 : decode cX3_silence 108 = .ok (.ifCond .ne 8, 3) := dk_154 0 8 (dk_at dksX3_silence_4 14 rfl rfl)
theorem dX3_silence_111 : decode cX3_silence 111 = .ok (.ldc 110, 2) := dk_18 110 (dk_at dksX3_silence_4 17 rfl rfl)
theorem dX3_silence_113 : decode cX3_silence 113 = .ok (.goto 12, 3) := dk_167 0 12 (dk_at dksX3_silence_4 19 rfl rfl)
theorem dX3_silence_116 : decode cX3_silence 116 = .ok (.iload_n 1, 1) := dk_27 (dk_at dksX3_silence_4 22 rfl rfl)
theorem dX3_silence_117 : decode cX3_silence 117 = .ok (.ifCond .ne 7, 3) := dk_154 0 7 (dk_at dksX3_silence_5 0 rfl rfl)
theorem dX3_silence_120 : decode cX3_silence 120 = .ok (.iload_n 2, 1) := dk_28 (dk_at dksX3_silence_5 3 rfl rfl)
theorem dX3_silence_121 : decode cX3_silence 121 = .ok (.goto 4, 3) := dk_167 0 4 (dk_at dksX3_silence_5 4 rfl rfl)
theorem dX3_silence_124 : decode cX3_silence 124 = .ok (.iload_n 3, 1) := dk_29 (dk_at dksX3_silence_5 7 rfl rfl)
theorem dX3_silence_125 : decode cX3_silence 125 = .ok (.ireturn, 1) := dk_172 (dk_at dksX3_silence_5 8 rfl rfl)
abbrev cX3_lastEnd : ByteArray := prog_12_method_56_code
def yX3_lastEnd : MethodName := ⟨RX3, "lastEnd", "()I"⟩
def dkwX3_lastEnd_1 : List UInt8 := [164, 0, 12, 42, 28, 4, 182, 0, 47, 167, 0, 4, 27, 60, 132, 2, 1, 167, 255, 220, 27, 172]
abbrev dktX3_lastEnd_1 : List UInt8 := dkwX3_lastEnd_1 ++ []
def dkwX3_lastEnd_0 : List UInt8 := [3, 60, 3, 61, 28, 42, 180, 0, 7, 17, 1, 26, 46, 162, 0, 30, 42, 28, 4, 182, 0, 47, 27]
abbrev dktX3_lastEnd_0 : List UInt8 := dkwX3_lastEnd_0 ++ dktX3_lastEnd_1
theorem dksX3_lastEnd_0 : cX3_lastEnd.data.toList.drop 0 = dktX3_lastEnd_0 := by decide +kernel
theorem dksX3_lastEnd_1 : cX3_lastEnd.data.toList.drop 23 = dktX3_lastEnd_1 := dk_seg dksX3_lastEnd_0 23 rfl rfl
theorem dX3_lastEnd_0 : decode cX3_lastEnd 0 = .ok (.iconst 0, 1) := dk_3 (dk_at dksX3_lastEnd_0 0 rfl rfl)
theorem dX3_lastEnd_1 : decode cX3_lastEnd 1 = .ok (.istore_n 1, 1) := dk_60 (dk_at dksX3_lastEnd_0 1 rfl rfl)
theorem dX3_lastEnd_2 : decode cX3_lastEnd 2 = .ok (.iconst 0, 1) := dk_3 (dk_at dksX3_lastEnd_0 2 rfl rfl)
theorem dX3_lastEnd_3 : decode cX3_lastEnd 3 = .ok (.istore_n 2, 1) := dk_61 (dk_at dksX3_lastEnd_0 3 rfl rfl)
theorem dX3_lastEnd_4 : decode cX3_lastEnd 4 = .ok (.iload_n 2, 1) := dk_28 (dk_at dksX3_lastEnd_0 4 rfl rfl)
theorem dX3_lastEnd_5 : decode cX3_lastEnd 5 = .ok (.aload_n 0, 1) := dk_42 (dk_at dksX3_lastEnd_0 5 rfl rfl)
theorem dX3_lastEnd_6 : decode cX3_lastEnd 6 = .ok (.getfield 7, 3) := dk_180 0 7 (dk_at dksX3_lastEnd_0 6 rfl rfl)
theorem dX3_lastEnd_9 : decode cX3_lastEnd 9 = .ok (.sipush 282, 3) := dk_17 1 26 (dk_at dksX3_lastEnd_0 9 rfl rfl)
theorem dX3_lastEnd_12 : decode cX3_lastEnd 12 = .ok (.iaload, 1) := dk_46 (dk_at dksX3_lastEnd_0 12 rfl rfl)
theorem dX3_lastEnd_13 : decode cX3_lastEnd 13 = .ok (.if_icmp .ge 30, 3) := dk_162 0 30 (dk_at dksX3_lastEnd_0 13 rfl rfl)
theorem dX3_lastEnd_16 : decode cX3_lastEnd 16 = .ok (.aload_n 0, 1) := dk_42 (dk_at dksX3_lastEnd_0 16 rfl rfl)
theorem dX3_lastEnd_17 : decode cX3_lastEnd 17 = .ok (.iload_n 2, 1) := dk_28 (dk_at dksX3_lastEnd_0 17 rfl rfl)
theorem dX3_lastEnd_18 : decode cX3_lastEnd 18 = .ok (.iconst 1, 1) := dk_4 (dk_at dksX3_lastEnd_0 18 rfl rfl)
theorem dX3_lastEnd_19 : decode cX3_lastEnd 19 = .ok (.invokevirtual 47, 3) := dk_182 0 47 (dk_at dksX3_lastEnd_0 19 rfl rfl)
theorem dX3_lastEnd_22 : decode cX3_lastEnd 22 = .ok (.iload_n 1, 1) := dk_27 (dk_at dksX3_lastEnd_0 22 rfl rfl)
theorem dX3_lastEnd_23 : decode cX3_lastEnd 23 = .ok (.if_icmp .le 12, 3) := dk_164 0 12 (dk_at dksX3_lastEnd_1 0 rfl rfl)
theorem dX3_lastEnd_26 : decode cX3_lastEnd 26 = .ok (.aload_n 0, 1) := dk_42 (dk_at dksX3_lastEnd_1 3 rfl rfl)
theorem dX3_lastEnd_27 : decode cX3_lastEnd 27 = .ok (.iload_n 2, 1) := dk_28 (dk_at dksX3_lastEnd_1 4 rfl rfl)
theorem dX3_lastEnd_28 : decode cX3_lastEnd 28 = .ok (.iconst 1, 1) := dk_4 (dk_at dksX3_lastEnd_1 5 rfl rfl)
theorem dX3_lastEnd_29 : decode cX3_lastEnd 29 = .ok (.invokevirtual 47, 3) := dk_182 0 47 (dk_at dksX3_lastEnd_1 6 rfl rfl)
theorem dX3_lastEnd_32 : decode cX3_lastEnd 32 = .ok (.goto 4, 3) := dk_167 0 4 (dk_at dksX3_lastEnd_1 9 rfl rfl)
theorem dX3_lastEnd_35 : decode cX3_lastEnd 35 = .ok (.iload_n 1, 1) := dk_27 (dk_at dksX3_lastEnd_1 12 rfl rfl)
theorem dX3_lastEnd_36 : decode cX3_lastEnd 36 = .ok (.istore_n 1, 1) := dk_60 (dk_at dksX3_lastEnd_1 13 rfl rfl)
theorem dX3_lastEnd_37 : decode cX3_lastEnd 37 = .ok (.iinc 2 1, 3) := dk_132 2 1 (dk_at dksX3_lastEnd_1 14 rfl rfl)
theorem dX3_lastEnd_40 : decode cX3_lastEnd 40 = .ok (.goto (-36), 3) := dk_167 255 220 (dk_at dksX3_lastEnd_1 17 rfl rfl)
theorem dX3_lastEnd_43 : decode cX3_lastEnd 43 = .ok (.iload_n 1, 1) := dk_27 (dk_at dksX3_lastEnd_1 20 rfl rfl)
theorem dX3_lastEnd_44 : decode cX3_lastEnd 44 = .ok (.ireturn, 1) := dk_172 (dk_at dksX3_lastEnd_1 21 rfl rfl)
abbrev cX3_doubtful : ByteArray := prog_12_method_58_code
def yX3_doubtful : MethodName := ⟨RX3, "doubtful", "(I)I"⟩
def dkwX3_doubtful_5 : List UInt8 := [167, 0, 4, 29, 172]
abbrev dktX3_doubtful_5 : List UInt8 := dkwX3_doubtful_5 ++ []
def dkwX3_doubtful_4 : List UInt8 := [21, 5, 167, 0, 4, 29, 62, 132, 4, 1, 167, 255, 172, 28, 155, 0, 7, 27, 154, 0, 7, 28]
abbrev dktX3_doubtful_4 : List UInt8 := dkwX3_doubtful_4 ++ dktX3_doubtful_5
def dkwX3_doubtful_3 : List UInt8 := [184, 0, 43, 54, 5, 21, 5, 29, 164, 0, 8, 21, 4, 167, 0, 4, 28, 61, 21, 5, 29, 164, 0, 8]
abbrev dktX3_doubtful_3 : List UInt8 := dkwX3_doubtful_3 ++ dktX3_doubtful_4
def dkwX3_doubtful_2 : List UInt8 := [42, 180, 0, 7, 17, 1, 20, 42, 21, 4, 6, 182, 0, 47, 96, 46, 42, 21, 4, 5, 182, 0, 47]
abbrev dktX3_doubtful_2 : List UInt8 := dkwX3_doubtful_2 ++ dktX3_doubtful_3
def dkwX3_doubtful_1 : List UInt8 := [180, 0, 7, 17, 1, 26, 46, 162, 0, 77, 42, 21, 4, 6, 182, 0, 47, 156, 0, 7, 2, 167, 0, 29]
abbrev dktX3_doubtful_1 : List UInt8 := dkwX3_doubtful_1 ++ dktX3_doubtful_2
def dkwX3_doubtful_0 : List UInt8 := [27, 3, 4, 184, 0, 39, 154, 0, 6, 18, 50, 172, 18, 110, 61, 2, 62, 3, 54, 4, 21, 4, 42]
abbrev dktX3_doubtful_0 : List UInt8 := dkwX3_doubtful_0 ++ dktX3_doubtful_1
theorem dksX3_doubtful_0 : cX3_doubtful.data.toList.drop 0 = dktX3_doubtful_0 := by decide +kernel
theorem dksX3_doubtful_1 : cX3_doubtful.data.toList.drop 23 = dktX3_doubtful_1 := dk_seg dksX3_doubtful_0 23 rfl rfl
theorem dksX3_doubtful_2 : cX3_doubtful.data.toList.drop 47 = dktX3_doubtful_2 := dk_seg dksX3_doubtful_1 24 rfl rfl
theorem dksX3_doubtful_3 : cX3_doubtful.data.toList.drop 70 = dktX3_doubtful_3 := dk_seg dksX3_doubtful_2 23 rfl rfl
theorem dksX3_doubtful_4 : cX3_doubtful.data.toList.drop 94 = dktX3_doubtful_4 := dk_seg dksX3_doubtful_3 24 rfl rfl
theorem dksX3_doubtful_5 : cX3_doubtful.data.toList.drop 116 = dktX3_doubtful_5 := dk_seg dksX3_doubtful_4 22 rfl rfl
theorem dX3_doubtful_0 : decode cX3_doubtful 0 = .ok (.iload_n 1, 1) := dk_27 (dk_at dksX3_doubtful_0 0 rfl rfl)
theorem dX3_doubtful_1 : decode cX3_doubtful 1 = .ok (.iconst 0, 1) := dk_3 (dk_at dksX3_doubtful_0 1 rfl rfl)
theorem dX3_doubtful_2 : decode cX3_doubtful 2 = .ok (.iconst 1, 1) := dk_4 (dk_at dksX3_doubtful_0 2 rfl rfl)
theorem dX3_doubtful_3 : decode cX3_doubtful 3 = .ok (.invokestatic 39, 3) := dk_184 0 39 (dk_at dksX3_doubtful_0 3 rfl rfl)
theorem dX3_doubtful_6 : decode cX3_doubtful 6 = .ok (.ifCond .ne 6, 3) := dk_154 0 6 (dk_at dksX3_doubtful_0 6 rfl rfl)
theorem dX3_doubtful_9 : decode cX3_doubtful 9 = .ok (.ldc 50, 2) := dk_18 50 (dk_at dksX3_doubtful_0 9 rfl rfl)
theorem dX3_doubtful_11 : decode cX3_doubtful 11 = .ok (.ireturn, 1) := dk_172 (dk_at dksX3_doubtful_0 11 rfl rfl)
theorem dX3_doubtful_12 : decode cX3_doubtful 12 = .ok (.ldc 110, 2) := dk_18 110 (dk_at dksX3_doubtful_0 12 rfl rfl)
theorem dX3_doubtful_14 : decode cX3_doubtful 14 = .ok (.istore_n 2, 1) := dk_61 (dk_at dksX3_doubtful_0 14 rfl rfl)
theorem dX3_doubtful_15 : decode cX3_doubtful 15 = .ok (.iconst (-1), 1) := dk_2 (dk_at dksX3_doubtful_0 15 rfl rfl)
theorem dX3_doubtful_16 : decode cX3_doubtful 16 = .ok (.istore_n 3, 1) := dk_62 (dk_at dksX3_doubtful_0 16 rfl rfl)
theorem dX3_doubtful_17 : decode cX3_doubtful 17 = .ok (.iconst 0, 1) := dk_3 (dk_at dksX3_doubtful_0 17 rfl rfl)
theorem dX3_doubtful_18 : decode cX3_doubtful 18 = .ok (.istore 4, 2) := dk_54 4 (dk_at dksX3_doubtful_0 18 rfl rfl)
theorem dX3_doubtful_20 : decode cX3_doubtful 20 = .ok (.iload 4, 2) := dk_21 4 (dk_at dksX3_doubtful_0 20 rfl rfl)
theorem dX3_doubtful_22 : decode cX3_doubtful 22 = .ok (.aload_n 0, 1) := dk_42 (dk_at dksX3_doubtful_0 22 rfl rfl)
theorem dX3_doubtful_23 : decode cX3_doubtful 23 = .ok (.getfield 7, 3) := dk_180 0 7 (dk_at dksX3_doubtful_1 0 rfl rfl)
theorem dX3_doubtful_26 : decode cX3_doubtful 26 = .ok (.sipush 282, 3) := dk_17 1 26 (dk_at dksX3_doubtful_1 3 rfl rfl)
theorem dX3_doubtful_29 : decode cX3_doubtful 29 = .ok (.iaload, 1) := dk_46 (dk_at dksX3_doubtful_1 6 rfl rfl)
theorem dX3_doubtful_30 : decode cX3_doubtful 30 = .ok (.if_icmp .ge 77, 3) := dk_162 0 77 (dk_at dksX3_doubtful_1 7 rfl rfl)
theorem dX3_doubtful_33 : decode cX3_doubtful 33 = .ok (.aload_n 0, 1) := dk_42 (dk_at dksX3_doubtful_1 10 rfl rfl)
theorem dX3_doubtful_34 : decode cX3_doubtful 34 = .ok (.iload 4, 2) := dk_21 4 (dk_at dksX3_doubtful_1 11 rfl rfl)
theorem dX3_doubtful_36 : decode cX3_doubtful 36 = .ok (.iconst 3, 1) := dk_6 (dk_at dksX3_doubtful_1 13 rfl rfl)
theorem dX3_doubtful_37 : decode cX3_doubtful 37 = .ok (.invokevirtual 47, 3) := dk_182 0 47 (dk_at dksX3_doubtful_1 14 rfl rfl)
theorem dX3_doubtful_40 : decode cX3_doubtful 40 = .ok (.ifCond .ge 7, 3) := dk_156 0 7 (dk_at dksX3_doubtful_1 17 rfl rfl)
theorem dX3_doubtful_43 : decode cX3_doubtful 43 = .ok (.iconst (-1), 1) := dk_2 (dk_at dksX3_doubtful_1 20 rfl rfl)
theorem dX3_doubtful_44 : decode cX3_doubtful 44 = .ok (.goto 29, 3) := dk_167 0 29 (dk_at dksX3_doubtful_1 21 rfl rfl)
theorem dX3_doubtful_47 : decode cX3_doubtful 47 = .ok (.aload_n 0, 1) := dk_42 (dk_at dksX3_doubtful_2 0 rfl rfl)
theorem dX3_doubtful_48 : decode cX3_doubtful 48 = .ok (.getfield 7, 3) := dk_180 0 7 (dk_at dksX3_doubtful_2 1 rfl rfl)
theorem dX3_doubtful_51 : decode cX3_doubtful 51 = .ok (.sipush 276, 3) := dk_17 1 20 (dk_at dksX3_doubtful_2 4 rfl rfl)
theorem dX3_doubtful_54 : decode cX3_doubtful 54 = .ok (.aload_n 0, 1) := dk_42 (dk_at dksX3_doubtful_2 7 rfl rfl)
theorem dX3_doubtful_55 : decode cX3_doubtful 55 = .ok (.iload 4, 2) := dk_21 4 (dk_at dksX3_doubtful_2 8 rfl rfl)
theorem dX3_doubtful_57 : decode cX3_doubtful 57 = .ok (.iconst 3, 1) := dk_6 (dk_at dksX3_doubtful_2 10 rfl rfl)
theorem dX3_doubtful_58 : decode cX3_doubtful 58 = .ok (.invokevirtual 47, 3) := dk_182 0 47 (dk_at dksX3_doubtful_2 11 rfl rfl)
theorem dX3_doubtful_61 : decode cX3_doubtful 61 = .ok (.iadd, 1) := dk_96 (dk_at dksX3_doubtful_2 14 rfl rfl)
theorem dX3_doubtful_62 : decode cX3_doubtful 62 = .ok (.iaload, 1) := dk_46 (dk_at dksX3_doubtful_2 15 rfl rfl)
theorem dX3_doubtful_63 : decode cX3_doubtful 63 = .ok (.aload_n 0, 1) := dk_42 (dk_at dksX3_doubtful_2 16 rfl rfl)
theorem dX3_doubtful_64 : decode cX3_doubtful 64 = .ok (.iload 4, 2) := dk_21 4 (dk_at dksX3_doubtful_2 17 rfl rfl)
theorem dX3_doubtful_66 : decode cX3_doubtful 66 = .ok (.iconst 2, 1) := dk_5 (dk_at dksX3_doubtful_2 19 rfl rfl)
theorem dX3_doubtful_67 : decode cX3_doubtful 67 = .ok (.invokevirtual 47, 3) := dk_182 0 47 (dk_at dksX3_doubtful_2 20 rfl rfl)
theorem dX3_doubtful_70 : decode cX3_doubtful 70 = .ok (.invokestatic 43, 3) := dk_184 0 43 (dk_at dksX3_doubtful_3 0 rfl rfl)
theorem dX3_doubtful_73 : decode cX3_doubtful 73 = .ok (.istore 5, 2) := dk_54 5 (dk_at dksX3_doubtful_3 3 rfl rfl)
theorem dX3_doubtful_75 : decode cX3_doubtful 75 = .ok (.iload 5, 2) := dk_21 5 (dk_at dksX3_doubtful_3 5 rfl rfl)
theorem dX3_doubtful_77 : decode cX3_doubtful 77 = .ok (.iload_n 3, 1) := dk_29 (dk_at dksX3_doubtful_3 7 rfl rfl)
theorem dX3_doubtful_78 : decode cX3_doubtful 78 = .ok (.if_icmp .le 8, 3) := dk_164 0 8 (dk_at dksX3_doubtful_3 8 rfl rfl)
theorem dX3_doubtful_81 : decode cX3_doubtful 81 = .ok (.iload 4, 2) := dk_21 4 (dk_at dksX3_doubtful_3 11 rfl rfl)
theorem dX3_doubtful_83 : decode cX3_doubtful 83 = .ok (.goto 4, 3) := dk_167 0 4 (dk_at dksX3_doubtful_3 13 rfl rfl)
theorem dX3_doubtful_86 : decode cX3_doubtful 86 = .ok (.iload_n 2, 1) := dk_28 (dk_at dksX3_doubtful_3 16 rfl rfl)
theorem dX3_doubtful_87 : decode cX3_doubtful 87 = .ok (.istore_n 2, 1) := dk_61 (dk_at dksX3_doubtful_3 17 rfl rfl)
theorem dX3_doubtful_88 : decode cX3_doubtful 88 = .ok (.iload 5, 2) := dk_21 5 (dk_at dksX3_doubtful_3 18 rfl rfl)
theorem dX3_doubtful_90 : decode cX3_doubtful 90 = .ok (.iload_n 3, 1) := dk_29 (dk_at dksX3_doubtful_3 20 rfl rfl)
theorem dX3_doubtful_91 : decode cX3_doubtful 91 = .ok (.if_icmp .le 8, 3) := dk_164 0 8 (dk_at dksX3_doubtful_3 21 rfl rfl)
theorem dX3_doubtful_94 : decode cX3_doubtful 94 = .ok (.iload 5, 2) := dk_21 5 (dk_at dksX3_doubtful_4 0 rfl rfl)
theorem dX3_doubtful_96 : decode cX3_doubtful 96 = .ok (.goto 4, 3) := dk_167 0 4 (dk_at dksX3_doubtful_4 2 rfl rfl)
theorem dX3_doubtful_99 : decode cX3_doubtful 99 = .ok (.iload_n 3, 1) := dk_29 (dk_at dksX3_doubtful_4 5 rfl rfl)
theorem dX3_doubtful_100 : decode cX3_doubtful 100 = .ok (.istore_n 3, 1) := dk_62 (dk_at dksX3_doubtful_4 6 rfl rfl)
theorem dX3_doubtful_101 : decode cX3_doubtful 101 = .ok (.iinc 4 1, 3) := dk_132 4 1 (dk_at dksX3_doubtful_4 7 rfl rfl)
theorem dX3_doubtful_104 : decode cX3_doubtful 104 = .ok (.goto (-84), 3) := dk_167 255 172 (dk_at dksX3_doubtful_4 10 rfl rfl)
theorem dX3_doubtful_107 : decode cX3_doubtful 107 = .ok (.iload_n 2, 1) := dk_28 (dk_at dksX3_doubtful_4 13 rfl rfl)
theorem dX3_doubtful_108 : decode cX3_doubtful 108 = .ok (.ifCond .lt 7, 3) := dk_155 0 7 (dk_at dksX3_doubtful_4 14 rfl rfl)
theorem dX3_doubtful_111 : decode cX3_doubtful 111 = .ok (.iload_n 1, 1) := dk_27 (dk_at dksX3_doubtful_4 17 rfl rfl)
theorem dX3_doubtful_112 : decode cX3_doubtful 112 = .ok (.ifCond .ne 7, 3) := dk_154 0 7 (dk_at dksX3_doubtful_4 18 rfl rfl)
theorem dX3_doubtful_115 : decode cX3_doubtful 115 = .ok (.iload_n 2, 1) := dk_28 (dk_at dksX3_doubtful_4 21 rfl rfl)
theorem dX3_doubtful_116 : decode cX3_doubtful 116 = .ok (.goto 4, 3) := dk_167 0 4 (dk_at dksX3_doubtful_5 0 rfl rfl)
theorem dX3_doubtful_119 : decode cX3_doubtful 119 = .ok (.iload_n 3, 1) := dk_29 (dk_at dksX3_doubtful_5 3 rfl rfl)
theorem dX3_doubtful_120 : decode cX3_doubtful 120 = .ok (.ireturn, 1) := dk_172 (dk_at dksX3_doubtful_5 4 rfl rfl)
abbrev cX3_count : ByteArray := prog_12_method_63_code
def yX3_count : MethodName := ⟨RX3, "count", "(I)I"⟩
def dkwX3_count_4 : List UInt8 := [182, 0, 162, 172, 42, 180, 0, 7, 17, 1, 27, 46, 172, 18, 50, 172]
abbrev dktX3_count_4 : List UInt8 := dkwX3_count_4 ++ []
def dkwX3_count_3 : List UInt8 := [182, 0, 168, 172, 42, 27, 8, 100, 182, 0, 171, 172, 42, 180, 0, 35, 172, 42, 180, 0, 174, 172, 42]
abbrev dktX3_count_3 : List UInt8 := dkwX3_count_3 ++ dktX3_count_4
def dkwX3_count_2 : List UInt8 := [42, 180, 0, 7, 17, 1, 26, 46, 172, 42, 182, 0, 162, 184, 0, 159, 172, 42, 27, 182, 0, 165, 172, 42]
abbrev dktX3_count_2 : List UInt8 := dkwX3_count_2 ++ dktX3_count_3
def dkwX3_count_1 : List UInt8 := [170, 0, 0, 0, 0, 0, 159, 0, 0, 0, 0, 0, 0, 0, 20, 0, 0, 0, 99, 0, 0, 0, 108, 0, 0, 0, 116, 0, 0, 0, 122, 0, 0, 0, 116, 0, 0, 0, 116, 0, 0, 0, 127, 0, 0, 0, 127, 0, 0, 0, 135, 0, 0, 0, 140, 0, 0, 0, 145, 0, 0, 0, 159, 0, 0, 0, 159, 0, 0, 0, 159, 0, 0, 0, 159, 0, 0, 0, 159, 0, 0, 0, 159, 0, 0, 0, 159, 0, 0, 0, 159, 0, 0, 0, 159, 0, 0, 0, 150]
abbrev dktX3_count_1 : List UInt8 := dkwX3_count_1 ++ dktX3_count_2
def dkwX3_count_0 : List UInt8 := [27]
abbrev dktX3_count_0 : List UInt8 := dkwX3_count_0 ++ dktX3_count_1
theorem dksX3_count_0 : cX3_count.data.toList.drop 0 = dktX3_count_0 := by decide +kernel
theorem dksX3_count_1 : cX3_count.data.toList.drop 1 = dktX3_count_1 := dk_seg dksX3_count_0 1 rfl rfl
theorem dksX3_count_2 : cX3_count.data.toList.drop 100 = dktX3_count_2 := dk_seg dksX3_count_1 99 rfl rfl
theorem dksX3_count_3 : cX3_count.data.toList.drop 124 = dktX3_count_3 := dk_seg dksX3_count_2 24 rfl rfl
theorem dksX3_count_4 : cX3_count.data.toList.drop 147 = dktX3_count_4 := dk_seg dksX3_count_3 23 rfl rfl
theorem dX3_count_0 : decode cX3_count 0 = .ok (.iload_n 1, 1) := dk_27 (dk_at dksX3_count_0 0 rfl rfl)
theorem dX3_count_1 : decode cX3_count 1 = .ok (.tableswitch 159 0 20 #[99, 108, 116, 122, 116, 116, 127, 127, 135, 140, 145, 159, 159, 159, 159, 159, 159, 159, 159, 159, 150], 99) := by decide +kernel
theorem dX3_count_100 : decode cX3_count 100 = .ok (.aload_n 0, 1) := dk_42 (dk_at dksX3_count_2 0 rfl rfl)
theorem dX3_count_101 : decode cX3_count 101 = .ok (.getfield 7, 3) := dk_180 0 7 (dk_at dksX3_count_2 1 rfl rfl)
theorem dX3_count_104 : decode cX3_count 104 = .ok (.sipush 282, 3) := dk_17 1 26 (dk_at dksX3_count_2 4 rfl rfl)
theorem dX3_count_107 : decode cX3_count 107 = .ok (.iaload, 1) := dk_46 (dk_at dksX3_count_2 7 rfl rfl)
theorem dX3_count_108 : decode cX3_count 108 = .ok (.ireturn, 1) := dk_172 (dk_at dksX3_count_2 8 rfl rfl)
theorem dX3_count_109 : decode cX3_count 109 = .ok (.aload_n 0, 1) := dk_42 (dk_at dksX3_count_2 9 rfl rfl)
theorem dX3_count_110 : decode cX3_count 110 = .ok (.invokevirtual 162, 3) := dk_182 0 162 (dk_at dksX3_count_2 10 rfl rfl)
theorem dX3_count_113 : decode cX3_count 113 = .ok (.invokestatic 159, 3) := dk_184 0 159 (dk_at dksX3_count_2 13 rfl rfl)
theorem dX3_count_116 : decode cX3_count 116 = .ok (.ireturn, 1) := dk_172 (dk_at dksX3_count_2 16 rfl rfl)
theorem dX3_count_117 : decode cX3_count 117 = .ok (.aload_n 0, 1) := dk_42 (dk_at dksX3_count_2 17 rfl rfl)
theorem dX3_count_118 : decode cX3_count 118 = .ok (.iload_n 1, 1) := dk_27 (dk_at dksX3_count_2 18 rfl rfl)
theorem dX3_count_119 : decode cX3_count 119 = .ok (.invokevirtual 165, 3) := dk_182 0 165 (dk_at dksX3_count_2 19 rfl rfl)
theorem dX3_count_122 : decode cX3_count 122 = .ok (.ireturn, 1) := dk_172 (dk_at dksX3_count_2 22 rfl rfl)
theorem dX3_count_123 : decode cX3_count 123 = .ok (.aload_n 0, 1) := dk_42 (dk_at dksX3_count_2 23 rfl rfl)
theorem dX3_count_124 : decode cX3_count 124 = .ok (.invokevirtual 168, 3) := dk_182 0 168 (dk_at dksX3_count_3 0 rfl rfl)
theorem dX3_count_127 : decode cX3_count 127 = .ok (.ireturn, 1) := dk_172 (dk_at dksX3_count_3 3 rfl rfl)
theorem dX3_count_128 : decode cX3_count 128 = .ok (.aload_n 0, 1) := dk_42 (dk_at dksX3_count_3 4 rfl rfl)
theorem dX3_count_129 : decode cX3_count 129 = .ok (.iload_n 1, 1) := dk_27 (dk_at dksX3_count_3 5 rfl rfl)
theorem dX3_count_130 : decode cX3_count 130 = .ok (.iconst 5, 1) := dk_8 (dk_at dksX3_count_3 6 rfl rfl)
theorem dX3_count_131 : decode cX3_count 131 = .ok (.isub, 1) := dk_100 (dk_at dksX3_count_3 7 rfl rfl)
theorem dX3_count_132 : decode cX3_count 132 = .ok (.invokevirtual 171, 3) := dk_182 0 171 (dk_at dksX3_count_3 8 rfl rfl)
theorem dX3_count_135 : decode cX3_count 135 = .ok (.ireturn, 1) := dk_172 (dk_at dksX3_count_3 11 rfl rfl)
theorem dX3_count_136 : decode cX3_count 136 = .ok (.aload_n 0, 1) := dk_42 (dk_at dksX3_count_3 12 rfl rfl)
theorem dX3_count_137 : decode cX3_count 137 = .ok (.getfield 35, 3) := dk_180 0 35 (dk_at dksX3_count_3 13 rfl rfl)
theorem dX3_count_140 : decode cX3_count 140 = .ok (.ireturn, 1) := dk_172 (dk_at dksX3_count_3 16 rfl rfl)
theorem dX3_count_141 : decode cX3_count 141 = .ok (.aload_n 0, 1) := dk_42 (dk_at dksX3_count_3 17 rfl rfl)
theorem dX3_count_142 : decode cX3_count 142 = .ok (.getfield 174, 3) := dk_180 0 174 (dk_at dksX3_count_3 18 rfl rfl)
theorem dX3_count_145 : decode cX3_count 145 = .ok (.ireturn, 1) := dk_172 (dk_at dksX3_count_3 21 rfl rfl)
theorem dX3_count_146 : decode cX3_count 146 = .ok (.aload_n 0, 1) := dk_42 (dk_at dksX3_count_3 22 rfl rfl)
theorem dX3_count_147 : decode cX3_count 147 = .ok (.invokevirtual 162, 3) := dk_182 0 162 (dk_at dksX3_count_4 0 rfl rfl)
theorem dX3_count_150 : decode cX3_count 150 = .ok (.ireturn, 1) := dk_172 (dk_at dksX3_count_4 3 rfl rfl)
theorem dX3_count_151 : decode cX3_count 151 = .ok (.aload_n 0, 1) := dk_42 (dk_at dksX3_count_4 4 rfl rfl)
theorem dX3_count_152 : decode cX3_count 152 = .ok (.getfield 7, 3) := dk_180 0 7 (dk_at dksX3_count_4 5 rfl rfl)
theorem dX3_count_155 : decode cX3_count 155 = .ok (.sipush 283, 3) := dk_17 1 27 (dk_at dksX3_count_4 8 rfl rfl)
theorem dX3_count_158 : decode cX3_count 158 = .ok (.iaload, 1) := dk_46 (dk_at dksX3_count_4 11 rfl rfl)
theorem dX3_count_159 : decode cX3_count 159 = .ok (.ireturn, 1) := dk_172 (dk_at dksX3_count_4 12 rfl rfl)
theorem dX3_count_160 : decode cX3_count 160 = .ok (.ldc 50, 2) := dk_18 50 (dk_at dksX3_count_4 13 rfl rfl)
theorem dX3_count_162 : decode cX3_count 162 = .ok (.ireturn, 1) := dk_172 (dk_at dksX3_count_4 15 rfl rfl)
abbrev cX3_voicesAll : ByteArray := prog_12_method_61_code
def yX3_voicesAll : MethodName := ⟨RX3, "voicesAll", "()I"⟩
def dkwX3_voicesAll_1 : List UInt8 := [4, 28, 120, 167, 0, 4, 3, 128, 60, 132, 2, 1, 167, 255, 224, 27, 172]
abbrev dktX3_voicesAll_1 : List UInt8 := dkwX3_voicesAll_1 ++ []
def dkwX3_voicesAll_0 : List UInt8 := [3, 60, 3, 61, 28, 16, 6, 162, 0, 32, 27, 42, 180, 0, 7, 17, 1, 20, 28, 96, 46, 158, 0, 9]
abbrev dktX3_voicesAll_0 : List UInt8 := dkwX3_voicesAll_0 ++ dktX3_voicesAll_1
theorem dksX3_voicesAll_0 : cX3_voicesAll.data.toList.drop 0 = dktX3_voicesAll_0 := by decide +kernel
theorem dksX3_voicesAll_1 : cX3_voicesAll.data.toList.drop 24 = dktX3_voicesAll_1 := dk_seg dksX3_voicesAll_0 24 rfl rfl
theorem dX3_voicesAll_0 : decode cX3_voicesAll 0 = .ok (.iconst 0, 1) := dk_3 (dk_at dksX3_voicesAll_0 0 rfl rfl)
theorem dX3_voicesAll_1 : decode cX3_voicesAll 1 = .ok (.istore_n 1, 1) := dk_60 (dk_at dksX3_voicesAll_0 1 rfl rfl)
theorem dX3_voicesAll_2 : decode cX3_voicesAll 2 = .ok (.iconst 0, 1) := dk_3 (dk_at dksX3_voicesAll_0 2 rfl rfl)
theorem dX3_voicesAll_3 : decode cX3_voicesAll 3 = .ok (.istore_n 2, 1) := dk_61 (dk_at dksX3_voicesAll_0 3 rfl rfl)
theorem dX3_voicesAll_4 : decode cX3_voicesAll 4 = .ok (.iload_n 2, 1) := dk_28 (dk_at dksX3_voicesAll_0 4 rfl rfl)
theorem dX3_voicesAll_5 : decode cX3_voicesAll 5 = .ok (.bipush 6, 2) := dk_16 6 (dk_at dksX3_voicesAll_0 5 rfl rfl)
theorem dX3_voicesAll_7 : decode cX3_voicesAll 7 = .ok (.if_icmp .ge 32, 3) := dk_162 0 32 (dk_at dksX3_voicesAll_0 7 rfl rfl)
theorem dX3_voicesAll_10 : decode cX3_voicesAll 10 = .ok (.iload_n 1, 1) := dk_27 (dk_at dksX3_voicesAll_0 10 rfl rfl)
theorem dX3_voicesAll_11 : decode cX3_voicesAll 11 = .ok (.aload_n 0, 1) := dk_42 (dk_at dksX3_voicesAll_0 11 rfl rfl)
theorem dX3_voicesAll_12 : decode cX3_voicesAll 12 = .ok (.getfield 7, 3) := dk_180 0 7 (dk_at dksX3_voicesAll_0 12 rfl rfl)
theorem dX3_voicesAll_15 : decode cX3_voicesAll 15 = .ok (.sipush 276, 3) := dk_17 1 20 (dk_at dksX3_voicesAll_0 15 rfl rfl)
theorem dX3_voicesAll_18 : decode cX3_voicesAll 18 = .ok (.iload_n 2, 1) := dk_28 (dk_at dksX3_voicesAll_0 18 rfl rfl)
theorem dX3_voicesAll_19 : decode cX3_voicesAll 19 = .ok (.iadd, 1) := dk_96 (dk_at dksX3_voicesAll_0 19 rfl rfl)
theorem dX3_voicesAll_20 : decode cX3_voicesAll 20 = .ok (.iaload, 1) := dk_46 (dk_at dksX3_voicesAll_0 20 rfl rfl)
theorem dX3_voicesAll_21 : decode cX3_voicesAll 21 = .ok (.ifCond .le 9, 3) := dk_158 0 9 (dk_at dksX3_voicesAll_0 21 rfl rfl)
theorem dX3_voicesAll_24 : decode cX3_voicesAll 24 = .ok (.iconst 1, 1) := dk_4 (dk_at dksX3_voicesAll_1 0 rfl rfl)
theorem dX3_voicesAll_25 : decode cX3_voicesAll 25 = .ok (.iload_n 2, 1) := dk_28 (dk_at dksX3_voicesAll_1 1 rfl rfl)
theorem dX3_voicesAll_26 : decode cX3_voicesAll 26 = .ok (.ishl, 1) := dk_120 (dk_at dksX3_voicesAll_1 2 rfl rfl)
theorem dX3_voicesAll_27 : decode cX3_voicesAll 27 = .ok (.goto 4, 3) := dk_167 0 4 (dk_at dksX3_voicesAll_1 3 rfl rfl)
theorem dX3_voicesAll_30 : decode cX3_voicesAll 30 = .ok (.iconst 0, 1) := dk_3 (dk_at dksX3_voicesAll_1 6 rfl rfl)
theorem dX3_voicesAll_31 : decode cX3_voicesAll 31 = .ok (.ior, 1) := dk_128 (dk_at dksX3_voicesAll_1 7 rfl rfl)
theorem dX3_voicesAll_32 : decode cX3_voicesAll 32 = .ok (.istore_n 1, 1) := dk_60 (dk_at dksX3_voicesAll_1 8 rfl rfl)
theorem dX3_voicesAll_33 : decode cX3_voicesAll 33 = .ok (.iinc 2 1, 3) := dk_132 2 1 (dk_at dksX3_voicesAll_1 9 rfl rfl)
theorem dX3_voicesAll_36 : decode cX3_voicesAll 36 = .ok (.goto (-32), 3) := dk_167 255 224 (dk_at dksX3_voicesAll_1 12 rfl rfl)
theorem dX3_voicesAll_39 : decode cX3_voicesAll 39 = .ok (.iload_n 1, 1) := dk_27 (dk_at dksX3_voicesAll_1 15 rfl rfl)
theorem dX3_voicesAll_40 : decode cX3_voicesAll 40 = .ok (.ireturn, 1) := dk_172 (dk_at dksX3_voicesAll_1 16 rfl rfl)
abbrev cX3_ones : ByteArray := prog_12_method_45_code
def yX3_ones : MethodName := ⟨RX3, "ones", "(I)I"⟩
def dkwX3_ones_0 : List UInt8 := [3, 60, 26, 61, 28, 153, 0, 15, 132, 1, 1, 28, 28, 4, 100, 126, 61, 167, 255, 243, 27, 172]
abbrev dktX3_ones_0 : List UInt8 := dkwX3_ones_0 ++ []
theorem dksX3_ones_0 : cX3_ones.data.toList.drop 0 = dktX3_ones_0 := by decide +kernel
theorem dX3_ones_0 : decode cX3_ones 0 = .ok (.iconst 0, 1) := dk_3 (dk_at dksX3_ones_0 0 rfl rfl)
theorem dX3_ones_1 : decode cX3_ones 1 = .ok (.istore_n 1, 1) := dk_60 (dk_at dksX3_ones_0 1 rfl rfl)
theorem dX3_ones_2 : decode cX3_ones 2 = .ok (.iload_n 0, 1) := dk_26 (dk_at dksX3_ones_0 2 rfl rfl)
theorem dX3_ones_3 : decode cX3_ones 3 = .ok (.istore_n 2, 1) := dk_61 (dk_at dksX3_ones_0 3 rfl rfl)
theorem dX3_ones_4 : decode cX3_ones 4 = .ok (.iload_n 2, 1) := dk_28 (dk_at dksX3_ones_0 4 rfl rfl)
theorem dX3_ones_5 : decode cX3_ones 5 = .ok (.ifCond .eq 15, 3) := dk_153 0 15 (dk_at dksX3_ones_0 5 rfl rfl)
theorem dX3_ones_8 : decode cX3_ones 8 = .ok (.iinc 1 1, 3) := dk_132 1 1 (dk_at dksX3_ones_0 8 rfl rfl)
theorem dX3_ones_11 : decode cX3_ones 11 = .ok (.iload_n 2, 1) := dk_28 (dk_at dksX3_ones_0 11 rfl rfl)
theorem dX3_ones_12 : decode cX3_ones 12 = .ok (.iload_n 2, 1) := dk_28 (dk_at dksX3_ones_0 12 rfl rfl)
theorem dX3_ones_13 : decode cX3_ones 13 = .ok (.iconst 1, 1) := dk_4 (dk_at dksX3_ones_0 13 rfl rfl)
theorem dX3_ones_14 : decode cX3_ones 14 = .ok (.isub, 1) := dk_100 (dk_at dksX3_ones_0 14 rfl rfl)
theorem dX3_ones_15 : decode cX3_ones 15 = .ok (.iand, 1) := dk_126 (dk_at dksX3_ones_0 15 rfl rfl)
theorem dX3_ones_16 : decode cX3_ones 16 = .ok (.istore_n 2, 1) := dk_61 (dk_at dksX3_ones_0 16 rfl rfl)
theorem dX3_ones_17 : decode cX3_ones 17 = .ok (.goto (-13), 3) := dk_167 255 243 (dk_at dksX3_ones_0 17 rfl rfl)
theorem dX3_ones_20 : decode cX3_ones 20 = .ok (.iload_n 1, 1) := dk_27 (dk_at dksX3_ones_0 20 rfl rfl)
theorem dX3_ones_21 : decode cX3_ones 21 = .ok (.ireturn, 1) := dk_172 (dk_at dksX3_ones_0 21 rfl rfl)
abbrev cX3_ofTurns : ByteArray := prog_12_method_59_code
def yX3_ofTurns : MethodName := ⟨RX3, "ofTurns", "(I)I"⟩
def dkwX3_ofTurns_3 : List UInt8 := [27, 8, 160, 0, 9, 28, 5, 108, 167, 0, 4, 28, 172]
abbrev dktX3_ofTurns_3 : List UInt8 := dkwX3_ofTurns_3 ++ []
def dkwX3_ofTurns_2 : List UInt8 := [167, 0, 16, 3, 167, 0, 12, 42, 29, 3, 182, 0, 111, 184, 0, 159, 96, 61, 132, 3, 1, 167, 255, 193]
abbrev dktX3_ofTurns_2 : List UInt8 := dkwX3_ofTurns_2 ++ dktX3_ofTurns_3
def dkwX3_ofTurns_1 : List UInt8 := [7, 182, 0, 47, 167, 0, 34, 27, 7, 160, 0, 20, 42, 29, 6, 182, 0, 47, 156, 0, 7, 4]
abbrev dktX3_ofTurns_1 : List UInt8 := dkwX3_ofTurns_1 ++ dktX3_ofTurns_2
def dkwX3_ofTurns_0 : List UInt8 := [3, 61, 3, 62, 29, 42, 180, 0, 7, 17, 1, 26, 46, 162, 0, 57, 28, 27, 5, 160, 0, 12, 42, 29]
abbrev dktX3_ofTurns_0 : List UInt8 := dkwX3_ofTurns_0 ++ dktX3_ofTurns_1
theorem dksX3_ofTurns_0 : cX3_ofTurns.data.toList.drop 0 = dktX3_ofTurns_0 := by decide +kernel
theorem dksX3_ofTurns_1 : cX3_ofTurns.data.toList.drop 24 = dktX3_ofTurns_1 := dk_seg dksX3_ofTurns_0 24 rfl rfl
theorem dksX3_ofTurns_2 : cX3_ofTurns.data.toList.drop 46 = dktX3_ofTurns_2 := dk_seg dksX3_ofTurns_1 22 rfl rfl
theorem dksX3_ofTurns_3 : cX3_ofTurns.data.toList.drop 70 = dktX3_ofTurns_3 := dk_seg dksX3_ofTurns_2 24 rfl rfl
theorem dX3_ofTurns_0 : decode cX3_ofTurns 0 = .ok (.iconst 0, 1) := dk_3 (dk_at dksX3_ofTurns_0 0 rfl rfl)
theorem dX3_ofTurns_1 : decode cX3_ofTurns 1 = .ok (.istore_n 2, 1) := dk_61 (dk_at dksX3_ofTurns_0 1 rfl rfl)
theorem dX3_ofTurns_2 : decode cX3_ofTurns 2 = .ok (.iconst 0, 1) := dk_3 (dk_at dksX3_ofTurns_0 2 rfl rfl)
theorem dX3_ofTurns_3 : decode cX3_ofTurns 3 = .ok (.istore_n 3, 1) := dk_62 (dk_at dksX3_ofTurns_0 3 rfl rfl)
theorem dX3_ofTurns_4 : decode cX3_ofTurns 4 = .ok (.iload_n 3, 1) := dk_29 (dk_at dksX3_ofTurns_0 4 rfl rfl)
theorem dX3_ofTurns_5 : decode cX3_ofTurns 5 = .ok (.aload_n 0, 1) := dk_42 (dk_at dksX3_ofTurns_0 5 rfl rfl)
theorem dX3_ofTurns_6 : decode cX3_ofTurns 6 = .ok (.getfield 7, 3) := dk_180 0 7 (dk_at dksX3_ofTurns_0 6 rfl rfl)
theorem dX3_ofTurns_9 : decode cX3_ofTurns 9 = .ok (.sipush 282, 3) := dk_17 1 26 (dk_at dksX3_ofTurns_0 9 rfl rfl)
theorem dX3_ofTurns_12 : decode cX3_ofTurns 12 = .ok (.iaload, 1) := dk_46 (dk_at dksX3_ofTurns_0 12 rfl rfl)
theorem dX3_ofTurns_13 : decode cX3_ofTurns 13 = .ok (.if_icmp .ge 57, 3) := dk_162 0 57 (dk_at dksX3_ofTurns_0 13 rfl rfl)
theorem dX3_ofTurns_16 : decode cX3_ofTurns 16 = .ok (.iload_n 2, 1) := dk_28 (dk_at dksX3_ofTurns_0 16 rfl rfl)
theorem dX3_ofTurns_17 : decode cX3_ofTurns 17 = .ok (.iload_n 1, 1) := dk_27 (dk_at dksX3_ofTurns_0 17 rfl rfl)
theorem dX3_ofTurns_18 : decode cX3_ofTurns 18 = .ok (.iconst 2, 1) := dk_5 (dk_at dksX3_ofTurns_0 18 rfl rfl)
theorem dX3_ofTurns_19 : decode cX3_ofTurns 19 = .ok (.if_icmp .ne 12, 3) := dk_160 0 12 (dk_at dksX3_ofTurns_0 19 rfl rfl)
theorem dX3_ofTurns_22 : decode cX3_ofTurns 22 = .ok (.aload_n 0, 1) := dk_42 (dk_at dksX3_ofTurns_0 22 rfl rfl)
theorem dX3_ofTurns_23 : decode cX3_ofTurns 23 = .ok (.iload_n 3, 1) := dk_29 (dk_at dksX3_ofTurns_0 23 rfl rfl)
theorem dX3_ofTurns_24 : decode cX3_ofTurns 24 = .ok (.iconst 4, 1) := dk_7 (dk_at dksX3_ofTurns_1 0 rfl rfl)
theorem dX3_ofTurns_25 : decode cX3_ofTurns 25 = .ok (.invokevirtual 47, 3) := dk_182 0 47 (dk_at dksX3_ofTurns_1 1 rfl rfl)
theorem dX3_ofTurns_28 : decode cX3_ofTurns 28 = .ok (.goto 34, 3) := dk_167 0 34 (dk_at dksX3_ofTurns_1 4 rfl rfl)
theorem dX3_ofTurns_31 : decode cX3_ofTurns 31 = .ok (.iload_n 1, 1) := dk_27 (dk_at dksX3_ofTurns_1 7 rfl rfl)
theorem dX3_ofTurns_32 : decode cX3_ofTurns 32 = .ok (.iconst 4, 1) := dk_7 (dk_at dksX3_ofTurns_1 8 rfl rfl)
theorem dX3_ofTurns_33 : decode cX3_ofTurns 33 = .ok (.if_icmp .ne 20, 3) := dk_160 0 20 (dk_at dksX3_ofTurns_1 9 rfl rfl)
theorem dX3_ofTurns_36 : decode cX3_ofTurns 36 = .ok (.aload_n 0, 1) := dk_42 (dk_at dksX3_ofTurns_1 12 rfl rfl)
theorem dX3_ofTurns_37 : decode cX3_ofTurns 37 = .ok (.iload_n 3, 1) := dk_29 (dk_at dksX3_ofTurns_1 13 rfl rfl)
theorem dX3_ofTurns_38 : decode cX3_ofTurns 38 = .ok (.iconst 3, 1) := dk_6 (dk_at dksX3_ofTurns_1 14 rfl rfl)
theorem dX3_ofTurns_39 : decode cX3_ofTurns 39 = .ok (.invokevirtual 47, 3) := dk_182 0 47 (dk_at dksX3_ofTurns_1 15 rfl rfl)
theorem dX3_ofTurns_42 : decode cX3_ofTurns 42 = .ok (.ifCond .ge 7, 3) := dk_156 0 7 (dk_at dksX3_ofTurns_1 18 rfl rfl)
theorem dX3_ofTurns_45 : decode cX3_ofTurns 45 = .ok (.iconst 1, 1) := dk_4 (dk_at dksX3_ofTurns_1 21 rfl rfl)
theorem dX3_ofTurns_46 : decode cX3_ofTurns 46 = .ok (.goto 16, 3) := dk_167 0 16 (dk_at dksX3_ofTurns_2 0 rfl rfl)
theorem dX3_ofTurns_49 : decode cX3_ofTurns 49 = .ok (.iconst 0, 1) := dk_3 (dk_at dksX3_ofTurns_2 3 rfl rfl)
theorem dX3_ofTurns_50 : decode cX3_ofTurns 50 = .ok (.goto 12, 3) := dk_167 0 12 (dk_at dksX3_ofTurns_2 4 rfl rfl)
theorem dX3_ofTurns_53 : decode cX3_ofTurns 53 = .ok (.aload_n 0, 1) := dk_42 (dk_at dksX3_ofTurns_2 7 rfl rfl)
theorem dX3_ofTurns_54 : decode cX3_ofTurns 54 = .ok (.iload_n 3, 1) := dk_29 (dk_at dksX3_ofTurns_2 8 rfl rfl)
theorem dX3_ofTurns_55 : decode cX3_ofTurns 55 = .ok (.iconst 0, 1) := dk_3 (dk_at dksX3_ofTurns_2 9 rfl rfl)
theorem dX3_ofTurns_56 : decode cX3_ofTurns 56 = .ok (.invokevirtual 111, 3) := dk_182 0 111 (dk_at dksX3_ofTurns_2 10 rfl rfl)
theorem dX3_ofTurns_59 : decode cX3_ofTurns 59 = .ok (.invokestatic 159, 3) := dk_184 0 159 (dk_at dksX3_ofTurns_2 13 rfl rfl)
theorem dX3_ofTurns_62 : decode cX3_ofTurns 62 = .ok (.iadd, 1) := dk_96 (dk_at dksX3_ofTurns_2 16 rfl rfl)
theorem dX3_ofTurns_63 : decode cX3_ofTurns 63 = .ok (.istore_n 2, 1) := dk_61 (dk_at dksX3_ofTurns_2 17 rfl rfl)
theorem dX3_ofTurns_64 : decode cX3_ofTurns 64 = .ok (.iinc 3 1, 3) := dk_132 3 1 (dk_at dksX3_ofTurns_2 18 rfl rfl)
theorem dX3_ofTurns_67 : decode cX3_ofTurns 67 = .ok (.goto (-63), 3) := dk_167 255 193 (dk_at dksX3_ofTurns_2 21 rfl rfl)
theorem dX3_ofTurns_70 : decode cX3_ofTurns 70 = .ok (.iload_n 1, 1) := dk_27 (dk_at dksX3_ofTurns_3 0 rfl rfl)
theorem dX3_ofTurns_71 : decode cX3_ofTurns 71 = .ok (.iconst 5, 1) := dk_8 (dk_at dksX3_ofTurns_3 1 rfl rfl)
theorem dX3_ofTurns_72 : decode cX3_ofTurns 72 = .ok (.if_icmp .ne 9, 3) := dk_160 0 9 (dk_at dksX3_ofTurns_3 2 rfl rfl)
theorem dX3_ofTurns_75 : decode cX3_ofTurns 75 = .ok (.iload_n 2, 1) := dk_28 (dk_at dksX3_ofTurns_3 5 rfl rfl)
theorem dX3_ofTurns_76 : decode cX3_ofTurns 76 = .ok (.iconst 2, 1) := dk_5 (dk_at dksX3_ofTurns_3 6 rfl rfl)
theorem dX3_ofTurns_77 : decode cX3_ofTurns 77 = .ok (.idiv, 1) := dk_108 (dk_at dksX3_ofTurns_3 7 rfl rfl)
theorem dX3_ofTurns_78 : decode cX3_ofTurns 78 = .ok (.goto 4, 3) := dk_167 0 4 (dk_at dksX3_ofTurns_3 8 rfl rfl)
theorem dX3_ofTurns_81 : decode cX3_ofTurns 81 = .ok (.iload_n 2, 1) := dk_28 (dk_at dksX3_ofTurns_3 11 rfl rfl)
theorem dX3_ofTurns_82 : decode cX3_ofTurns 82 = .ok (.ireturn, 1) := dk_172 (dk_at dksX3_ofTurns_3 12 rfl rfl)
abbrev cX3_corrections : ByteArray := prog_12_method_62_code
def yX3_corrections : MethodName := ⟨RX3, "corrections", "()I"⟩
def dkwX3_corrections_1 : List UInt8 := [4, 167, 0, 4, 3, 96, 60, 132, 2, 1, 167, 255, 226, 27, 172]
abbrev dktX3_corrections_1 : List UInt8 := dkwX3_corrections_1 ++ []
def dkwX3_corrections_0 : List UInt8 := [3, 60, 3, 61, 28, 16, 16, 162, 0, 30, 27, 42, 180, 0, 7, 17, 1, 4, 28, 96, 46, 155, 0, 7]
abbrev dktX3_corrections_0 : List UInt8 := dkwX3_corrections_0 ++ dktX3_corrections_1
theorem dksX3_corrections_0 : cX3_corrections.data.toList.drop 0 = dktX3_corrections_0 := by decide +kernel
theorem dksX3_corrections_1 : cX3_corrections.data.toList.drop 24 = dktX3_corrections_1 := dk_seg dksX3_corrections_0 24 rfl rfl
theorem dX3_corrections_0 : decode cX3_corrections 0 = .ok (.iconst 0, 1) := dk_3 (dk_at dksX3_corrections_0 0 rfl rfl)
theorem dX3_corrections_1 : decode cX3_corrections 1 = .ok (.istore_n 1, 1) := dk_60 (dk_at dksX3_corrections_0 1 rfl rfl)
theorem dX3_corrections_2 : decode cX3_corrections 2 = .ok (.iconst 0, 1) := dk_3 (dk_at dksX3_corrections_0 2 rfl rfl)
theorem dX3_corrections_3 : decode cX3_corrections 3 = .ok (.istore_n 2, 1) := dk_61 (dk_at dksX3_corrections_0 3 rfl rfl)
theorem dX3_corrections_4 : decode cX3_corrections 4 = .ok (.iload_n 2, 1) := dk_28 (dk_at dksX3_corrections_0 4 rfl rfl)
theorem dX3_corrections_5 : decode cX3_corrections 5 = .ok (.bipush 16, 2) := dk_16 16 (dk_at dksX3_corrections_0 5 rfl rfl)
theorem dX3_corrections_7 : decode cX3_corrections 7 = .ok (.if_icmp .ge 30, 3) := dk_162 0 30 (dk_at dksX3_corrections_0 7 rfl rfl)
theorem dX3_corrections_10 : decode cX3_corrections 10 = .ok (.iload_n 1, 1) := dk_27 (dk_at dksX3_corrections_0 10 rfl rfl)
theorem dX3_corrections_11 : decode cX3_corrections 11 = .ok (.aload_n 0, 1) := dk_42 (dk_at dksX3_corrections_0 11 rfl rfl)
theorem dX3_corrections_12 : decode cX3_corrections 12 = .ok (.getfield 7, 3) := dk_180 0 7 (dk_at dksX3_corrections_0 12 rfl rfl)
theorem dX3_corrections_15 : decode cX3_corrections 15 = .ok (.sipush 260, 3) := dk_17 1 4 (dk_at dksX3_corrections_0 15 rfl rfl)
theorem dX3_corrections_18 : decode cX3_corrections 18 = .ok (.iload_n 2, 1) := dk_28 (dk_at dksX3_corrections_0 18 rfl rfl)
theorem dX3_corrections_19 : decode cX3_corrections 19 = .ok (.iadd, 1) := dk_96 (dk_at dksX3_corrections_0 19 rfl rfl)
theorem dX3_corrections_20 : decode cX3_corrections 20 = .ok (.iaload, 1) := dk_46 (dk_at dksX3_corrections_0 20 rfl rfl)
theorem dX3_corrections_21 : decode cX3_corrections 21 = .ok (.ifCond .lt 7, 3) := dk_155 0 7 (dk_at dksX3_corrections_0 21 rfl rfl)
theorem dX3_corrections_24 : decode cX3_corrections 24 = .ok (.iconst 1, 1) := dk_4 (dk_at dksX3_corrections_1 0 rfl rfl)
theorem dX3_corrections_25 : decode cX3_corrections 25 = .ok (.goto 4, 3) := dk_167 0 4 (dk_at dksX3_corrections_1 1 rfl rfl)
theorem dX3_corrections_28 : decode cX3_corrections 28 = .ok (.iconst 0, 1) := dk_3 (dk_at dksX3_corrections_1 4 rfl rfl)
theorem dX3_corrections_29 : decode cX3_corrections 29 = .ok (.iadd, 1) := dk_96 (dk_at dksX3_corrections_1 5 rfl rfl)
theorem dX3_corrections_30 : decode cX3_corrections 30 = .ok (.istore_n 1, 1) := dk_60 (dk_at dksX3_corrections_1 6 rfl rfl)
theorem dX3_corrections_31 : decode cX3_corrections 31 = .ok (.iinc 2 1, 3) := dk_132 2 1 (dk_at dksX3_corrections_1 7 rfl rfl)
theorem dX3_corrections_34 : decode cX3_corrections 34 = .ok (.goto (-30), 3) := dk_167 255 226 (dk_at dksX3_corrections_1 10 rfl rfl)
theorem dX3_corrections_37 : decode cX3_corrections 37 = .ok (.iload_n 1, 1) := dk_27 (dk_at dksX3_corrections_1 13 rfl rfl)
theorem dX3_corrections_38 : decode cX3_corrections 38 = .ok (.ireturn, 1) := dk_172 (dk_at dksX3_corrections_1 14 rfl rfl)
abbrev cX3_seconds : ByteArray := prog_12_method_60_code
def yX3_seconds : MethodName := ⟨RX3, "seconds", "(I)I"⟩
def dkwX3_seconds_1 : List UInt8 := [4, 167, 0, 4, 3, 96, 61, 132, 3, 1, 167, 255, 226, 28, 172]
abbrev dktX3_seconds_1 : List UInt8 := dkwX3_seconds_1 ++ []
def dkwX3_seconds_0 : List UInt8 := [3, 61, 3, 62, 29, 17, 7, 207, 163, 0, 29, 28, 42, 29, 182, 0, 107, 184, 0, 159, 27, 161, 0, 7]
abbrev dktX3_seconds_0 : List UInt8 := dkwX3_seconds_0 ++ dktX3_seconds_1
theorem dksX3_seconds_0 : cX3_seconds.data.toList.drop 0 = dktX3_seconds_0 := by decide +kernel
theorem dksX3_seconds_1 : cX3_seconds.data.toList.drop 24 = dktX3_seconds_1 := dk_seg dksX3_seconds_0 24 rfl rfl
theorem dX3_seconds_0 : decode cX3_seconds 0 = .ok (.iconst 0, 1) := dk_3 (dk_at dksX3_seconds_0 0 rfl rfl)
theorem dX3_seconds_1 : decode cX3_seconds 1 = .ok (.istore_n 2, 1) := dk_61 (dk_at dksX3_seconds_0 1 rfl rfl)
theorem dX3_seconds_2 : decode cX3_seconds 2 = .ok (.iconst 0, 1) := dk_3 (dk_at dksX3_seconds_0 2 rfl rfl)
theorem dX3_seconds_3 : decode cX3_seconds 3 = .ok (.istore_n 3, 1) := dk_62 (dk_at dksX3_seconds_0 3 rfl rfl)
theorem dX3_seconds_4 : decode cX3_seconds 4 = .ok (.iload_n 3, 1) := dk_29 (dk_at dksX3_seconds_0 4 rfl rfl)
theorem dX3_seconds_5 : decode cX3_seconds 5 = .ok (.sipush 1999, 3) := dk_17 7 207 (dk_at dksX3_seconds_0 5 rfl rfl)
theorem dX3_seconds_8 : decode cX3_seconds 8 = .ok (.if_icmp .gt 29, 3) := dk_163 0 29 (dk_at dksX3_seconds_0 8 rfl rfl)
theorem dX3_seconds_11 : decode cX3_seconds 11 = .ok (.iload_n 2, 1) := dk_28 (dk_at dksX3_seconds_0 11 rfl rfl)
theorem dX3_seconds_12 : decode cX3_seconds 12 = .ok (.aload_n 0, 1) := dk_42 (dk_at dksX3_seconds_0 12 rfl rfl)
theorem dX3_seconds_13 : decode cX3_seconds 13 = .ok (.iload_n 3, 1) := dk_29 (dk_at dksX3_seconds_0 13 rfl rfl)
theorem dX3_seconds_14 : decode cX3_seconds 14 = .ok (.invokevirtual 107, 3) := dk_182 0 107 (dk_at dksX3_seconds_0 14 rfl rfl)
theorem dX3_seconds_17 : decode cX3_seconds 17 = .ok (.invokestatic 159, 3) := dk_184 0 159 (dk_at dksX3_seconds_0 17 rfl rfl)
theorem dX3_seconds_20 : decode cX3_seconds 20 = .ok (.iload_n 1, 1) := dk_27 (dk_at dksX3_seconds_0 20 rfl rfl)
theorem dX3_seconds_21 : decode cX3_seconds 21 = .ok (.if_icmp .lt 7, 3) := dk_161 0 7 (dk_at dksX3_seconds_0 21 rfl rfl)
theorem dX3_seconds_24 : decode cX3_seconds 24 = .ok (.iconst 1, 1) := dk_4 (dk_at dksX3_seconds_1 0 rfl rfl)
theorem dX3_seconds_25 : decode cX3_seconds 25 = .ok (.goto 4, 3) := dk_167 0 4 (dk_at dksX3_seconds_1 1 rfl rfl)
theorem dX3_seconds_28 : decode cX3_seconds 28 = .ok (.iconst 0, 1) := dk_3 (dk_at dksX3_seconds_1 4 rfl rfl)
theorem dX3_seconds_29 : decode cX3_seconds 29 = .ok (.iadd, 1) := dk_96 (dk_at dksX3_seconds_1 5 rfl rfl)
theorem dX3_seconds_30 : decode cX3_seconds 30 = .ok (.istore_n 2, 1) := dk_61 (dk_at dksX3_seconds_1 6 rfl rfl)
theorem dX3_seconds_31 : decode cX3_seconds 31 = .ok (.iinc 3 1, 3) := dk_132 3 1 (dk_at dksX3_seconds_1 7 rfl rfl)
theorem dX3_seconds_34 : decode cX3_seconds 34 = .ok (.goto (-30), 3) := dk_167 255 226 (dk_at dksX3_seconds_1 10 rfl rfl)
theorem dX3_seconds_37 : decode cX3_seconds 37 = .ok (.iload_n 2, 1) := dk_28 (dk_at dksX3_seconds_1 13 rfl rfl)
theorem dX3_seconds_38 : decode cX3_seconds 38 = .ok (.ireturn, 1) := dk_172 (dk_at dksX3_seconds_1 14 rfl rfl)
abbrev cX3_undo : ByteArray := prog_12_method_64_code
def yX3_undo : MethodName := ⟨RX3, "undo", "()I"⟩
def dkwX3_undo_2 : List UInt8 := [96, 46, 79, 132, 1, 1, 167, 255, 225, 42, 180, 0, 35, 172]
abbrev dktX3_undo_2 : List UInt8 := dkwX3_undo_2 ++ []
def dkwX3_undo_1 : List UInt8 := [17, 1, 28, 162, 0, 30, 42, 180, 0, 7, 27, 42, 180, 0, 13, 17, 1, 28, 42, 180, 0, 35, 104, 27]
abbrev dktX3_undo_1 : List UInt8 := dkwX3_undo_1 ++ dktX3_undo_2
def dkwX3_undo_0 : List UInt8 := [42, 180, 0, 35, 154, 0, 6, 18, 80, 172, 42, 89, 180, 0, 35, 4, 100, 181, 0, 35, 3, 60, 27]
abbrev dktX3_undo_0 : List UInt8 := dkwX3_undo_0 ++ dktX3_undo_1
theorem dksX3_undo_0 : cX3_undo.data.toList.drop 0 = dktX3_undo_0 := by decide +kernel
theorem dksX3_undo_1 : cX3_undo.data.toList.drop 23 = dktX3_undo_1 := dk_seg dksX3_undo_0 23 rfl rfl
theorem dksX3_undo_2 : cX3_undo.data.toList.drop 47 = dktX3_undo_2 := dk_seg dksX3_undo_1 24 rfl rfl
theorem dX3_undo_0 : decode cX3_undo 0 = .ok (.aload_n 0, 1) := dk_42 (dk_at dksX3_undo_0 0 rfl rfl)
theorem dX3_undo_1 : decode cX3_undo 1 = .ok (.getfield 35, 3) := dk_180 0 35 (dk_at dksX3_undo_0 1 rfl rfl)
theorem dX3_undo_4 : decode cX3_undo 4 = .ok (.ifCond .ne 6, 3) := dk_154 0 6 (dk_at dksX3_undo_0 4 rfl rfl)
theorem dX3_undo_7 : decode cX3_undo 7 = .ok (.ldc 80, 2) := dk_18 80 (dk_at dksX3_undo_0 7 rfl rfl)
theorem dX3_undo_9 : decode cX3_undo 9 = .ok (.ireturn, 1) := dk_172 (dk_at dksX3_undo_0 9 rfl rfl)
theorem dX3_undo_10 : decode cX3_undo 10 = .ok (.aload_n 0, 1) := dk_42 (dk_at dksX3_undo_0 10 rfl rfl)
theorem dX3_undo_11 : decode cX3_undo 11 = .ok (.dup, 1) := dk_89 (dk_at dksX3_undo_0 11 rfl rfl)
theorem dX3_undo_12 : decode cX3_undo 12 = .ok (.getfield 35, 3) := dk_180 0 35 (dk_at dksX3_undo_0 12 rfl rfl)
theorem dX3_undo_15 : decode cX3_undo 15 = .ok (.iconst 1, 1) := dk_4 (dk_at dksX3_undo_0 15 rfl rfl)
theorem dX3_undo_16 : decode cX3_undo 16 = .ok (.isub, 1) := dk_100 (dk_at dksX3_undo_0 16 rfl rfl)
theorem dX3_undo_17 : decode cX3_undo 17 = .ok (.putfield 35, 3) := dk_181 0 35 (dk_at dksX3_undo_0 17 rfl rfl)
theorem dX3_undo_20 : decode cX3_undo 20 = .ok (.iconst 0, 1) := dk_3 (dk_at dksX3_undo_0 20 rfl rfl)
theorem dX3_undo_21 : decode cX3_undo 21 = .ok (.istore_n 1, 1) := dk_60 (dk_at dksX3_undo_0 21 rfl rfl)
theorem dX3_undo_22 : decode cX3_undo 22 = .ok (.iload_n 1, 1) := dk_27 (dk_at dksX3_undo_0 22 rfl rfl)
theorem dX3_undo_23 : decode cX3_undo 23 = .ok (.sipush 284, 3) := dk_17 1 28 (dk_at dksX3_undo_1 0 rfl rfl)
theorem dX3_undo_26 : decode cX3_undo 26 = .ok (.if_icmp .ge 30, 3) := dk_162 0 30 (dk_at dksX3_undo_1 3 rfl rfl)
theorem dX3_undo_29 : decode cX3_undo 29 = .ok (.aload_n 0, 1) := dk_42 (dk_at dksX3_undo_1 6 rfl rfl)
theorem dX3_undo_30 : decode cX3_undo 30 = .ok (.getfield 7, 3) := dk_180 0 7 (dk_at dksX3_undo_1 7 rfl rfl)
theorem dX3_undo_33 : decode cX3_undo 33 = .ok (.iload_n 1, 1) := dk_27 (dk_at dksX3_undo_1 10 rfl rfl)
theorem dX3_undo_34 : decode cX3_undo 34 = .ok (.aload_n 0, 1) := dk_42 (dk_at dksX3_undo_1 11 rfl rfl)
theorem dX3_undo_35 : decode cX3_undo 35 = .ok (.getfield 13, 3) := dk_180 0 13 (dk_at dksX3_undo_1 12 rfl rfl)
theorem dX3_undo_38 : decode cX3_undo 38 = .ok (.sipush 284, 3) := dk_17 1 28 (dk_at dksX3_undo_1 15 rfl rfl)
theorem dX3_undo_41 : decode cX3_undo 41 = .ok (.aload_n 0, 1) := dk_42 (dk_at dksX3_undo_1 18 rfl rfl)
theorem dX3_undo_42 : decode cX3_undo 42 = .ok (.getfield 35, 3) := dk_180 0 35 (dk_at dksX3_undo_1 19 rfl rfl)
theorem dX3_undo_45 : decode cX3_undo 45 = .ok (.imul, 1) := dk_104 (dk_at dksX3_undo_1 22 rfl rfl)
theorem dX3_undo_46 : decode cX3_undo 46 = .ok (.iload_n 1, 1) := dk_27 (dk_at dksX3_undo_1 23 rfl rfl)
theorem dX3_undo_47 : decode cX3_undo 47 = .ok (.iadd, 1) := dk_96 (dk_at dksX3_undo_2 0 rfl rfl)
theorem dX3_undo_48 : decode cX3_undo 48 = .ok (.iaload, 1) := dk_46 (dk_at dksX3_undo_2 1 rfl rfl)
theorem dX3_undo_49 : decode cX3_undo 49 = .ok (.iastore, 1) := dk_79 (dk_at dksX3_undo_2 2 rfl rfl)
theorem dX3_undo_50 : decode cX3_undo 50 = .ok (.iinc 1 1, 3) := dk_132 1 1 (dk_at dksX3_undo_2 3 rfl rfl)
theorem dX3_undo_53 : decode cX3_undo 53 = .ok (.goto (-31), 3) := dk_167 255 225 (dk_at dksX3_undo_2 6 rfl rfl)
theorem dX3_undo_56 : decode cX3_undo 56 = .ok (.aload_n 0, 1) := dk_42 (dk_at dksX3_undo_2 9 rfl rfl)
theorem dX3_undo_57 : decode cX3_undo 57 = .ok (.getfield 35, 3) := dk_180 0 35 (dk_at dksX3_undo_2 10 rfl rfl)
theorem dX3_undo_60 : decode cX3_undo 60 = .ok (.ireturn, 1) := dk_172 (dk_at dksX3_undo_2 13 rfl rfl)
abbrev cX3_type : ByteArray := prog_12_method_65_code
def yX3_type : MethodName := ⟨RX3, "type", "(I)I"⟩
def dkwX3_type_2 : List UInt8 := [180, 0, 174, 172]
abbrev dktX3_type_2 : List UInt8 := dkwX3_type_2 ++ []
def dkwX3_type_1 : List UInt8 := [18, 51, 172, 42, 180, 0, 19, 42, 180, 0, 174, 27, 79, 42, 89, 180, 0, 174, 4, 96, 181, 0, 174, 42]
abbrev dktX3_type_1 : List UInt8 := dkwX3_type_1 ++ dktX3_type_2
def dkwX3_type_0 : List UInt8 := [27, 16, 32, 16, 126, 184, 0, 39, 154, 0, 6, 18, 50, 172, 42, 180, 0, 174, 16, 60, 160, 0, 6]
abbrev dktX3_type_0 : List UInt8 := dkwX3_type_0 ++ dktX3_type_1
theorem dksX3_type_0 : cX3_type.data.toList.drop 0 = dktX3_type_0 := by decide +kernel
theorem dksX3_type_1 : cX3_type.data.toList.drop 23 = dktX3_type_1 := dk_seg dksX3_type_0 23 rfl rfl
theorem dksX3_type_2 : cX3_type.data.toList.drop 47 = dktX3_type_2 := dk_seg dksX3_type_1 24 rfl rfl
theorem dX3_type_0 : decode cX3_type 0 = .ok (.iload_n 1, 1) := dk_27 (dk_at dksX3_type_0 0 rfl rfl)
theorem dX3_type_1 : decode cX3_type 1 = .ok (.bipush 32, 2) := dk_16 32 (dk_at dksX3_type_0 1 rfl rfl)
theorem dX3_type_3 : decode cX3_type 3 = .ok (.bipush 126, 2) := dk_16 126 (dk_at dksX3_type_0 3 rfl rfl)
theorem dX3_type_5 : decode cX3_type 5 = .ok (.invokestatic 39, 3) := dk_184 0 39 (dk_at dksX3_type_0 5 rfl rfl)
theorem dX3_type_8 : decode cX3_type 8 = .ok (.ifCond .ne 6, 3) := dk_154 0 6 (dk_at dksX3_type_0 8 rfl rfl)
theorem dX3_type_11 : decode cX3_type 11 = .ok (.ldc 50, 2) := dk_18 50 (dk_at dksX3_type_0 11 rfl rfl)
theorem dX3_type_13 : decode cX3_type 13 = .ok (.ireturn, 1) := dk_172 (dk_at dksX3_type_0 13 rfl rfl)
theorem dX3_type_14 : decode cX3_type 14 = .ok (.aload_n 0, 1) := dk_42 (dk_at dksX3_type_0 14 rfl rfl)
theorem dX3_type_15 : decode cX3_type 15 = .ok (.getfield 174, 3) := dk_180 0 174 (dk_at dksX3_type_0 15 rfl rfl)
theorem dX3_type_18 : decode cX3_type 18 = .ok (.bipush 60, 2) := dk_16 60 (dk_at dksX3_type_0 18 rfl rfl)
theorem dX3_type_20 : decode cX3_type 20 = .ok (.if_icmp .ne 6, 3) := dk_160 0 6 (dk_at dksX3_type_0 20 rfl rfl)
theorem dX3_type_23 : decode cX3_type 23 = .ok (.ldc 51, 2) := dk_18 51 (dk_at dksX3_type_1 0 rfl rfl)
theorem dX3_type_25 : decode cX3_type 25 = .ok (.ireturn, 1) := dk_172 (dk_at dksX3_type_1 2 rfl rfl)
theorem dX3_type_26 : decode cX3_type 26 = .ok (.aload_n 0, 1) := dk_42 (dk_at dksX3_type_1 3 rfl rfl)
theorem dX3_type_27 : decode cX3_type 27 = .ok (.getfield 19, 3) := dk_180 0 19 (dk_at dksX3_type_1 4 rfl rfl)
theorem dX3_type_30 : decode cX3_type 30 = .ok (.aload_n 0, 1) := dk_42 (dk_at dksX3_type_1 7 rfl rfl)
theorem dX3_type_31 : decode cX3_type 31 = .ok (.getfield 174, 3) := dk_180 0 174 (dk_at dksX3_type_1 8 rfl rfl)
theorem dX3_type_34 : decode cX3_type 34 = .ok (.iload_n 1, 1) := dk_27 (dk_at dksX3_type_1 11 rfl rfl)
theorem dX3_type_35 : decode cX3_type 35 = .ok (.iastore, 1) := dk_79 (dk_at dksX3_type_1 12 rfl rfl)
theorem dX3_type_36 : decode cX3_type 36 = .ok (.aload_n 0, 1) := dk_42 (dk_at dksX3_type_1 13 rfl rfl)
theorem dX3_type_37 : decode cX3_type 37 = .ok (.dup, 1) := dk_89 (dk_at dksX3_type_1 14 rfl rfl)
theorem dX3_type_38 : decode cX3_type 38 = .ok (.getfield 174, 3) := dk_180 0 174 (dk_at dksX3_type_1 15 rfl rfl)
theorem dX3_type_41 : decode cX3_type 41 = .ok (.iconst 1, 1) := dk_4 (dk_at dksX3_type_1 18 rfl rfl)
theorem dX3_type_42 : decode cX3_type 42 = .ok (.iadd, 1) := dk_96 (dk_at dksX3_type_1 19 rfl rfl)
theorem dX3_type_43 : decode cX3_type 43 = .ok (.putfield 174, 3) := dk_181 0 174 (dk_at dksX3_type_1 20 rfl rfl)
theorem dX3_type_46 : decode cX3_type 46 = .ok (.aload_n 0, 1) := dk_42 (dk_at dksX3_type_1 23 rfl rfl)
theorem dX3_type_47 : decode cX3_type 47 = .ok (.getfield 174, 3) := dk_180 0 174 (dk_at dksX3_type_2 0 rfl rfl)
theorem dX3_type_50 : decode cX3_type 50 = .ok (.ireturn, 1) := dk_172 (dk_at dksX3_type_2 3 rfl rfl)
abbrev cX3_clearText : ByteArray := prog_12_method_66_code
def yX3_clearText : MethodName := ⟨RX3, "clearText", "()I"⟩
def dkwX3_clearText_0 : List UInt8 := [42, 180, 0, 174, 60, 42, 3, 181, 0, 174, 27, 172]
abbrev dktX3_clearText_0 : List UInt8 := dkwX3_clearText_0 ++ []
theorem dksX3_clearText_0 : cX3_clearText.data.toList.drop 0 = dktX3_clearText_0 := by decide +kernel
theorem dX3_clearText_0 : decode cX3_clearText 0 = .ok (.aload_n 0, 1) := dk_42 (dk_at dksX3_clearText_0 0 rfl rfl)
theorem dX3_clearText_1 : decode cX3_clearText 1 = .ok (.getfield 174, 3) := dk_180 0 174 (dk_at dksX3_clearText_0 1 rfl rfl)
theorem dX3_clearText_4 : decode cX3_clearText 4 = .ok (.istore_n 1, 1) := dk_60 (dk_at dksX3_clearText_0 4 rfl rfl)
theorem dX3_clearText_5 : decode cX3_clearText 5 = .ok (.aload_n 0, 1) := dk_42 (dk_at dksX3_clearText_0 5 rfl rfl)
theorem dX3_clearText_6 : decode cX3_clearText 6 = .ok (.iconst 0, 1) := dk_3 (dk_at dksX3_clearText_0 6 rfl rfl)
theorem dX3_clearText_7 : decode cX3_clearText 7 = .ok (.putfield 174, 3) := dk_181 0 174 (dk_at dksX3_clearText_0 7 rfl rfl)
theorem dX3_clearText_10 : decode cX3_clearText 10 = .ok (.iload_n 1, 1) := dk_27 (dk_at dksX3_clearText_0 10 rfl rfl)
theorem dX3_clearText_11 : decode cX3_clearText 11 = .ok (.ireturn, 1) := dk_172 (dk_at dksX3_clearText_0 11 rfl rfl)
abbrev cX3_fault : ByteArray := prog_12_method_74_code
def yX3_fault : MethodName := ⟨RX3, "fault", "(I)I"⟩
def dkwX3_fault_3 : List UInt8 := [180, 0, 227, 172]
abbrev dktX3_fault_3 : List UInt8 := dkwX3_fault_3 ++ []
def dkwX3_fault_2 : List UInt8 := [27, 154, 0, 10, 42, 180, 0, 211, 167, 0, 19, 27, 4, 160, 0, 10, 42, 180, 0, 224, 167, 0, 7, 42]
abbrev dktX3_fault_2 : List UInt8 := dkwX3_fault_2 ++ dktX3_fault_3
def dkwX3_fault_1 : List UInt8 := [182, 0, 234, 61, 42, 180, 0, 16, 42, 180, 0, 7, 184, 0, 230, 28, 153, 0, 8, 18, 110, 167, 0, 30]
abbrev dktX3_fault_1 : List UInt8 := dkwX3_fault_1 ++ dktX3_fault_2
def dkwX3_fault_0 : List UInt8 := [27, 3, 5, 184, 0, 39, 154, 0, 6, 18, 50, 172, 42, 180, 0, 7, 42, 180, 0, 16, 184, 0, 230, 42]
abbrev dktX3_fault_0 : List UInt8 := dkwX3_fault_0 ++ dktX3_fault_1
theorem dksX3_fault_0 : cX3_fault.data.toList.drop 0 = dktX3_fault_0 := by decide +kernel
theorem dksX3_fault_1 : cX3_fault.data.toList.drop 24 = dktX3_fault_1 := dk_seg dksX3_fault_0 24 rfl rfl
theorem dksX3_fault_2 : cX3_fault.data.toList.drop 48 = dktX3_fault_2 := dk_seg dksX3_fault_1 24 rfl rfl
theorem dksX3_fault_3 : cX3_fault.data.toList.drop 72 = dktX3_fault_3 := dk_seg dksX3_fault_2 24 rfl rfl
theorem dX3_fault_0 : decode cX3_fault 0 = .ok (.iload_n 1, 1) := dk_27 (dk_at dksX3_fault_0 0 rfl rfl)
theorem dX3_fault_1 : decode cX3_fault 1 = .ok (.iconst 0, 1) := dk_3 (dk_at dksX3_fault_0 1 rfl rfl)
theorem dX3_fault_2 : decode cX3_fault 2 = .ok (.iconst 2, 1) := dk_5 (dk_at dksX3_fault_0 2 rfl rfl)
theorem dX3_fault_3 : decode cX3_fault 3 = .ok (.invokestatic 39, 3) := dk_184 0 39 (dk_at dksX3_fault_0 3 rfl rfl)
theorem dX3_fault_6 : decode cX3_fault 6 = .ok (.ifCond .ne 6, 3) := dk_154 0 6 (dk_at dksX3_fault_0 6 rfl rfl)
theorem dX3_fault_9 : decode cX3_fault 9 = .ok (.ldc 50, 2) := dk_18 50 (dk_at dksX3_fault_0 9 rfl rfl)
theorem dX3_fault_11 : decode cX3_fault 11 = .ok (.ireturn, 1) := dk_172 (dk_at dksX3_fault_0 11 rfl rfl)
theorem dX3_fault_12 : decode cX3_fault 12 = .ok (.aload_n 0, 1) := dk_42 (dk_at dksX3_fault_0 12 rfl rfl)
theorem dX3_fault_13 : decode cX3_fault 13 = .ok (.getfield 7, 3) := dk_180 0 7 (dk_at dksX3_fault_0 13 rfl rfl)
theorem dX3_fault_16 : decode cX3_fault 16 = .ok (.aload_n 0, 1) := dk_42 (dk_at dksX3_fault_0 16 rfl rfl)
theorem dX3_fault_17 : decode cX3_fault 17 = .ok (.getfield 16, 3) := dk_180 0 16 (dk_at dksX3_fault_0 17 rfl rfl)
theorem dX3_fault_20 : decode cX3_fault 20 = .ok (.invokestatic 230, 3) := dk_184 0 230 (dk_at dksX3_fault_0 20 rfl rfl)
theorem dX3_fault_23 : decode cX3_fault 23 = .ok (.aload_n 0, 1) := dk_42 (dk_at dksX3_fault_0 23 rfl rfl)
theorem dX3_fault_24 : decode cX3_fault 24 = .ok (.invokevirtual 234, 3) := dk_182 0 234 (dk_at dksX3_fault_1 0 rfl rfl)
theorem dX3_fault_27 : decode cX3_fault 27 = .ok (.istore_n 2, 1) := dk_61 (dk_at dksX3_fault_1 3 rfl rfl)
theorem dX3_fault_28 : decode cX3_fault 28 = .ok (.aload_n 0, 1) := dk_42 (dk_at dksX3_fault_1 4 rfl rfl)
theorem dX3_fault_29 : decode cX3_fault 29 = .ok (.getfield 16, 3) := dk_180 0 16 (dk_at dksX3_fault_1 5 rfl rfl)
theorem dX3_fault_32 : decode cX3_fault 32 = .ok (.aload_n 0, 1) := dk_42 (dk_at dksX3_fault_1 8 rfl rfl)
theorem dX3_fault_33 : decode cX3_fault 33 = .ok (.getfield 7, 3) := dk_180 0 7 (dk_at dksX3_fault_1 9 rfl rfl)
theorem dX3_fault_36 : decode cX3_fault 36 = .ok (.invokestatic 230, 3) := dk_184 0 230 (dk_at dksX3_fault_1 12 rfl rfl)
theorem dX3_fault_39 : decode cX3_fault 39 = .ok (.iload_n 2, 1) := dk_28 (dk_at dksX3_fault_1 15 rfl rfl)
theorem dX3_fault_40 : decode cX3_fault 40 = .ok (.ifCond .eq 8, 3) := dk_153 0 8 (dk_at dksX3_fault_1 16 rfl rfl)
theorem dX3_fault_43 : decode cX3_fault 43 = .ok (.ldc 110, 2) := dk_18 110 (dk_at dksX3_fault_1 19 rfl rfl)
theorem dX3_fault_45 : decode cX3_fault 45 = .ok (.goto 30, 3) := dk_167 0 30 (dk_at dksX3_fault_1 21 rfl rfl)
theorem dX3_fault_48 : decode cX3_fault 48 = .ok (.iload_n 1, 1) := dk_27 (dk_at dksX3_fault_2 0 rfl rfl)
theorem dX3_fault_49 : decode cX3_fault 49 = .ok (.ifCond .ne 10, 3) := dk_154 0 10 (dk_at dksX3_fault_2 1 rfl rfl)
theorem dX3_fault_52 : decode cX3_fault 52 = .ok (.aload_n 0, 1) := dk_42 (dk_at dksX3_fault_2 4 rfl rfl)
theorem dX3_fault_53 : decode cX3_fault 53 = .ok (.getfield 211, 3) := dk_180 0 211 (dk_at dksX3_fault_2 5 rfl rfl)
theorem dX3_fault_56 : decode cX3_fault 56 = .ok (.goto 19, 3) := dk_167 0 19 (dk_at dksX3_fault_2 8 rfl rfl)
theorem dX3_fault_59 : decode cX3_fault 59 = .ok (.iload_n 1, 1) := dk_27 (dk_at dksX3_fault_2 11 rfl rfl)
theorem dX3_fault_60 : decode cX3_fault 60 = .ok (.iconst 1, 1) := dk_4 (dk_at dksX3_fault_2 12 rfl rfl)
theorem dX3_fault_61 : decode cX3_fault 61 = .ok (.if_icmp .ne 10, 3) := dk_160 0 10 (dk_at dksX3_fault_2 13 rfl rfl)
theorem dX3_fault_64 : decode cX3_fault 64 = .ok (.aload_n 0, 1) := dk_42 (dk_at dksX3_fault_2 16 rfl rfl)
theorem dX3_fault_65 : decode cX3_fault 65 = .ok (.getfield 224, 3) := dk_180 0 224 (dk_at dksX3_fault_2 17 rfl rfl)
theorem dX3_fault_68 : decode cX3_fault 68 = .ok (.goto 7, 3) := dk_167 0 7 (dk_at dksX3_fault_2 20 rfl rfl)
theorem dX3_fault_71 : decode cX3_fault 71 = .ok (.aload_n 0, 1) := dk_42 (dk_at dksX3_fault_2 23 rfl rfl)
theorem dX3_fault_72 : decode cX3_fault 72 = .ok (.getfield 227, 3) := dk_180 0 227 (dk_at dksX3_fault_3 0 rfl rfl)
theorem dX3_fault_75 : decode cX3_fault 75 = .ok (.ireturn, 1) := dk_172 (dk_at dksX3_fault_3 3 rfl rfl)
abbrev cX3_copies : ByteArray := prog_12_method_4_code
def yX3_copies : MethodName := ⟨RX3, "copies", "([I[I)V"⟩
def dkwX3_copies_0 : List UInt8 := [3, 61, 28, 17, 1, 28, 162, 0, 15, 43, 28, 42, 28, 46, 79, 132, 2, 1, 167, 255, 240, 177]
abbrev dktX3_copies_0 : List UInt8 := dkwX3_copies_0 ++ []
theorem dksX3_copies_0 : cX3_copies.data.toList.drop 0 = dktX3_copies_0 := by decide +kernel
theorem dX3_copies_0 : decode cX3_copies 0 = .ok (.iconst 0, 1) := dk_3 (dk_at dksX3_copies_0 0 rfl rfl)
theorem dX3_copies_1 : decode cX3_copies 1 = .ok (.istore_n 2, 1) := dk_61 (dk_at dksX3_copies_0 1 rfl rfl)
theorem dX3_copies_2 : decode cX3_copies 2 = .ok (.iload_n 2, 1) := dk_28 (dk_at dksX3_copies_0 2 rfl rfl)
theorem dX3_copies_3 : decode cX3_copies 3 = .ok (.sipush 284, 3) := dk_17 1 28 (dk_at dksX3_copies_0 3 rfl rfl)
theorem dX3_copies_6 : decode cX3_copies 6 = .ok (.if_icmp .ge 15, 3) := dk_162 0 15 (dk_at dksX3_copies_0 6 rfl rfl)
theorem dX3_copies_9 : decode cX3_copies 9 = .ok (.aload_n 1, 1) := dk_43 (dk_at dksX3_copies_0 9 rfl rfl)
theorem dX3_copies_10 : decode cX3_copies 10 = .ok (.iload_n 2, 1) := dk_28 (dk_at dksX3_copies_0 10 rfl rfl)
theorem dX3_copies_11 : decode cX3_copies 11 = .ok (.aload_n 0, 1) := dk_42 (dk_at dksX3_copies_0 11 rfl rfl)
theorem dX3_copies_12 : decode cX3_copies 12 = .ok (.iload_n 2, 1) := dk_28 (dk_at dksX3_copies_0 12 rfl rfl)
theorem dX3_copies_13 : decode cX3_copies 13 = .ok (.iaload, 1) := dk_46 (dk_at dksX3_copies_0 13 rfl rfl)
theorem dX3_copies_14 : decode cX3_copies 14 = .ok (.iastore, 1) := dk_79 (dk_at dksX3_copies_0 14 rfl rfl)
theorem dX3_copies_15 : decode cX3_copies 15 = .ok (.iinc 2 1, 3) := dk_132 2 1 (dk_at dksX3_copies_0 15 rfl rfl)
theorem dX3_copies_18 : decode cX3_copies 18 = .ok (.goto (-16), 3) := dk_167 255 240 (dk_at dksX3_copies_0 18 rfl rfl)
theorem dX3_copies_21 : decode cX3_copies 21 = .ok (.return_, 1) := dk_177 (dk_at dksX3_copies_0 21 rfl rfl)
abbrev cX3_plays : ByteArray := prog_12_method_73_code
def yX3_plays : MethodName := ⟨RX3, "plays", "()Z"⟩
def dkwX3_plays_5 : List UInt8 := [4, 96, 181, 0, 214, 167, 255, 157, 42, 3, 181, 0, 31, 27, 172]
abbrev dktX3_plays_5 : List UInt8 := dkwX3_plays_5 ++ []
def dkwX3_plays_4 : List UInt8 := [153, 0, 7, 29, 167, 0, 12, 42, 180, 0, 177, 42, 180, 0, 211, 100, 181, 0, 227, 42, 89, 180, 0, 214]
abbrev dktX3_plays_4 : List UInt8 := dkwX3_plays_4 ++ dktX3_plays_5
def dkwX3_plays_3 : List UInt8 := [155, 0, 7, 4, 167, 0, 4, 3, 60, 42, 28, 153, 0, 7, 5, 167, 0, 4, 4, 181, 0, 224, 42, 28]
abbrev dktX3_plays_3 : List UInt8 := dkwX3_plays_3 ++ dktX3_plays_4
def dkwX3_plays_2 : List UInt8 := [182, 0, 217, 61, 28, 153, 0, 10, 42, 182, 0, 221, 167, 0, 4, 3, 62, 28, 153, 0, 11, 29]
abbrev dktX3_plays_2 : List UInt8 := dkwX3_plays_2 ++ dktX3_plays_3
def dkwX3_plays_1 : List UInt8 := [180, 0, 177, 42, 180, 0, 174, 162, 0, 94, 27, 153, 0, 90, 42, 42, 180, 0, 177, 181, 0, 211, 42]
abbrev dktX3_plays_1 : List UInt8 := dkwX3_plays_1 ++ dktX3_plays_2
def dkwX3_plays_0 : List UInt8 := [42, 4, 181, 0, 31, 42, 3, 181, 0, 177, 42, 3, 181, 0, 211, 42, 3, 181, 0, 214, 4, 60, 42]
abbrev dktX3_plays_0 : List UInt8 := dkwX3_plays_0 ++ dktX3_plays_1
theorem dksX3_plays_0 : cX3_plays.data.toList.drop 0 = dktX3_plays_0 := by decide +kernel
theorem dksX3_plays_1 : cX3_plays.data.toList.drop 23 = dktX3_plays_1 := dk_seg dksX3_plays_0 23 rfl rfl
theorem dksX3_plays_2 : cX3_plays.data.toList.drop 46 = dktX3_plays_2 := dk_seg dksX3_plays_1 23 rfl rfl
theorem dksX3_plays_3 : cX3_plays.data.toList.drop 68 = dktX3_plays_3 := dk_seg dksX3_plays_2 22 rfl rfl
theorem dksX3_plays_4 : cX3_plays.data.toList.drop 92 = dktX3_plays_4 := dk_seg dksX3_plays_3 24 rfl rfl
theorem dksX3_plays_5 : cX3_plays.data.toList.drop 116 = dktX3_plays_5 := dk_seg dksX3_plays_4 24 rfl rfl
theorem dX3_plays_0 : decode cX3_plays 0 = .ok (.aload_n 0, 1) := dk_42 (dk_at dksX3_plays_0 0 rfl rfl)
theorem dX3_plays_1 : decode cX3_plays 1 = .ok (.iconst 1, 1) := dk_4 (dk_at dksX3_plays_0 1 rfl rfl)
theorem dX3_plays_2 : decode cX3_plays 2 = .ok (.putfield 31, 3) := dk_181 0 31 (dk_at dksX3_plays_0 2 rfl rfl)
theorem dX3_plays_5 : decode cX3_plays 5 = .ok (.aload_n 0, 1) := dk_42 (dk_at dksX3_plays_0 5 rfl rfl)
theorem dX3_plays_6 : decode cX3_plays 6 = .ok (.iconst 0, 1) := dk_3 (dk_at dksX3_plays_0 6 rfl rfl)
theorem dX3_plays_7 : decode cX3_plays 7 = .ok (.putfield 177, 3) := dk_181 0 177 (dk_at dksX3_plays_0 7 rfl rfl)
theorem dX3_plays_10 : decode cX3_plays 10 = .ok (.aload_n 0, 1) := dk_42 (dk_at dksX3_plays_0 10 rfl rfl)
theorem dX3_plays_11 : decode cX3_plays 11 = .ok (.iconst 0, 1) := dk_3 (dk_at dksX3_plays_0 11 rfl rfl)
theorem dX3_plays_12 : decode cX3_plays 12 = .ok (.putfield 211, 3) := dk_181 0 211 (dk_at dksX3_plays_0 12 rfl rfl)
theorem dX3_plays_15 : decode cX3_plays 15 = .ok (.aload_n 0, 1) := dk_42 (dk_at dksX3_plays_0 15 rfl rfl)
theorem dX3_plays_16 : decode cX3_plays 16 = .ok (.iconst 0, 1) := dk_3 (dk_at dksX3_plays_0 16 rfl rfl)
theorem dX3_plays_17 : decode cX3_plays 17 = .ok (.putfield 214, 3) := dk_181 0 214 (dk_at dksX3_plays_0 17 rfl rfl)
theorem dX3_plays_20 : decode cX3_plays 20 = .ok (.iconst 1, 1) := dk_4 (dk_at dksX3_plays_0 20 rfl rfl)
theorem dX3_plays_21 : decode cX3_plays 21 = .ok (.istore_n 1, 1) := dk_60 (dk_at dksX3_plays_0 21 rfl rfl)
theorem dX3_plays_22 : decode cX3_plays 22 = .ok (.aload_n 0, 1) := dk_42 (dk_at dksX3_plays_0 22 rfl rfl)
theorem dX3_plays_23 : decode cX3_plays 23 = .ok (.getfield 177, 3) := dk_180 0 177 (dk_at dksX3_plays_1 0 rfl rfl)
theorem dX3_plays_26 : decode cX3_plays 26 = .ok (.aload_n 0, 1) := dk_42 (dk_at dksX3_plays_1 3 rfl rfl)
theorem dX3_plays_27 : decode cX3_plays 27 = .ok (.getfield 174, 3) := dk_180 0 174 (dk_at dksX3_plays_1 4 rfl rfl)
theorem dX3_plays_30 : decode cX3_plays 30 = .ok (.if_icmp .ge 94, 3) := dk_162 0 94 (dk_at dksX3_plays_1 7 rfl rfl)
theorem dX3_plays_33 : decode cX3_plays 33 = .ok (.iload_n 1, 1) := dk_27 (dk_at dksX3_plays_1 10 rfl rfl)
theorem dX3_plays_34 : decode cX3_plays 34 = .ok (.ifCond .eq 90, 3) := dk_153 0 90 (dk_at dksX3_plays_1 11 rfl rfl)
theorem dX3_plays_37 : decode cX3_plays 37 = .ok (.aload_n 0, 1) := dk_42 (dk_at dksX3_plays_1 14 rfl rfl)
theorem dX3_plays_38 : decode cX3_plays 38 = .ok (.aload_n 0, 1) := dk_42 (dk_at dksX3_plays_1 15 rfl rfl)
theorem dX3_plays_39 : decode cX3_plays 39 = .ok (.getfield 177, 3) := dk_180 0 177 (dk_at dksX3_plays_1 16 rfl rfl)
theorem dX3_plays_42 : decode cX3_plays 42 = .ok (.putfield 211, 3) := dk_181 0 211 (dk_at dksX3_plays_1 19 rfl rfl)
theorem dX3_plays_45 : decode cX3_plays 45 = .ok (.aload_n 0, 1) := dk_42 (dk_at dksX3_plays_1 22 rfl rfl)
theorem dX3_plays_46 : decode cX3_plays 46 = .ok (.invokevirtual 217, 3) := dk_182 0 217 (dk_at dksX3_plays_2 0 rfl rfl)
theorem dX3_plays_49 : decode cX3_plays 49 = .ok (.istore_n 2, 1) := dk_61 (dk_at dksX3_plays_2 3 rfl rfl)
theorem dX3_plays_50 : decode cX3_plays 50 = .ok (.iload_n 2, 1) := dk_28 (dk_at dksX3_plays_2 4 rfl rfl)
theorem dX3_plays_51 : decode cX3_plays 51 = .ok (.ifCond .eq 10, 3) := dk_153 0 10 (dk_at dksX3_plays_2 5 rfl rfl)
theorem dX3_plays_54 : decode cX3_plays 54 = .ok (.aload_n 0, 1) := dk_42 (dk_at dksX3_plays_2 8 rfl rfl)
theorem dX3_plays_55 : decode cX3_plays 55 = .ok (.invokevirtual 221, 3) := dk_182 0 221 (dk_at dksX3_plays_2 9 rfl rfl)
theorem dX3_plays_58 : decode cX3_plays 58 = .ok (.goto 4, 3) := dk_167 0 4 (dk_at dksX3_plays_2 12 rfl rfl)
theorem dX3_plays_61 : decode cX3_plays 61 = .ok (.iconst 0, 1) := dk_3 (dk_at dksX3_plays_2 15 rfl rfl)
theorem dX3_plays_62 : decode cX3_plays 62 = .ok (.istore_n 3, 1) := dk_62 (dk_at dksX3_plays_2 16 rfl rfl)
theorem dX3_plays_63 : decode cX3_plays 63 = .ok (.iload_n 2, 1) := dk_28 (dk_at dksX3_plays_2 17 rfl rfl)
theorem dX3_plays_64 : decode cX3_plays 64 = .ok (.ifCond .eq 11, 3) := dk_153 0 11 (dk_at dksX3_plays_2 18 rfl rfl)
theorem dX3_plays_67 : decode cX3_plays 67 = .ok (.iload_n 3, 1) := dk_29 (dk_at dksX3_plays_2 21 rfl rfl)
theorem dX3_plays_68 : decode cX3_plays 68 = .ok (.ifCond .lt 7, 3) := dk_155 0 7 (dk_at dksX3_plays_3 0 rfl rfl)
theorem dX3_plays_71 : decode cX3_plays 71 = .ok (.iconst 1, 1) := dk_4 (dk_at dksX3_plays_3 3 rfl rfl)
theorem dX3_plays_72 : decode cX3_plays 72 = .ok (.goto 4, 3) := dk_167 0 4 (dk_at dksX3_plays_3 4 rfl rfl)
theorem dX3_plays_75 : decode cX3_plays 75 = .ok (.iconst 0, 1) := dk_3 (dk_at dksX3_plays_3 7 rfl rfl)
theorem dX3_plays_76 : decode cX3_plays 76 = .ok (.istore_n 1, 1) := dk_60 (dk_at dksX3_plays_3 8 rfl rfl)
theorem dX3_plays_77 : decode cX3_plays 77 = .ok (.aload_n 0, 1) := dk_42 (dk_at dksX3_plays_3 9 rfl rfl)
theorem dX3_plays_78 : decode cX3_plays 78 = .ok (.iload_n 2, 1) := dk_28 (dk_at dksX3_plays_3 10 rfl rfl)
theorem dX3_plays_79 : decode cX3_plays 79 = .ok (.ifCond .eq 7, 3) := dk_153 0 7 (dk_at dksX3_plays_3 11 rfl rfl)
theorem dX3_plays_82 : decode cX3_plays 82 = .ok (.iconst 2, 1) := dk_5 (dk_at dksX3_plays_3 14 rfl rfl)
theorem dX3_plays_83 : decode cX3_plays 83 = .ok (.goto 4, 3) := dk_167 0 4 (dk_at dksX3_plays_3 15 rfl rfl)
theorem dX3_plays_86 : decode cX3_plays 86 = .ok (.iconst 1, 1) := dk_4 (dk_at dksX3_plays_3 18 rfl rfl)
theorem dX3_plays_87 : decode cX3_plays 87 = .ok (.putfield 224, 3) := dk_181 0 224 (dk_at dksX3_plays_3 19 rfl rfl)
theorem dX3_plays_90 : decode cX3_plays 90 = .ok (.aload_n 0, 1) := dk_42 (dk_at dksX3_plays_3 22 rfl rfl)
theorem dX3_plays_91 : decode cX3_plays 91 = .ok (.iload_n 2, 1) := dk_28 (dk_at dksX3_plays_3 23 rfl rfl)
theorem dX3_plays_92 : decode cX3_plays 92 = .ok (.ifCond .eq 7, 3) := dk_153 0 7 (dk_at dksX3_plays_4 0 rfl rfl)
theorem dX3_plays_95 : decode cX3_plays 95 = .ok (.iload_n 3, 1) := dk_29 (dk_at dksX3_plays_4 3 rfl rfl)
theorem dX3_plays_96 : decode cX3_plays 96 = .ok (.goto 12, 3) := dk_167 0 12 (dk_at dksX3_plays_4 4 rfl rfl)
theorem dX3_plays_99 : decode cX3_plays 99 = .ok (.aload_n 0, 1) := dk_42 (dk_at dksX3_plays_4 7 rfl rfl)
theorem dX3_plays_100 : decode cX3_plays 100 = .ok (.getfield 177, 3) := dk_180 0 177 (dk_at dksX3_plays_4 8 rfl rfl)
theorem dX3_plays_103 : decode cX3_plays 103 = .ok (.aload_n 0, 1) := dk_42 (dk_at dksX3_plays_4 11 rfl rfl)
theorem dX3_plays_104 : decode cX3_plays 104 = .ok (.getfield 211, 3) := dk_180 0 211 (dk_at dksX3_plays_4 12 rfl rfl)
theorem dX3_plays_107 : decode cX3_plays 107 = .ok (.isub, 1) := dk_100 (dk_at dksX3_plays_4 15 rfl rfl)
theorem dX3_plays_108 : decode cX3_plays 108 = .ok (.putfield 227, 3) := dk_181 0 227 (dk_at dksX3_plays_4 16 rfl rfl)
theorem dX3_plays_111 : decode cX3_plays 111 = .ok (.aload_n 0, 1) := dk_42 (dk_at dksX3_plays_4 19 rfl rfl)
theorem dX3_plays_112 : decode cX3_plays 112 = .ok (.dup, 1) := dk_89 (dk_at dksX3_plays_4 20 rfl rfl)
theorem dX3_plays_113 : decode cX3_plays 113 = .ok (.getfield 214, 3) := dk_180 0 214 (dk_at dksX3_plays_4 21 rfl rfl)
theorem dX3_plays_116 : decode cX3_plays 116 = .ok (.iconst 1, 1) := dk_4 (dk_at dksX3_plays_5 0 rfl rfl)
theorem dX3_plays_117 : decode cX3_plays 117 = .ok (.iadd, 1) := dk_96 (dk_at dksX3_plays_5 1 rfl rfl)
theorem dX3_plays_118 : decode cX3_plays 118 = .ok (.putfield 214, 3) := dk_181 0 214 (dk_at dksX3_plays_5 2 rfl rfl)
theorem dX3_plays_121 : decode cX3_plays 121 = .ok (.goto (-99), 3) := dk_167 255 157 (dk_at dksX3_plays_5 5 rfl rfl)
theorem dX3_plays_124 : decode cX3_plays 124 = .ok (.aload_n 0, 1) := dk_42 (dk_at dksX3_plays_5 8 rfl rfl)
theorem dX3_plays_125 : decode cX3_plays 125 = .ok (.iconst 0, 1) := dk_3 (dk_at dksX3_plays_5 9 rfl rfl)
theorem dX3_plays_126 : decode cX3_plays 126 = .ok (.putfield 31, 3) := dk_181 0 31 (dk_at dksX3_plays_5 10 rfl rfl)
theorem dX3_plays_129 : decode cX3_plays 129 = .ok (.iload_n 1, 1) := dk_27 (dk_at dksX3_plays_5 13 rfl rfl)
theorem dX3_plays_130 : decode cX3_plays 130 = .ok (.ireturn, 1) := dk_172 (dk_at dksX3_plays_5 14 rfl rfl)
abbrev cX3_reads : ByteArray := prog_12_method_71_code
def yX3_reads : MethodName := ⟨RX3, "reads", "()Z"⟩
def dkwX3_reads_4 : List UInt8 := [167, 255, 221, 28, 153, 0, 16, 42, 16, 59, 182, 0, 192, 153, 0, 7, 4, 167, 0, 4, 3, 172]
abbrev dktX3_reads_4 : List UInt8 := dkwX3_reads_4 ++ []
def dkwX3_reads_3 : List UInt8 := [182, 0, 192, 153, 0, 15, 42, 29, 182, 0, 189, 153, 0, 7, 4, 167, 0, 4, 3, 61, 132, 3, 1]
abbrev dktX3_reads_3 : List UInt8 := dkwX3_reads_3 ++ dktX3_reads_4
def dkwX3_reads_2 : List UInt8 := [96, 181, 0, 177, 42, 3, 182, 0, 189, 61, 4, 62, 29, 27, 162, 0, 36, 28, 153, 0, 32, 42, 16, 44]
abbrev dktX3_reads_2 : List UInt8 := dkwX3_reads_2 ++ dktX3_reads_3
def dkwX3_reads_1 : List UInt8 := [3, 181, 0, 183, 42, 180, 0, 183, 184, 0, 186, 60, 27, 154, 0, 5, 3, 172, 42, 89, 180, 0, 177, 4]
abbrev dktX3_reads_1 : List UInt8 := dkwX3_reads_1 ++ dktX3_reads_2
def dkwX3_reads_0 : List UInt8 := [42, 42, 16, 33, 16, 126, 182, 0, 180, 153, 0, 15, 42, 180, 0, 19, 42, 180, 0, 177, 46, 167, 0, 4]
abbrev dktX3_reads_0 : List UInt8 := dkwX3_reads_0 ++ dktX3_reads_1
theorem dksX3_reads_0 : cX3_reads.data.toList.drop 0 = dktX3_reads_0 := by decide +kernel
theorem dksX3_reads_1 : cX3_reads.data.toList.drop 24 = dktX3_reads_1 := dk_seg dksX3_reads_0 24 rfl rfl
theorem dksX3_reads_2 : cX3_reads.data.toList.drop 48 = dktX3_reads_2 := dk_seg dksX3_reads_1 24 rfl rfl
theorem dksX3_reads_3 : cX3_reads.data.toList.drop 72 = dktX3_reads_3 := dk_seg dksX3_reads_2 24 rfl rfl
theorem dksX3_reads_4 : cX3_reads.data.toList.drop 95 = dktX3_reads_4 := dk_seg dksX3_reads_3 23 rfl rfl
theorem dX3_reads_0 : decode cX3_reads 0 = .ok (.aload_n 0, 1) := dk_42 (dk_at dksX3_reads_0 0 rfl rfl)
theorem dX3_reads_1 : decode cX3_reads 1 = .ok (.aload_n 0, 1) := dk_42 (dk_at dksX3_reads_0 1 rfl rfl)
theorem dX3_reads_2 : decode cX3_reads 2 = .ok (.bipush 33, 2) := dk_16 33 (dk_at dksX3_reads_0 2 rfl rfl)
theorem dX3_reads_4 : decode cX3_reads 4 = .ok (.bipush 126, 2) := dk_16 126 (dk_at dksX3_reads_0 4 rfl rfl)
theorem dX3_reads_6 : decode cX3_reads 6 = .ok (.invokevirtual 180, 3) := dk_182 0 180 (dk_at dksX3_reads_0 6 rfl rfl)
theorem dX3_reads_9 : decode cX3_reads 9 = .ok (.ifCond .eq 15, 3) := dk_153 0 15 (dk_at dksX3_reads_0 9 rfl rfl)
theorem dX3_reads_12 : decode cX3_reads 12 = .ok (.aload_n 0, 1) := dk_42 (dk_at dksX3_reads_0 12 rfl rfl)
theorem dX3_reads_13 : decode cX3_reads 13 = .ok (.getfield 19, 3) := dk_180 0 19 (dk_at dksX3_reads_0 13 rfl rfl)
theorem dX3_reads_16 : decode cX3_reads 16 = .ok (.aload_n 0, 1) := dk_42 (dk_at dksX3_reads_0 16 rfl rfl)
theorem dX3_reads_17 : decode cX3_reads 17 = .ok (.getfield 177, 3) := dk_180 0 177 (dk_at dksX3_reads_0 17 rfl rfl)
theorem dX3_reads_20 : decode cX3_reads 20 = .ok (.iaload, 1) := dk_46 (dk_at dksX3_reads_0 20 rfl rfl)
theorem dX3_reads_21 : decode cX3_reads 21 = .ok (.goto 4, 3) := dk_167 0 4 (dk_at dksX3_reads_0 21 rfl rfl)
theorem dX3_reads_24 : decode cX3_reads 24 = .ok (.iconst 0, 1) := dk_3 (dk_at dksX3_reads_1 0 rfl rfl)
theorem dX3_reads_25 : decode cX3_reads 25 = .ok (.putfield 183, 3) := dk_181 0 183 (dk_at dksX3_reads_1 1 rfl rfl)
theorem dX3_reads_28 : decode cX3_reads 28 = .ok (.aload_n 0, 1) := dk_42 (dk_at dksX3_reads_1 4 rfl rfl)
theorem dX3_reads_29 : decode cX3_reads 29 = .ok (.getfield 183, 3) := dk_180 0 183 (dk_at dksX3_reads_1 5 rfl rfl)
theorem dX3_reads_32 : decode cX3_reads 32 = .ok (.invokestatic 186, 3) := dk_184 0 186 (dk_at dksX3_reads_1 8 rfl rfl)
theorem dX3_reads_35 : decode cX3_reads 35 = .ok (.istore_n 1, 1) := dk_60 (dk_at dksX3_reads_1 11 rfl rfl)
theorem dX3_reads_36 : decode cX3_reads 36 = .ok (.iload_n 1, 1) := dk_27 (dk_at dksX3_reads_1 12 rfl rfl)
theorem dX3_reads_37 : decode cX3_reads 37 = .ok (.ifCond .ne 5, 3) := dk_154 0 5 (dk_at dksX3_reads_1 13 rfl rfl)
theorem dX3_reads_40 : decode cX3_reads 40 = .ok (.iconst 0, 1) := dk_3 (dk_at dksX3_reads_1 16 rfl rfl)
theorem dX3_reads_41 : decode cX3_reads 41 = .ok (.ireturn, 1) := dk_172 (dk_at dksX3_reads_1 17 rfl rfl)
theorem dX3_reads_42 : decode cX3_reads 42 = .ok (.aload_n 0, 1) := dk_42 (dk_at dksX3_reads_1 18 rfl rfl)
theorem dX3_reads_43 : decode cX3_reads 43 = .ok (.dup, 1) := dk_89 (dk_at dksX3_reads_1 19 rfl rfl)
theorem dX3_reads_44 : decode cX3_reads 44 = .ok (.getfield 177, 3) := dk_180 0 177 (dk_at dksX3_reads_1 20 rfl rfl)
theorem dX3_reads_47 : decode cX3_reads 47 = .ok (.iconst 1, 1) := dk_4 (dk_at dksX3_reads_1 23 rfl rfl)
theorem dX3_reads_48 : decode cX3_reads 48 = .ok (.iadd, 1) := dk_96 (dk_at dksX3_reads_2 0 rfl rfl)
theorem dX3_reads_49 : decode cX3_reads 49 = .ok (.putfield 177, 3) := dk_181 0 177 (dk_at dksX3_reads_2 1 rfl rfl)
theorem dX3_reads_52 : decode cX3_reads 52 = .ok (.aload_n 0, 1) := dk_42 (dk_at dksX3_reads_2 4 rfl rfl)
theorem dX3_reads_53 : decode cX3_reads 53 = .ok (.iconst 0, 1) := dk_3 (dk_at dksX3_reads_2 5 rfl rfl)
theorem dX3_reads_54 : decode cX3_reads 54 = .ok (.invokevirtual 189, 3) := dk_182 0 189 (dk_at dksX3_reads_2 6 rfl rfl)
theorem dX3_reads_57 : decode cX3_reads 57 = .ok (.istore_n 2, 1) := dk_61 (dk_at dksX3_reads_2 9 rfl rfl)
theorem dX3_reads_58 : decode cX3_reads 58 = .ok (.iconst 1, 1) := dk_4 (dk_at dksX3_reads_2 10 rfl rfl)
theorem dX3_reads_59 : decode cX3_reads 59 = .ok (.istore_n 3, 1) := dk_62 (dk_at dksX3_reads_2 11 rfl rfl)
theorem dX3_reads_60 : decode cX3_reads 60 = .ok (.iload_n 3, 1) := dk_29 (dk_at dksX3_reads_2 12 rfl rfl)
theorem dX3_reads_61 : decode cX3_reads 61 = .ok (.iload_n 1, 1) := dk_27 (dk_at dksX3_reads_2 13 rfl rfl)
theorem dX3_reads_62 : decode cX3_reads 62 = .ok (.if_icmp .ge 36, 3) := dk_162 0 36 (dk_at dksX3_reads_2 14 rfl rfl)
theorem dX3_reads_65 : decode cX3_reads 65 = .ok (.iload_n 2, 1) := dk_28 (dk_at dksX3_reads_2 17 rfl rfl)
theorem dX3_reads_66 : decode cX3_reads 66 = .ok (.ifCond .eq 32, 3) := dk_153 0 32 (dk_at dksX3_reads_2 18 rfl rfl)
theorem dX3_reads_69 : decode cX3_reads 69 = .ok (.aload_n 0, 1) := dk_42 (dk_at dksX3_reads_2 21 rfl rfl)
theorem dX3_reads_70 : decode cX3_reads 70 = .ok (.bipush 44, 2) := dk_16 44 (dk_at dksX3_reads_2 22 rfl rfl)
theorem dX3_reads_72 : decode cX3_reads 72 = .ok (.invokevirtual 192, 3) := dk_182 0 192 (dk_at dksX3_reads_3 0 rfl rfl)
theorem dX3_reads_75 : decode cX3_reads 75 = .ok (.ifCond .eq 15, 3) := dk_153 0 15 (dk_at dksX3_reads_3 3 rfl rfl)
theorem dX3_reads_78 : decode cX3_reads 78 = .ok (.aload_n 0, 1) := dk_42 (dk_at dksX3_reads_3 6 rfl rfl)
theorem dX3_reads_79 : decode cX3_reads 79 = .ok (.iload_n 3, 1) := dk_29 (dk_at dksX3_reads_3 7 rfl rfl)
theorem dX3_reads_80 : decode cX3_reads 80 = .ok (.invokevirtual 189, 3) := dk_182 0 189 (dk_at dksX3_reads_3 8 rfl rfl)
theorem dX3_reads_83 : decode cX3_reads 83 = .ok (.ifCond .eq 7, 3) := dk_153 0 7 (dk_at dksX3_reads_3 11 rfl rfl)
theorem dX3_reads_86 : decode cX3_reads 86 = .ok (.iconst 1, 1) := dk_4 (dk_at dksX3_reads_3 14 rfl rfl)
theorem dX3_reads_87 : decode cX3_reads 87 = .ok (.goto 4, 3) := dk_167 0 4 (dk_at dksX3_reads_3 15 rfl rfl)
theorem dX3_reads_90 : decode cX3_reads 90 = .ok (.iconst 0, 1) := dk_3 (dk_at dksX3_reads_3 18 rfl rfl)
theorem dX3_reads_91 : decode cX3_reads 91 = .ok (.istore_n 2, 1) := dk_61 (dk_at dksX3_reads_3 19 rfl rfl)
theorem dX3_reads_92 : decode cX3_reads 92 = .ok (.iinc 3 1, 3) := dk_132 3 1 (dk_at dksX3_reads_3 20 rfl rfl)
theorem dX3_reads_95 : decode cX3_reads 95 = .ok (.goto (-35), 3) := dk_167 255 221 (dk_at dksX3_reads_4 0 rfl rfl)
theorem dX3_reads_98 : decode cX3_reads 98 = .ok (.iload_n 2, 1) := dk_28 (dk_at dksX3_reads_4 3 rfl rfl)
theorem dX3_reads_99 : decode cX3_reads 99 = .ok (.ifCond .eq 16, 3) := dk_153 0 16 (dk_at dksX3_reads_4 4 rfl rfl)
theorem dX3_reads_102 : decode cX3_reads 102 = .ok (.aload_n 0, 1) := dk_42 (dk_at dksX3_reads_4 7 rfl rfl)
theorem dX3_reads_103 : decode cX3_reads 103 = .ok (.bipush 59, 2) := dk_16 59 (dk_at dksX3_reads_4 8 rfl rfl)
theorem dX3_reads_105 : decode cX3_reads 105 = .ok (.invokevirtual 192, 3) := dk_182 0 192 (dk_at dksX3_reads_4 10 rfl rfl)
theorem dX3_reads_108 : decode cX3_reads 108 = .ok (.ifCond .eq 7, 3) := dk_153 0 7 (dk_at dksX3_reads_4 13 rfl rfl)
theorem dX3_reads_111 : decode cX3_reads 111 = .ok (.iconst 1, 1) := dk_4 (dk_at dksX3_reads_4 16 rfl rfl)
theorem dX3_reads_112 : decode cX3_reads 112 = .ok (.goto 4, 3) := dk_167 0 4 (dk_at dksX3_reads_4 17 rfl rfl)
theorem dX3_reads_115 : decode cX3_reads 115 = .ok (.iconst 0, 1) := dk_3 (dk_at dksX3_reads_4 20 rfl rfl)
theorem dX3_reads_116 : decode cX3_reads 116 = .ok (.ireturn, 1) := dk_172 (dk_at dksX3_reads_4 21 rfl rfl)
abbrev cX3_isAt : ByteArray := prog_12_method_67_code
def yX3_isAt : MethodName := ⟨RX3, "isAt", "(II)Z"⟩
def dkwX3_isAt_1 : List UInt8 := [184, 0, 39, 153, 0, 7, 4, 167, 0, 4, 3, 172]
abbrev dktX3_isAt_1 : List UInt8 := dkwX3_isAt_1 ++ []
def dkwX3_isAt_0 : List UInt8 := [42, 180, 0, 177, 42, 180, 0, 174, 162, 0, 24, 42, 180, 0, 19, 42, 180, 0, 177, 46, 27, 28]
abbrev dktX3_isAt_0 : List UInt8 := dkwX3_isAt_0 ++ dktX3_isAt_1
theorem dksX3_isAt_0 : cX3_isAt.data.toList.drop 0 = dktX3_isAt_0 := by decide +kernel
theorem dksX3_isAt_1 : cX3_isAt.data.toList.drop 22 = dktX3_isAt_1 := dk_seg dksX3_isAt_0 22 rfl rfl
theorem dX3_isAt_0 : decode cX3_isAt 0 = .ok (.aload_n 0, 1) := dk_42 (dk_at dksX3_isAt_0 0 rfl rfl)
theorem dX3_isAt_1 : decode cX3_isAt 1 = .ok (.getfield 177, 3) := dk_180 0 177 (dk_at dksX3_isAt_0 1 rfl rfl)
theorem dX3_isAt_4 : decode cX3_isAt 4 = .ok (.aload_n 0, 1) := dk_42 (dk_at dksX3_isAt_0 4 rfl rfl)
theorem dX3_isAt_5 : decode cX3_isAt 5 = .ok (.getfield 174, 3) := dk_180 0 174 (dk_at dksX3_isAt_0 5 rfl rfl)
theorem dX3_isAt_8 : decode cX3_isAt 8 = .ok (.if_icmp .ge 24, 3) := dk_162 0 24 (dk_at dksX3_isAt_0 8 rfl rfl)
theorem dX3_isAt_11 : decode cX3_isAt 11 = .ok (.aload_n 0, 1) := dk_42 (dk_at dksX3_isAt_0 11 rfl rfl)
theorem dX3_isAt_12 : decode cX3_isAt 12 = .ok (.getfield 19, 3) := dk_180 0 19 (dk_at dksX3_isAt_0 12 rfl rfl)
theorem dX3_isAt_15 : decode cX3_isAt 15 = .ok (.aload_n 0, 1) := dk_42 (dk_at dksX3_isAt_0 15 rfl rfl)
theorem dX3_isAt_16 : decode cX3_isAt 16 = .ok (.getfield 177, 3) := dk_180 0 177 (dk_at dksX3_isAt_0 16 rfl rfl)
theorem dX3_isAt_19 : decode cX3_isAt 19 = .ok (.iaload, 1) := dk_46 (dk_at dksX3_isAt_0 19 rfl rfl)
theorem dX3_isAt_20 : decode cX3_isAt 20 = .ok (.iload_n 1, 1) := dk_27 (dk_at dksX3_isAt_0 20 rfl rfl)
theorem dX3_isAt_21 : decode cX3_isAt 21 = .ok (.iload_n 2, 1) := dk_28 (dk_at dksX3_isAt_0 21 rfl rfl)
theorem dX3_isAt_22 : decode cX3_isAt 22 = .ok (.invokestatic 39, 3) := dk_184 0 39 (dk_at dksX3_isAt_1 0 rfl rfl)
theorem dX3_isAt_25 : decode cX3_isAt 25 = .ok (.ifCond .eq 7, 3) := dk_153 0 7 (dk_at dksX3_isAt_1 3 rfl rfl)
theorem dX3_isAt_28 : decode cX3_isAt 28 = .ok (.iconst 1, 1) := dk_4 (dk_at dksX3_isAt_1 6 rfl rfl)
theorem dX3_isAt_29 : decode cX3_isAt 29 = .ok (.goto 4, 3) := dk_167 0 4 (dk_at dksX3_isAt_1 7 rfl rfl)
theorem dX3_isAt_32 : decode cX3_isAt 32 = .ok (.iconst 0, 1) := dk_3 (dk_at dksX3_isAt_1 10 rfl rfl)
theorem dX3_isAt_33 : decode cX3_isAt 33 = .ok (.ireturn, 1) := dk_172 (dk_at dksX3_isAt_1 11 rfl rfl)
abbrev cX3_numbersOf : ByteArray := prog_12_method_70_code
def yX3_numbersOf : MethodName := ⟨RX3, "numbersOf", "(I)I"⟩
def dkwX3_numbersOf_1 : List UInt8 := [16, 103, 160, 0, 7, 5, 167, 0, 14, 26, 16, 115, 160, 0, 7, 4, 167, 0, 4, 3, 172]
abbrev dktX3_numbersOf_1 : List UInt8 := dkwX3_numbersOf_1 ++ []
def dkwX3_numbersOf_0 : List UInt8 := [26, 16, 116, 160, 0, 7, 6, 167, 0, 36, 26, 16, 119, 159, 0, 15, 26, 16, 99, 159, 0, 9, 26]
abbrev dktX3_numbersOf_0 : List UInt8 := dkwX3_numbersOf_0 ++ dktX3_numbersOf_1
theorem dksX3_numbersOf_0 : cX3_numbersOf.data.toList.drop 0 = dktX3_numbersOf_0 := by decide +kernel
theorem dksX3_numbersOf_1 : cX3_numbersOf.data.toList.drop 23 = dktX3_numbersOf_1 := dk_seg dksX3_numbersOf_0 23 rfl rfl
theorem dX3_numbersOf_0 : decode cX3_numbersOf 0 = .ok (.iload_n 0, 1) := dk_26 (dk_at dksX3_numbersOf_0 0 rfl rfl)
theorem dX3_numbersOf_1 : decode cX3_numbersOf 1 = .ok (.bipush 116, 2) := dk_16 116 (dk_at dksX3_numbersOf_0 1 rfl rfl)
theorem dX3_numbersOf_3 : decode cX3_numbersOf 3 = .ok (.if_icmp .ne 7, 3) := dk_160 0 7 (dk_at dksX3_numbersOf_0 3 rfl rfl)
theorem dX3_numbersOf_6 : decode cX3_numbersOf 6 = .ok (.iconst 3, 1) := dk_6 (dk_at dksX3_numbersOf_0 6 rfl rfl)
theorem dX3_numbersOf_7 : decode cX3_numbersOf 7 = .ok (.goto 36, 3) := dk_167 0 36 (dk_at dksX3_numbersOf_0 7 rfl rfl)
theorem dX3_numbersOf_10 : decode cX3_numbersOf 10 = .ok (.iload_n 0, 1) := dk_26 (dk_at dksX3_numbersOf_0 10 rfl rfl)
theorem dX3_numbersOf_11 : decode cX3_numbersOf 11 = .ok (.bipush 119, 2) := dk_16 119 (dk_at dksX3_numbersOf_0 11 rfl rfl)
theorem dX3_numbersOf_13 : decode cX3_numbersOf 13 = .ok (.if_icmp .eq 15, 3) := dk_159 0 15 (dk_at dksX3_numbersOf_0 13 rfl rfl)
theorem dX3_numbersOf_16 : decode cX3_numbersOf 16 = .ok (.iload_n 0, 1) := dk_26 (dk_at dksX3_numbersOf_0 16 rfl rfl)
theorem dX3_numbersOf_17 : decode cX3_numbersOf 17 = .ok (.bipush 99, 2) := dk_16 99 (dk_at dksX3_numbersOf_0 17 rfl rfl)
theorem dX3_numbersOf_19 : decode cX3_numbersOf 19 = .ok (.if_icmp .eq 9, 3) := dk_159 0 9 (dk_at dksX3_numbersOf_0 19 rfl rfl)
theorem dX3_numbersOf_22 : decode cX3_numbersOf 22 = .ok (.iload_n 0, 1) := dk_26 (dk_at dksX3_numbersOf_0 22 rfl rfl)
theorem dX3_numbersOf_23 : decode cX3_numbersOf 23 = .ok (.bipush 103, 2) := dk_16 103 (dk_at dksX3_numbersOf_1 0 rfl rfl)
theorem dX3_numbersOf_25 : decode cX3_numbersOf 25 = .ok (.if_icmp .ne 7, 3) := dk_160 0 7 (dk_at dksX3_numbersOf_1 2 rfl rfl)
theorem dX3_numbersOf_28 : decode cX3_numbersOf 28 = .ok (.iconst 2, 1) := dk_5 (dk_at dksX3_numbersOf_1 5 rfl rfl)
theorem dX3_numbersOf_29 : decode cX3_numbersOf 29 = .ok (.goto 14, 3) := dk_167 0 14 (dk_at dksX3_numbersOf_1 6 rfl rfl)
theorem dX3_numbersOf_32 : decode cX3_numbersOf 32 = .ok (.iload_n 0, 1) := dk_26 (dk_at dksX3_numbersOf_1 9 rfl rfl)
theorem dX3_numbersOf_33 : decode cX3_numbersOf 33 = .ok (.bipush 115, 2) := dk_16 115 (dk_at dksX3_numbersOf_1 10 rfl rfl)
theorem dX3_numbersOf_35 : decode cX3_numbersOf 35 = .ok (.if_icmp .ne 7, 3) := dk_160 0 7 (dk_at dksX3_numbersOf_1 12 rfl rfl)
theorem dX3_numbersOf_38 : decode cX3_numbersOf 38 = .ok (.iconst 1, 1) := dk_4 (dk_at dksX3_numbersOf_1 15 rfl rfl)
theorem dX3_numbersOf_39 : decode cX3_numbersOf 39 = .ok (.goto 4, 3) := dk_167 0 4 (dk_at dksX3_numbersOf_1 16 rfl rfl)
theorem dX3_numbersOf_42 : decode cX3_numbersOf 42 = .ok (.iconst 0, 1) := dk_3 (dk_at dksX3_numbersOf_1 19 rfl rfl)
theorem dX3_numbersOf_43 : decode cX3_numbersOf 43 = .ok (.ireturn, 1) := dk_172 (dk_at dksX3_numbersOf_1 20 rfl rfl)
abbrev cX3_number : ByteArray := prog_12_method_69_code
def yX3_number : MethodName := ⟨RX3, "number", "(I)Z"⟩
def dkwX3_number_3 : List UInt8 := [167, 255, 197, 42, 180, 0, 177, 28, 164, 0, 7, 4, 167, 0, 4, 3, 172]
abbrev dktX3_number_3 : List UInt8 := dkwX3_number_3 ++ []
def dkwX3_number_2 : List UInt8 := [180, 0, 19, 42, 180, 0, 177, 46, 96, 16, 48, 100, 79, 42, 89, 180, 0, 177, 4, 96, 181, 0, 177]
abbrev dktX3_number_2 : List UInt8 := dkwX3_number_2 ++ dktX3_number_3
def dkwX3_number_1 : List UInt8 := [180, 0, 177, 28, 100, 7, 162, 0, 44, 42, 180, 0, 28, 27, 16, 10, 42, 180, 0, 28, 27, 46, 104, 42]
abbrev dktX3_number_1 : List UInt8 := dkwX3_number_1 ++ dktX3_number_2
def dkwX3_number_0 : List UInt8 := [42, 180, 0, 177, 61, 42, 180, 0, 28, 27, 3, 79, 42, 16, 48, 16, 57, 182, 0, 180, 153, 0, 54, 42]
abbrev dktX3_number_0 : List UInt8 := dkwX3_number_0 ++ dktX3_number_1
theorem dksX3_number_0 : cX3_number.data.toList.drop 0 = dktX3_number_0 := by decide +kernel
theorem dksX3_number_1 : cX3_number.data.toList.drop 24 = dktX3_number_1 := dk_seg dksX3_number_0 24 rfl rfl
theorem dksX3_number_2 : cX3_number.data.toList.drop 48 = dktX3_number_2 := dk_seg dksX3_number_1 24 rfl rfl
theorem dksX3_number_3 : cX3_number.data.toList.drop 71 = dktX3_number_3 := dk_seg dksX3_number_2 23 rfl rfl
theorem dX3_number_0 : decode cX3_number 0 = .ok (.aload_n 0, 1) := dk_42 (dk_at dksX3_number_0 0 rfl rfl)
theorem dX3_number_1 : decode cX3_number 1 = .ok (.getfield 177, 3) := dk_180 0 177 (dk_at dksX3_number_0 1 rfl rfl)
theorem dX3_number_4 : decode cX3_number 4 = .ok (.istore_n 2, 1) := dk_61 (dk_at dksX3_number_0 4 rfl rfl)
theorem dX3_number_5 : decode cX3_number 5 = .ok (.aload_n 0, 1) := dk_42 (dk_at dksX3_number_0 5 rfl rfl)
theorem dX3_number_6 : decode cX3_number 6 = .ok (.getfield 28, 3) := dk_180 0 28 (dk_at dksX3_number_0 6 rfl rfl)
theorem dX3_number_9 : decode cX3_number 9 = .ok (.iload_n 1, 1) := dk_27 (dk_at dksX3_number_0 9 rfl rfl)
theorem dX3_number_10 : decode cX3_number 10 = .ok (.iconst 0, 1) := dk_3 (dk_at dksX3_number_0 10 rfl rfl)
theorem dX3_number_11 : decode cX3_number 11 = .ok (.iastore, 1) := dk_79 (dk_at dksX3_number_0 11 rfl rfl)
theorem dX3_number_12 : decode cX3_number 12 = .ok (.aload_n 0, 1) := dk_42 (dk_at dksX3_number_0 12 rfl rfl)
theorem dX3_number_13 : decode cX3_number 13 = .ok (.bipush 48, 2) := dk_16 48 (dk_at dksX3_number_0 13 rfl rfl)
theorem dX3_number_15 : decode cX3_number 15 = .ok (.bipush 57, 2) := dk_16 57 (dk_at dksX3_number_0 15 rfl rfl)
theorem dX3_number_17 : decode cX3_number 17 = .ok (.invokevirtual 180, 3) := dk_182 0 180 (dk_at dksX3_number_0 17 rfl rfl)
theorem dX3_number_20 : decode cX3_number 20 = .ok (.ifCond .eq 54, 3) := dk_153 0 54 (dk_at dksX3_number_0 20 rfl rfl)
theorem dX3_number_23 : decode cX3_number 23 = .ok (.aload_n 0, 1) := dk_42 (dk_at dksX3_number_0 23 rfl rfl)
theorem dX3_number_24 : decode cX3_number 24 = .ok (.getfield 177, 3) := dk_180 0 177 (dk_at dksX3_number_1 0 rfl rfl)
theorem dX3_number_27 : decode cX3_number 27 = .ok (.iload_n 2, 1) := dk_28 (dk_at dksX3_number_1 3 rfl rfl)
theorem dX3_number_28 : decode cX3_number 28 = .ok (.isub, 1) := dk_100 (dk_at dksX3_number_1 4 rfl rfl)
theorem dX3_number_29 : decode cX3_number 29 = .ok (.iconst 4, 1) := dk_7 (dk_at dksX3_number_1 5 rfl rfl)
theorem dX3_number_30 : decode cX3_number 30 = .ok (.if_icmp .ge 44, 3) := dk_162 0 44 (dk_at dksX3_number_1 6 rfl rfl)
theorem dX3_number_33 : decode cX3_number 33 = .ok (.aload_n 0, 1) := dk_42 (dk_at dksX3_number_1 9 rfl rfl)
theorem dX3_number_34 : decode cX3_number 34 = .ok (.getfield 28, 3) := dk_180 0 28 (dk_at dksX3_number_1 10 rfl rfl)
theorem dX3_number_37 : decode cX3_number 37 = .ok (.iload_n 1, 1) := dk_27 (dk_at dksX3_number_1 13 rfl rfl)
theorem dX3_number_38 : decode cX3_number 38 = .ok (.bipush 10, 2) := dk_16 10 (dk_at dksX3_number_1 14 rfl rfl)
theorem dX3_number_40 : decode cX3_number 40 = .ok (.aload_n 0, 1) := dk_42 (dk_at dksX3_number_1 16 rfl rfl)
theorem dX3_number_41 : decode cX3_number 41 = .ok (.getfield 28, 3) := dk_180 0 28 (dk_at dksX3_number_1 17 rfl rfl)
theorem dX3_number_44 : decode cX3_number 44 = .ok (.iload_n 1, 1) := dk_27 (dk_at dksX3_number_1 20 rfl rfl)
theorem dX3_number_45 : decode cX3_number 45 = .ok (.iaload, 1) := dk_46 (dk_at dksX3_number_1 21 rfl rfl)
theorem dX3_number_46 : decode cX3_number 46 = .ok (.imul, 1) := dk_104 (dk_at dksX3_number_1 22 rfl rfl)
theorem dX3_number_47 : decode cX3_number 47 = .ok (.aload_n 0, 1) := dk_42 (dk_at dksX3_number_1 23 rfl rfl)
theorem dX3_number_48 : decode cX3_number 48 = .ok (.getfield 19, 3) := dk_180 0 19 (dk_at dksX3_number_2 0 rfl rfl)
theorem dX3_number_51 : decode cX3_number 51 = .ok (.aload_n 0, 1) := dk_42 (dk_at dksX3_number_2 3 rfl rfl)
theorem dX3_number_52 : decode cX3_number 52 = .ok (.getfield 177, 3) := dk_180 0 177 (dk_at dksX3_number_2 4 rfl rfl)
theorem dX3_number_55 : decode cX3_number 55 = .ok (.iaload, 1) := dk_46 (dk_at dksX3_number_2 7 rfl rfl)
theorem dX3_number_56 : decode cX3_number 56 = .ok (.iadd, 1) := dk_96 (dk_at dksX3_number_2 8 rfl rfl)
theorem dX3_number_57 : decode cX3_number 57 = .ok (.bipush 48, 2) := dk_16 48 (dk_at dksX3_number_2 9 rfl rfl)
theorem dX3_number_59 : decode cX3_number 59 = .ok (.isub, 1) := dk_100 (dk_at dksX3_number_2 11 rfl rfl)
theorem dX3_number_60 : decode cX3_number 60 = .ok (.iastore, 1) := dk_79 (dk_at dksX3_number_2 12 rfl rfl)
theorem dX3_number_61 : decode cX3_number 61 = .ok (.aload_n 0, 1) := dk_42 (dk_at dksX3_number_2 13 rfl rfl)
theorem dX3_number_62 : decode cX3_number 62 = .ok (.dup, 1) := dk_89 (dk_at dksX3_number_2 14 rfl rfl)
theorem dX3_number_63 : decode cX3_number 63 = .ok (.getfield 177, 3) := dk_180 0 177 (dk_at dksX3_number_2 15 rfl rfl)
theorem dX3_number_66 : decode cX3_number 66 = .ok (.iconst 1, 1) := dk_4 (dk_at dksX3_number_2 18 rfl rfl)
theorem dX3_number_67 : decode cX3_number 67 = .ok (.iadd, 1) := dk_96 (dk_at dksX3_number_2 19 rfl rfl)
theorem dX3_number_68 : decode cX3_number 68 = .ok (.putfield 177, 3) := dk_181 0 177 (dk_at dksX3_number_2 20 rfl rfl)
theorem dX3_number_71 : decode cX3_number 71 = .ok (.goto (-59), 3) := dk_167 255 197 (dk_at dksX3_number_3 0 rfl rfl)
theorem dX3_number_74 : decode cX3_number 74 = .ok (.aload_n 0, 1) := dk_42 (dk_at dksX3_number_3 3 rfl rfl)
theorem dX3_number_75 : decode cX3_number 75 = .ok (.getfield 177, 3) := dk_180 0 177 (dk_at dksX3_number_3 4 rfl rfl)
theorem dX3_number_78 : decode cX3_number 78 = .ok (.iload_n 2, 1) := dk_28 (dk_at dksX3_number_3 7 rfl rfl)
theorem dX3_number_79 : decode cX3_number 79 = .ok (.if_icmp .le 7, 3) := dk_164 0 7 (dk_at dksX3_number_3 8 rfl rfl)
theorem dX3_number_82 : decode cX3_number 82 = .ok (.iconst 1, 1) := dk_4 (dk_at dksX3_number_3 11 rfl rfl)
theorem dX3_number_83 : decode cX3_number 83 = .ok (.goto 4, 3) := dk_167 0 4 (dk_at dksX3_number_3 12 rfl rfl)
theorem dX3_number_86 : decode cX3_number 86 = .ok (.iconst 0, 1) := dk_3 (dk_at dksX3_number_3 15 rfl rfl)
theorem dX3_number_87 : decode cX3_number 87 = .ok (.ireturn, 1) := dk_172 (dk_at dksX3_number_3 16 rfl rfl)
abbrev cX3_sign : ByteArray := prog_12_method_68_code
def yX3_sign : MethodName := ⟨RX3, "sign", "(I)Z"⟩
def dkwX3_sign_1 : List UInt8 := [181, 0, 177, 28, 172]
abbrev dktX3_sign_1 : List UInt8 := dkwX3_sign_1 ++ []
def dkwX3_sign_0 : List UInt8 := [42, 27, 27, 182, 0, 180, 61, 42, 89, 180, 0, 177, 28, 153, 0, 7, 4, 167, 0, 4, 3, 96]
abbrev dktX3_sign_0 : List UInt8 := dkwX3_sign_0 ++ dktX3_sign_1
theorem dksX3_sign_0 : cX3_sign.data.toList.drop 0 = dktX3_sign_0 := by decide +kernel
theorem dksX3_sign_1 : cX3_sign.data.toList.drop 22 = dktX3_sign_1 := dk_seg dksX3_sign_0 22 rfl rfl
theorem dX3_sign_0 : decode cX3_sign 0 = .ok (.aload_n 0, 1) := dk_42 (dk_at dksX3_sign_0 0 rfl rfl)
theorem dX3_sign_1 : decode cX3_sign 1 = .ok (.iload_n 1, 1) := dk_27 (dk_at dksX3_sign_0 1 rfl rfl)
theorem dX3_sign_2 : decode cX3_sign 2 = .ok (.iload_n 1, 1) := dk_27 (dk_at dksX3_sign_0 2 rfl rfl)
theorem dX3_sign_3 : decode cX3_sign 3 = .ok (.invokevirtual 180, 3) := dk_182 0 180 (dk_at dksX3_sign_0 3 rfl rfl)
theorem dX3_sign_6 : decode cX3_sign 6 = .ok (.istore_n 2, 1) := dk_61 (dk_at dksX3_sign_0 6 rfl rfl)
theorem dX3_sign_7 : decode cX3_sign 7 = .ok (.aload_n 0, 1) := dk_42 (dk_at dksX3_sign_0 7 rfl rfl)
theorem dX3_sign_8 : decode cX3_sign 8 = .ok (.dup, 1) := dk_89 (dk_at dksX3_sign_0 8 rfl rfl)
theorem dX3_sign_9 : decode cX3_sign 9 = .ok (.getfield 177, 3) := dk_180 0 177 (dk_at dksX3_sign_0 9 rfl rfl)
theorem dX3_sign_12 : decode cX3_sign 12 = .ok (.iload_n 2, 1) := dk_28 (dk_at dksX3_sign_0 12 rfl rfl)
theorem dX3_sign_13 : decode cX3_sign 13 = .ok (.ifCond .eq 7, 3) := dk_153 0 7 (dk_at dksX3_sign_0 13 rfl rfl)
theorem dX3_sign_16 : decode cX3_sign 16 = .ok (.iconst 1, 1) := dk_4 (dk_at dksX3_sign_0 16 rfl rfl)
theorem dX3_sign_17 : decode cX3_sign 17 = .ok (.goto 4, 3) := dk_167 0 4 (dk_at dksX3_sign_0 17 rfl rfl)
theorem dX3_sign_20 : decode cX3_sign 20 = .ok (.iconst 0, 1) := dk_3 (dk_at dksX3_sign_0 20 rfl rfl)
theorem dX3_sign_21 : decode cX3_sign 21 = .ok (.iadd, 1) := dk_96 (dk_at dksX3_sign_0 21 rfl rfl)
theorem dX3_sign_22 : decode cX3_sign 22 = .ok (.putfield 177, 3) := dk_181 0 177 (dk_at dksX3_sign_1 0 rfl rfl)
theorem dX3_sign_25 : decode cX3_sign 25 = .ok (.iload_n 2, 1) := dk_28 (dk_at dksX3_sign_1 3 rfl rfl)
theorem dX3_sign_26 : decode cX3_sign 26 = .ok (.ireturn, 1) := dk_172 (dk_at dksX3_sign_1 4 rfl rfl)
abbrev cX3_calls : ByteArray := prog_12_method_72_code
def yX3_calls : MethodName := ⟨RX3, "calls", "()I"⟩
def dkwX3_calls_5 : List UInt8 := [180, 0, 28, 3, 46, 42, 180, 0, 28, 4, 46, 182, 0, 208, 172]
abbrev dktX3_calls_5 : List UInt8 := dkwX3_calls_5 ++ []
def dkwX3_calls_4 : List UInt8 := [180, 0, 28, 4, 46, 182, 0, 202, 172, 42, 42, 180, 0, 28, 3, 46, 182, 0, 205, 172, 42, 42]
abbrev dktX3_calls_4 : List UInt8 := dkwX3_calls_4 ++ dktX3_calls_5
def dkwX3_calls_3 : List UInt8 := [42, 180, 0, 28, 3, 46, 42, 180, 0, 28, 4, 46, 182, 0, 199, 172, 42, 42, 180, 0, 28, 3, 46, 42]
abbrev dktX3_calls_3 : List UInt8 := dkwX3_calls_3 ++ dktX3_calls_4
def dkwX3_calls_2 : List UInt8 := [42, 42, 180, 0, 28, 3, 46, 42, 180, 0, 28, 4, 46, 42, 180, 0, 28, 5, 46, 182, 0, 195, 172, 42]
abbrev dktX3_calls_2 : List UInt8 := dkwX3_calls_2 ++ dktX3_calls_3
def dkwX3_calls_1 : List UInt8 := [171, 0, 0, 0, 0, 0, 0, 112, 0, 0, 0, 4, 0, 0, 0, 99, 0, 0, 0, 84, 0, 0, 0, 115, 0, 0, 0, 101, 0, 0, 0, 116, 0, 0, 0, 44, 0, 0, 0, 119, 0, 0, 0, 67]
abbrev dktX3_calls_1 : List UInt8 := dkwX3_calls_1 ++ dktX3_calls_2
def dkwX3_calls_0 : List UInt8 := [42, 180, 0, 183]
abbrev dktX3_calls_0 : List UInt8 := dkwX3_calls_0 ++ dktX3_calls_1
theorem dksX3_calls_0 : cX3_calls.data.toList.drop 0 = dktX3_calls_0 := by decide +kernel
theorem dksX3_calls_1 : cX3_calls.data.toList.drop 4 = dktX3_calls_1 := dk_seg dksX3_calls_0 4 rfl rfl
theorem dksX3_calls_2 : cX3_calls.data.toList.drop 48 = dktX3_calls_2 := dk_seg dksX3_calls_1 44 rfl rfl
theorem dksX3_calls_3 : cX3_calls.data.toList.drop 72 = dktX3_calls_3 := dk_seg dksX3_calls_2 24 rfl rfl
theorem dksX3_calls_4 : cX3_calls.data.toList.drop 96 = dktX3_calls_4 := dk_seg dksX3_calls_3 24 rfl rfl
theorem dksX3_calls_5 : cX3_calls.data.toList.drop 118 = dktX3_calls_5 := dk_seg dksX3_calls_4 22 rfl rfl
theorem dX3_calls_0 : decode cX3_calls 0 = .ok (.aload_n 0, 1) := dk_42 (dk_at dksX3_calls_0 0 rfl rfl)
theorem dX3_calls_1 : decode cX3_calls 1 = .ok (.getfield 183, 3) := dk_180 0 183 (dk_at dksX3_calls_0 1 rfl rfl)
theorem dX3_calls_4 : decode cX3_calls 4 = .ok (.lookupswitch 112 #[(99, 84), (115, 101), (116, 44), (119, 67)], 44) := by decide +kernel
theorem dX3_calls_48 : decode cX3_calls 48 = .ok (.aload_n 0, 1) := dk_42 (dk_at dksX3_calls_2 0 rfl rfl)
theorem dX3_calls_49 : decode cX3_calls 49 = .ok (.aload_n 0, 1) := dk_42 (dk_at dksX3_calls_2 1 rfl rfl)
theorem dX3_calls_50 : decode cX3_calls 50 = .ok (.getfield 28, 3) := dk_180 0 28 (dk_at dksX3_calls_2 2 rfl rfl)
theorem dX3_calls_53 : decode cX3_calls 53 = .ok (.iconst 0, 1) := dk_3 (dk_at dksX3_calls_2 5 rfl rfl)
theorem dX3_calls_54 : decode cX3_calls 54 = .ok (.iaload, 1) := dk_46 (dk_at dksX3_calls_2 6 rfl rfl)
theorem dX3_calls_55 : decode cX3_calls 55 = .ok (.aload_n 0, 1) := dk_42 (dk_at dksX3_calls_2 7 rfl rfl)
theorem dX3_calls_56 : decode cX3_calls 56 = .ok (.getfield 28, 3) := dk_180 0 28 (dk_at dksX3_calls_2 8 rfl rfl)
theorem dX3_calls_59 : decode cX3_calls 59 = .ok (.iconst 1, 1) := dk_4 (dk_at dksX3_calls_2 11 rfl rfl)
theorem dX3_calls_60 : decode cX3_calls 60 = .ok (.iaload, 1) := dk_46 (dk_at dksX3_calls_2 12 rfl rfl)
theorem dX3_calls_61 : decode cX3_calls 61 = .ok (.aload_n 0, 1) := dk_42 (dk_at dksX3_calls_2 13 rfl rfl)
theorem dX3_calls_62 : decode cX3_calls 62 = .ok (.getfield 28, 3) := dk_180 0 28 (dk_at dksX3_calls_2 14 rfl rfl)
theorem dX3_calls_65 : decode cX3_calls 65 = .ok (.iconst 2, 1) := dk_5 (dk_at dksX3_calls_2 17 rfl rfl)
theorem dX3_calls_66 : decode cX3_calls 66 = .ok (.iaload, 1) := dk_46 (dk_at dksX3_calls_2 18 rfl rfl)
theorem dX3_calls_67 : decode cX3_calls 67 = .ok (.invokevirtual 195, 3) := dk_182 0 195 (dk_at dksX3_calls_2 19 rfl rfl)
theorem dX3_calls_70 : decode cX3_calls 70 = .ok (.ireturn, 1) := dk_172 (dk_at dksX3_calls_2 22 rfl rfl)
theorem dX3_calls_71 : decode cX3_calls 71 = .ok (.aload_n 0, 1) := dk_42 (dk_at dksX3_calls_2 23 rfl rfl)
theorem dX3_calls_72 : decode cX3_calls 72 = .ok (.aload_n 0, 1) := dk_42 (dk_at dksX3_calls_3 0 rfl rfl)
theorem dX3_calls_73 : decode cX3_calls 73 = .ok (.getfield 28, 3) := dk_180 0 28 (dk_at dksX3_calls_3 1 rfl rfl)
theorem dX3_calls_76 : decode cX3_calls 76 = .ok (.iconst 0, 1) := dk_3 (dk_at dksX3_calls_3 4 rfl rfl)
theorem dX3_calls_77 : decode cX3_calls 77 = .ok (.iaload, 1) := dk_46 (dk_at dksX3_calls_3 5 rfl rfl)
theorem dX3_calls_78 : decode cX3_calls 78 = .ok (.aload_n 0, 1) := dk_42 (dk_at dksX3_calls_3 6 rfl rfl)
theorem dX3_calls_79 : decode cX3_calls 79 = .ok (.getfield 28, 3) := dk_180 0 28 (dk_at dksX3_calls_3 7 rfl rfl)
theorem dX3_calls_82 : decode cX3_calls 82 = .ok (.iconst 1, 1) := dk_4 (dk_at dksX3_calls_3 10 rfl rfl)
theorem dX3_calls_83 : decode cX3_calls 83 = .ok (.iaload, 1) := dk_46 (dk_at dksX3_calls_3 11 rfl rfl)
theorem dX3_calls_84 : decode cX3_calls 84 = .ok (.invokevirtual 199, 3) := dk_182 0 199 (dk_at dksX3_calls_3 12 rfl rfl)
theorem dX3_calls_87 : decode cX3_calls 87 = .ok (.ireturn, 1) := dk_172 (dk_at dksX3_calls_3 15 rfl rfl)
theorem dX3_calls_88 : decode cX3_calls 88 = .ok (.aload_n 0, 1) := dk_42 (dk_at dksX3_calls_3 16 rfl rfl)
theorem dX3_calls_89 : decode cX3_calls 89 = .ok (.aload_n 0, 1) := dk_42 (dk_at dksX3_calls_3 17 rfl rfl)
theorem dX3_calls_90 : decode cX3_calls 90 = .ok (.getfield 28, 3) := dk_180 0 28 (dk_at dksX3_calls_3 18 rfl rfl)
theorem dX3_calls_93 : decode cX3_calls 93 = .ok (.iconst 0, 1) := dk_3 (dk_at dksX3_calls_3 21 rfl rfl)
theorem dX3_calls_94 : decode cX3_calls 94 = .ok (.iaload, 1) := dk_46 (dk_at dksX3_calls_3 22 rfl rfl)
theorem dX3_calls_95 : decode cX3_calls 95 = .ok (.aload_n 0, 1) := dk_42 (dk_at dksX3_calls_3 23 rfl rfl)
theorem dX3_calls_96 : decode cX3_calls 96 = .ok (.getfield 28, 3) := dk_180 0 28 (dk_at dksX3_calls_4 0 rfl rfl)
theorem dX3_calls_99 : decode cX3_calls 99 = .ok (.iconst 1, 1) := dk_4 (dk_at dksX3_calls_4 3 rfl rfl)
theorem dX3_calls_100 : decode cX3_calls 100 = .ok (.iaload, 1) := dk_46 (dk_at dksX3_calls_4 4 rfl rfl)
theorem dX3_calls_101 : decode cX3_calls 101 = .ok (.invokevirtual 202, 3) := dk_182 0 202 (dk_at dksX3_calls_4 5 rfl rfl)
theorem dX3_calls_104 : decode cX3_calls 104 = .ok (.ireturn, 1) := dk_172 (dk_at dksX3_calls_4 8 rfl rfl)
theorem dX3_calls_105 : decode cX3_calls 105 = .ok (.aload_n 0, 1) := dk_42 (dk_at dksX3_calls_4 9 rfl rfl)
theorem dX3_calls_106 : decode cX3_calls 106 = .ok (.aload_n 0, 1) := dk_42 (dk_at dksX3_calls_4 10 rfl rfl)
theorem dX3_calls_107 : decode cX3_calls 107 = .ok (.getfield 28, 3) := dk_180 0 28 (dk_at dksX3_calls_4 11 rfl rfl)
theorem dX3_calls_110 : decode cX3_calls 110 = .ok (.iconst 0, 1) := dk_3 (dk_at dksX3_calls_4 14 rfl rfl)
theorem dX3_calls_111 : decode cX3_calls 111 = .ok (.iaload, 1) := dk_46 (dk_at dksX3_calls_4 15 rfl rfl)
theorem dX3_calls_112 : decode cX3_calls 112 = .ok (.invokevirtual 205, 3) := dk_182 0 205 (dk_at dksX3_calls_4 16 rfl rfl)
theorem dX3_calls_115 : decode cX3_calls 115 = .ok (.ireturn, 1) := dk_172 (dk_at dksX3_calls_4 19 rfl rfl)
theorem dX3_calls_116 : decode cX3_calls 116 = .ok (.aload_n 0, 1) := dk_42 (dk_at dksX3_calls_4 20 rfl rfl)
theorem dX3_calls_117 : decode cX3_calls 117 = .ok (.aload_n 0, 1) := dk_42 (dk_at dksX3_calls_4 21 rfl rfl)
theorem dX3_calls_118 : decode cX3_calls 118 = .ok (.getfield 28, 3) := dk_180 0 28 (dk_at dksX3_calls_5 0 rfl rfl)
theorem dX3_calls_121 : decode cX3_calls 121 = .ok (.iconst 0, 1) := dk_3 (dk_at dksX3_calls_5 3 rfl rfl)
theorem dX3_calls_122 : decode cX3_calls 122 = .ok (.iaload, 1) := dk_46 (dk_at dksX3_calls_5 4 rfl rfl)
theorem dX3_calls_123 : decode cX3_calls 123 = .ok (.aload_n 0, 1) := dk_42 (dk_at dksX3_calls_5 5 rfl rfl)
theorem dX3_calls_124 : decode cX3_calls 124 = .ok (.getfield 28, 3) := dk_180 0 28 (dk_at dksX3_calls_5 6 rfl rfl)
theorem dX3_calls_127 : decode cX3_calls 127 = .ok (.iconst 1, 1) := dk_4 (dk_at dksX3_calls_5 9 rfl rfl)
theorem dX3_calls_128 : decode cX3_calls 128 = .ok (.iaload, 1) := dk_46 (dk_at dksX3_calls_5 10 rfl rfl)
theorem dX3_calls_129 : decode cX3_calls 129 = .ok (.invokevirtual 208, 3) := dk_182 0 208 (dk_at dksX3_calls_5 11 rfl rfl)
theorem dX3_calls_132 : decode cX3_calls 132 = .ok (.ireturn, 1) := dk_172 (dk_at dksX3_calls_5 14 rfl rfl)
abbrev cX3_play : ByteArray := prog_12_method_75_code
def yX3_play : MethodName := ⟨RX3, "play", "()I"⟩
def dkwX3_play_2 : List UInt8 := [180, 0, 214, 167, 0, 5, 18, 110, 172]
abbrev dktX3_play_2 : List UInt8 := dkwX3_play_2 ++ []
def dkwX3_play_1 : List UInt8 := [184, 0, 230, 27, 154, 0, 6, 18, 80, 172, 42, 182, 0, 52, 42, 182, 0, 234, 153, 0, 10, 42]
abbrev dktX3_play_1 : List UInt8 := dkwX3_play_1 ++ dktX3_play_2
def dkwX3_play_0 : List UInt8 := [42, 180, 0, 7, 42, 180, 0, 16, 184, 0, 230, 42, 182, 0, 234, 60, 42, 180, 0, 16, 42, 180, 0, 7]
abbrev dktX3_play_0 : List UInt8 := dkwX3_play_0 ++ dktX3_play_1
theorem dksX3_play_0 : cX3_play.data.toList.drop 0 = dktX3_play_0 := by decide +kernel
theorem dksX3_play_1 : cX3_play.data.toList.drop 24 = dktX3_play_1 := dk_seg dksX3_play_0 24 rfl rfl
theorem dksX3_play_2 : cX3_play.data.toList.drop 46 = dktX3_play_2 := dk_seg dksX3_play_1 22 rfl rfl
theorem dX3_play_0 : decode cX3_play 0 = .ok (.aload_n 0, 1) := dk_42 (dk_at dksX3_play_0 0 rfl rfl)
theorem dX3_play_1 : decode cX3_play 1 = .ok (.getfield 7, 3) := dk_180 0 7 (dk_at dksX3_play_0 1 rfl rfl)
theorem dX3_play_4 : decode cX3_play 4 = .ok (.aload_n 0, 1) := dk_42 (dk_at dksX3_play_0 4 rfl rfl)
theorem dX3_play_5 : decode cX3_play 5 = .ok (.getfield 16, 3) := dk_180 0 16 (dk_at dksX3_play_0 5 rfl rfl)
theorem dX3_play_8 : decode cX3_play 8 = .ok (.invokestatic 230, 3) := dk_184 0 230 (dk_at dksX3_play_0 8 rfl rfl)
theorem dX3_play_11 : decode cX3_play 11 = .ok (.aload_n 0, 1) := dk_42 (dk_at dksX3_play_0 11 rfl rfl)
theorem dX3_play_12 : decode cX3_play 12 = .ok (.invokevirtual 234, 3) := dk_182 0 234 (dk_at dksX3_play_0 12 rfl rfl)
theorem dX3_play_15 : decode cX3_play 15 = .ok (.istore_n 1, 1) := dk_60 (dk_at dksX3_play_0 15 rfl rfl)
theorem dX3_play_16 : decode cX3_play 16 = .ok (.aload_n 0, 1) := dk_42 (dk_at dksX3_play_0 16 rfl rfl)
theorem dX3_play_17 : decode cX3_play 17 = .ok (.getfield 16, 3) := dk_180 0 16 (dk_at dksX3_play_0 17 rfl rfl)
theorem dX3_play_20 : decode cX3_play 20 = .ok (.aload_n 0, 1) := dk_42 (dk_at dksX3_play_0 20 rfl rfl)
theorem dX3_play_21 : decode cX3_play 21 = .ok (.getfield 7, 3) := dk_180 0 7 (dk_at dksX3_play_0 21 rfl rfl)
theorem dX3_play_24 : decode cX3_play 24 = .ok (.invokestatic 230, 3) := dk_184 0 230 (dk_at dksX3_play_1 0 rfl rfl)
theorem dX3_play_27 : decode cX3_play 27 = .ok (.iload_n 1, 1) := dk_27 (dk_at dksX3_play_1 3 rfl rfl)
theorem dX3_play_28 : decode cX3_play 28 = .ok (.ifCond .ne 6, 3) := dk_154 0 6 (dk_at dksX3_play_1 4 rfl rfl)
theorem dX3_play_31 : decode cX3_play 31 = .ok (.ldc 80, 2) := dk_18 80 (dk_at dksX3_play_1 7 rfl rfl)
theorem dX3_play_33 : decode cX3_play 33 = .ok (.ireturn, 1) := dk_172 (dk_at dksX3_play_1 9 rfl rfl)
theorem dX3_play_34 : decode cX3_play 34 = .ok (.aload_n 0, 1) := dk_42 (dk_at dksX3_play_1 10 rfl rfl)
theorem dX3_play_35 : decode cX3_play 35 = .ok (.invokevirtual 52, 3) := dk_182 0 52 (dk_at dksX3_play_1 11 rfl rfl)
theorem dX3_play_38 : decode cX3_play 38 = .ok (.aload_n 0, 1) := dk_42 (dk_at dksX3_play_1 14 rfl rfl)
theorem dX3_play_39 : decode cX3_play 39 = .ok (.invokevirtual 234, 3) := dk_182 0 234 (dk_at dksX3_play_1 15 rfl rfl)
theorem dX3_play_42 : decode cX3_play 42 = .ok (.ifCond .eq 10, 3) := dk_153 0 10 (dk_at dksX3_play_1 18 rfl rfl)
theorem dX3_play_45 : decode cX3_play 45 = .ok (.aload_n 0, 1) := dk_42 (dk_at dksX3_play_1 21 rfl rfl)
theorem dX3_play_46 : decode cX3_play 46 = .ok (.getfield 214, 3) := dk_180 0 214 (dk_at dksX3_play_2 0 rfl rfl)
theorem dX3_play_49 : decode cX3_play 49 = .ok (.goto 5, 3) := dk_167 0 5 (dk_at dksX3_play_2 3 rfl rfl)
theorem dX3_play_52 : decode cX3_play 52 = .ok (.ldc 110, 2) := dk_18 110 (dk_at dksX3_play_2 6 rfl rfl)
theorem dX3_play_54 : decode cX3_play 54 = .ok (.ireturn, 1) := dk_172 (dk_at dksX3_play_2 8 rfl rfl)
theorem q77 : (Jvm.Cond.initialized "LectureTurnsModel") ∈ lw_all := lw_g (lw_at lw_m1 12 rfl) rfl
theorem q394 : (Jvm.Cond.selects "LectureTurnsModel" ({ cls := "java/lang/Object", name := "getClass", desc := "()Ljava/lang/Class;" } : Jvm.MethodName) ({ cls := "java/lang/Object", name := "getClass", desc := "()Ljava/lang/Class;" } : Jvm.MethodName)) ∈ lw_all := lw_g (lw_at lw_m2 89 rfl) rfl
theorem q1268 : (Jvm.Cond.instantiable "LectureTurnsModel" (16 : Nat)) ∈ lw_all := lw_g (lw_at lw_m6 3 rfl) rfl
theorem q1270 : (Jvm.Cond.instanceMethod ({ cls := "LectureTurnsModel", name := "<init>", desc := "()V" } : Jvm.MethodName)) ∈ lw_all := lw_g (lw_at lw_m6 5 rfl) rfl
theorem q1271 : (Jvm.Cond.code ({ cls := "LectureTurnsModel", name := "<init>", desc := "()V" } : Jvm.MethodName) prog_12_method_1_code (2 : Nat) (Option.none : Option Jvm.ClassFile.FieldType)) ∈ lw_all := lw_g (lw_at lw_m6 6 rfl) rfl
theorem q1272 : (Jvm.Cond.methodLink "LectureTurnsModel" (1 : Nat) ({ cls := "java/lang/Object", name := "<init>", desc := "()V" } : Jvm.MethodName)) ∈ lw_all := lw_g (lw_at lw_m6 7 rfl) rfl
theorem q1273 : (Jvm.Cond.fieldLink "LectureTurnsModel" (7 : Nat) "LectureTurnsModel" "s" "[I") ∈ lw_all := lw_g (lw_at lw_m6 8 rfl) rfl
theorem q1274 : (Jvm.Cond.fieldLink "LectureTurnsModel" (13 : Nat) "LectureTurnsModel" "past" "[I") ∈ lw_all := lw_g (lw_at lw_m6 9 rfl) rfl
theorem q1275 : (Jvm.Cond.fieldLink "LectureTurnsModel" (16 : Nat) "LectureTurnsModel" "held" "[I") ∈ lw_all := lw_g (lw_at lw_m6 10 rfl) rfl
theorem q1276 : (Jvm.Cond.fieldLink "LectureTurnsModel" (35 : Nat) "LectureTurnsModel" "pasts" "I") ∈ lw_all := lw_g (lw_at lw_m6 11 rfl) rfl
theorem q1277 : (Jvm.Cond.fieldLink "LectureTurnsModel" (31 : Nat) "LectureTurnsModel" "runs" "Z") ∈ lw_all := lw_g (lw_at lw_m6 12 rfl) rfl
theorem q1278 : (Jvm.Cond.fieldLink "LectureTurnsModel" (19 : Nat) "LectureTurnsModel" "text" "[I") ∈ lw_all := lw_g (lw_at lw_m6 13 rfl) rfl
theorem q1279 : (Jvm.Cond.fieldLink "LectureTurnsModel" (174 : Nat) "LectureTurnsModel" "typed" "I") ∈ lw_all := lw_g (lw_at lw_m6 14 rfl) rfl
theorem q1280 : (Jvm.Cond.fieldLink "LectureTurnsModel" (22 : Nat) "LectureTurnsModel" "parted" "[I") ∈ lw_all := lw_g (lw_at lw_m6 15 rfl) rfl
theorem q1281 : (Jvm.Cond.fieldLink "LectureTurnsModel" (25 : Nat) "LectureTurnsModel" "asShown" "[I") ∈ lw_all := lw_g (lw_at lw_m6 16 rfl) rfl
theorem q1282 : (Jvm.Cond.fieldLink "LectureTurnsModel" (177 : Nat) "LectureTurnsModel" "spot" "I") ∈ lw_all := lw_g (lw_at lw_m6 17 rfl) rfl
theorem q1283 : (Jvm.Cond.fieldLink "LectureTurnsModel" (211 : Nat) "LectureTurnsModel" "from" "I") ∈ lw_all := lw_g (lw_at lw_m6 18 rfl) rfl
theorem q1284 : (Jvm.Cond.fieldLink "LectureTurnsModel" (224 : Nat) "LectureTurnsModel" "reason" "I") ∈ lw_all := lw_g (lw_at lw_m6 19 rfl) rfl
theorem q1285 : (Jvm.Cond.fieldLink "LectureTurnsModel" (227 : Nat) "LectureTurnsModel" "cause" "I") ∈ lw_all := lw_g (lw_at lw_m6 20 rfl) rfl
theorem q1286 : (Jvm.Cond.fieldLink "LectureTurnsModel" (214 : Nat) "LectureTurnsModel" "orders" "I") ∈ lw_all := lw_g (lw_at lw_m6 21 rfl) rfl
theorem q1287 : (Jvm.Cond.fieldLink "LectureTurnsModel" (183 : Nat) "LectureTurnsModel" "order" "I") ∈ lw_all := lw_g (lw_at lw_m6 22 rfl) rfl
theorem q1288 : (Jvm.Cond.fieldLink "LectureTurnsModel" (28 : Nat) "LectureTurnsModel" "told" "[I") ∈ lw_all := lw_g (lw_at lw_m6 23 rfl) rfl
theorem q1289 : (Jvm.Cond.laysFinal "LectureTurnsModel" "LectureTurnsModel" "s" "[I") ∈ lw_all := lw_g (lw_at lw_m6 24 rfl) rfl
theorem q1290 : (Jvm.Cond.soleField "LectureTurnsModel" "s") ∈ lw_all := lw_g (lw_at lw_m6 25 rfl) rfl
theorem q1291 : (Jvm.Cond.laysFinal "LectureTurnsModel" "LectureTurnsModel" "past" "[I") ∈ lw_all := lw_g (lw_at lw_m6 26 rfl) rfl
theorem q1292 : (Jvm.Cond.soleField "LectureTurnsModel" "past") ∈ lw_all := lw_g (lw_at lw_m6 27 rfl) rfl
theorem q1293 : (Jvm.Cond.laysFinal "LectureTurnsModel" "LectureTurnsModel" "held" "[I") ∈ lw_all := lw_g (lw_at lw_m6 28 rfl) rfl
theorem q1294 : (Jvm.Cond.soleField "LectureTurnsModel" "held") ∈ lw_all := lw_g (lw_at lw_m6 29 rfl) rfl
theorem q1295 : (Jvm.Cond.lays "LectureTurnsModel" "LectureTurnsModel" "pasts" "I") ∈ lw_all := lw_g (lw_at lw_m6 30 rfl) rfl
theorem q1296 : (Jvm.Cond.soleField "LectureTurnsModel" "pasts") ∈ lw_all := lw_g (lw_at lw_m6 31 rfl) rfl
theorem q1297 : (Jvm.Cond.lays "LectureTurnsModel" "LectureTurnsModel" "runs" "Z") ∈ lw_all := lw_g (lw_at lw_m6 32 rfl) rfl
theorem q1298 : (Jvm.Cond.soleField "LectureTurnsModel" "runs") ∈ lw_all := lw_g (lw_at lw_m6 33 rfl) rfl
theorem q1299 : (Jvm.Cond.laysFinal "LectureTurnsModel" "LectureTurnsModel" "text" "[I") ∈ lw_all := lw_g (lw_at lw_m6 34 rfl) rfl
theorem q1300 : (Jvm.Cond.soleField "LectureTurnsModel" "text") ∈ lw_all := lw_g (lw_at lw_m6 35 rfl) rfl
theorem q1301 : (Jvm.Cond.lays "LectureTurnsModel" "LectureTurnsModel" "typed" "I") ∈ lw_all := lw_g (lw_at lw_m6 36 rfl) rfl
theorem q1302 : (Jvm.Cond.soleField "LectureTurnsModel" "typed") ∈ lw_all := lw_g (lw_at lw_m6 37 rfl) rfl
theorem q1303 : (Jvm.Cond.laysFinal "LectureTurnsModel" "LectureTurnsModel" "parted" "[I") ∈ lw_all := lw_g (lw_at lw_m6 38 rfl) rfl
theorem q1304 : (Jvm.Cond.soleField "LectureTurnsModel" "parted") ∈ lw_all := lw_g (lw_at lw_m6 39 rfl) rfl
theorem q1305 : (Jvm.Cond.laysFinal "LectureTurnsModel" "LectureTurnsModel" "asShown" "[I") ∈ lw_all := lw_g (lw_at lw_m6 40 rfl) rfl
theorem q1306 : (Jvm.Cond.soleField "LectureTurnsModel" "asShown") ∈ lw_all := lw_g (lw_at lw_m6 41 rfl) rfl
theorem q1307 : (Jvm.Cond.lays "LectureTurnsModel" "LectureTurnsModel" "spot" "I") ∈ lw_all := lw_g (lw_at lw_m6 42 rfl) rfl
theorem q1308 : (Jvm.Cond.soleField "LectureTurnsModel" "spot") ∈ lw_all := lw_g (lw_at lw_m6 43 rfl) rfl
theorem q1309 : (Jvm.Cond.lays "LectureTurnsModel" "LectureTurnsModel" "from" "I") ∈ lw_all := lw_g (lw_at lw_m6 44 rfl) rfl
theorem q1310 : (Jvm.Cond.soleField "LectureTurnsModel" "from") ∈ lw_all := lw_g (lw_at lw_m6 45 rfl) rfl
theorem q1311 : (Jvm.Cond.lays "LectureTurnsModel" "LectureTurnsModel" "reason" "I") ∈ lw_all := lw_g (lw_at lw_m6 46 rfl) rfl
theorem q1312 : (Jvm.Cond.soleField "LectureTurnsModel" "reason") ∈ lw_all := lw_g (lw_at lw_m6 47 rfl) rfl
theorem q1313 : (Jvm.Cond.lays "LectureTurnsModel" "LectureTurnsModel" "cause" "I") ∈ lw_all := lw_g (lw_at lw_m6 48 rfl) rfl
theorem q1314 : (Jvm.Cond.soleField "LectureTurnsModel" "cause") ∈ lw_all := lw_g (lw_at lw_m6 49 rfl) rfl
theorem q1315 : (Jvm.Cond.lays "LectureTurnsModel" "LectureTurnsModel" "orders" "I") ∈ lw_all := lw_g (lw_at lw_m6 50 rfl) rfl
theorem q1316 : (Jvm.Cond.soleField "LectureTurnsModel" "orders") ∈ lw_all := lw_g (lw_at lw_m6 51 rfl) rfl
theorem q1317 : (Jvm.Cond.lays "LectureTurnsModel" "LectureTurnsModel" "order" "I") ∈ lw_all := lw_g (lw_at lw_m6 52 rfl) rfl
theorem q1318 : (Jvm.Cond.soleField "LectureTurnsModel" "order") ∈ lw_all := lw_g (lw_at lw_m6 53 rfl) rfl
theorem q1319 : (Jvm.Cond.laysFinal "LectureTurnsModel" "LectureTurnsModel" "told" "[I") ∈ lw_all := lw_g (lw_at lw_m6 54 rfl) rfl
theorem q1320 : (Jvm.Cond.soleField "LectureTurnsModel" "told") ∈ lw_all := lw_g (lw_at lw_m6 55 rfl) rfl
theorem q1321 : (Jvm.Cond.superclass "LectureTurnsModel" "java/lang/Object") ∈ lw_all := lw_g (lw_at lw_m6 56 rfl) rfl
theorem q1323 : (Jvm.Cond.instanceMethod ({ cls := "LectureTurnsModel", name := "turn", desc := "(III)I" } : Jvm.MethodName)) ∈ lw_all := lw_g (lw_at lw_m6 58 rfl) rfl
theorem q1324 : (Jvm.Cond.selects "LectureTurnsModel" ({ cls := "LectureTurnsModel", name := "turn", desc := "(III)I" } : Jvm.MethodName) ({ cls := "LectureTurnsModel", name := "turn", desc := "(III)I" } : Jvm.MethodName)) ∈ lw_all := lw_g (lw_at lw_m6 59 rfl) rfl
theorem q1325 : (Jvm.Cond.code ({ cls := "LectureTurnsModel", name := "turn", desc := "(III)I" } : Jvm.MethodName) prog_12_method_14_code (5 : Nat) (Option.some Jvm.ClassFile.FieldType.int)) ∈ lw_all := lw_g (lw_at lw_m6 60 rfl) rfl
theorem q1326 : (Jvm.Cond.methodLink "LectureTurnsModel" (39 : Nat) ({ cls := "LectureTurnsModel", name := "in", desc := "(III)Z" } : Jvm.MethodName)) ∈ lw_all := lw_g (lw_at lw_m6 61 rfl) rfl
theorem q1327 : (Jvm.Cond.static ({ cls := "LectureTurnsModel", name := "in", desc := "(III)Z" } : Jvm.MethodName)) ∈ lw_all := lw_g (lw_at lw_m6 62 rfl) rfl
theorem q1328 : (Jvm.Cond.code ({ cls := "LectureTurnsModel", name := "in", desc := "(III)Z" } : Jvm.MethodName) prog_12_method_3_code (3 : Nat) (Option.some Jvm.ClassFile.FieldType.boolean)) ∈ lw_all := lw_g (lw_at lw_m6 63 rfl) rfl
theorem q1329 : (Jvm.Cond.constant "LectureTurnsModel" (50 : Nat) (-1000001 : Int32)) ∈ lw_all := lw_g (lw_at lw_m6 64 rfl) rfl
theorem q1330 : (Jvm.Cond.constant "LectureTurnsModel" (51 : Nat) (-1000003 : Int32)) ∈ lw_all := lw_g (lw_at lw_m6 65 rfl) rfl
theorem q1331 : (Jvm.Cond.methodLink "LectureTurnsModel" (52 : Nat) ({ cls := "LectureTurnsModel", name := "changes", desc := "()V" } : Jvm.MethodName)) ∈ lw_all := lw_g (lw_at lw_m6 66 rfl) rfl
theorem q1332 : (Jvm.Cond.privateMethod ({ cls := "LectureTurnsModel", name := "changes", desc := "()V" } : Jvm.MethodName)) ∈ lw_tbl := lw_at lw_m6 67 rfl
theorem q1333 : (Jvm.Cond.instanceMethod ({ cls := "LectureTurnsModel", name := "changes", desc := "()V" } : Jvm.MethodName)) ∈ lw_all := lw_g (lw_at lw_m6 68 rfl) rfl
theorem q1334 : (Jvm.Cond.code ({ cls := "LectureTurnsModel", name := "changes", desc := "()V" } : Jvm.MethodName) prog_12_method_5_code (2 : Nat) (Option.none : Option Jvm.ClassFile.FieldType)) ∈ lw_all := lw_g (lw_at lw_m6 69 rfl) rfl
theorem q1335 : (Jvm.Cond.methodLink "LectureTurnsModel" (55 : Nat) ({ cls := "LectureTurnsModel", name := "opens", desc := "(I)I" } : Jvm.MethodName)) ∈ lw_all := lw_g (lw_at lw_m6 70 rfl) rfl
theorem q1336 : (Jvm.Cond.privateMethod ({ cls := "LectureTurnsModel", name := "opens", desc := "(I)I" } : Jvm.MethodName)) ∈ lw_tbl := lw_at lw_m6 71 rfl
theorem q1337 : (Jvm.Cond.instanceMethod ({ cls := "LectureTurnsModel", name := "opens", desc := "(I)I" } : Jvm.MethodName)) ∈ lw_all := lw_g (lw_at lw_m6 72 rfl) rfl
theorem q1338 : (Jvm.Cond.code ({ cls := "LectureTurnsModel", name := "opens", desc := "(I)I" } : Jvm.MethodName) prog_12_method_13_code (4 : Nat) (Option.some Jvm.ClassFile.FieldType.int)) ∈ lw_all := lw_g (lw_at lw_m6 73 rfl) rfl
theorem q1339 : (Jvm.Cond.methodLink "LectureTurnsModel" (47 : Nat) ({ cls := "LectureTurnsModel", name := "of", desc := "(II)I" } : Jvm.MethodName)) ∈ lw_all := lw_g (lw_at lw_m6 74 rfl) rfl
theorem q1340 : (Jvm.Cond.privateMethod ({ cls := "LectureTurnsModel", name := "of", desc := "(II)I" } : Jvm.MethodName)) ∈ lw_tbl := lw_at lw_m6 75 rfl
theorem q1341 : (Jvm.Cond.instanceMethod ({ cls := "LectureTurnsModel", name := "of", desc := "(II)I" } : Jvm.MethodName)) ∈ lw_all := lw_g (lw_at lw_m6 76 rfl) rfl
theorem q1342 : (Jvm.Cond.code ({ cls := "LectureTurnsModel", name := "of", desc := "(II)I" } : Jvm.MethodName) prog_12_method_6_code (3 : Nat) (Option.some Jvm.ClassFile.FieldType.int)) ∈ lw_all := lw_g (lw_at lw_m6 77 rfl) rfl
theorem q1343 : (Jvm.Cond.methodLink "LectureTurnsModel" (59 : Nat) ({ cls := "LectureTurnsModel", name := "sets", desc := "(III)V" } : Jvm.MethodName)) ∈ lw_all := lw_g (lw_at lw_m6 78 rfl) rfl
theorem q1344 : (Jvm.Cond.privateMethod ({ cls := "LectureTurnsModel", name := "sets", desc := "(III)V" } : Jvm.MethodName)) ∈ lw_tbl := lw_at lw_m6 79 rfl
theorem q1345 : (Jvm.Cond.instanceMethod ({ cls := "LectureTurnsModel", name := "sets", desc := "(III)V" } : Jvm.MethodName)) ∈ lw_all := lw_g (lw_at lw_m6 80 rfl) rfl
theorem q1346 : (Jvm.Cond.code ({ cls := "LectureTurnsModel", name := "sets", desc := "(III)V" } : Jvm.MethodName) prog_12_method_7_code (4 : Nat) (Option.none : Option Jvm.ClassFile.FieldType)) ∈ lw_all := lw_g (lw_at lw_m6 81 rfl) rfl
theorem q1347 : (Jvm.Cond.methodLink "LectureTurnsModel" (63 : Nat) ({ cls := "LectureTurnsModel", name := "voiceFor", desc := "(I)I" } : Jvm.MethodName)) ∈ lw_all := lw_g (lw_at lw_m6 82 rfl) rfl
theorem q1348 : (Jvm.Cond.privateMethod ({ cls := "LectureTurnsModel", name := "voiceFor", desc := "(I)I" } : Jvm.MethodName)) ∈ lw_tbl := lw_at lw_m6 83 rfl
theorem q1349 : (Jvm.Cond.instanceMethod ({ cls := "LectureTurnsModel", name := "voiceFor", desc := "(I)I" } : Jvm.MethodName)) ∈ lw_all := lw_g (lw_at lw_m6 84 rfl) rfl
theorem q1350 : (Jvm.Cond.code ({ cls := "LectureTurnsModel", name := "voiceFor", desc := "(I)I" } : Jvm.MethodName) prog_12_method_12_code (5 : Nat) (Option.some Jvm.ClassFile.FieldType.int)) ∈ lw_all := lw_g (lw_at lw_m6 85 rfl) rfl
theorem q1351 : (Jvm.Cond.methodLink "LectureTurnsModel" (43 : Nat) ({ cls := "LectureTurnsModel", name := "far", desc := "(II)I" } : Jvm.MethodName)) ∈ lw_all := lw_g (lw_at lw_m6 86 rfl) rfl
theorem q1352 : (Jvm.Cond.static ({ cls := "LectureTurnsModel", name := "far", desc := "(II)I" } : Jvm.MethodName)) ∈ lw_all := lw_g (lw_at lw_m6 87 rfl) rfl
theorem q1353 : (Jvm.Cond.code ({ cls := "LectureTurnsModel", name := "far", desc := "(II)I" } : Jvm.MethodName) prog_12_method_11_code (2 : Nat) (Option.some Jvm.ClassFile.FieldType.int)) ∈ lw_all := lw_g (lw_at lw_m6 88 rfl) rfl
theorem q1355 : (Jvm.Cond.instanceMethod ({ cls := "LectureTurnsModel", name := "say", desc := "(II)I" } : Jvm.MethodName)) ∈ lw_all := lw_g (lw_at lw_m6 90 rfl) rfl
theorem q1356 : (Jvm.Cond.selects "LectureTurnsModel" ({ cls := "LectureTurnsModel", name := "say", desc := "(II)I" } : Jvm.MethodName) ({ cls := "LectureTurnsModel", name := "say", desc := "(II)I" } : Jvm.MethodName)) ∈ lw_all := lw_g (lw_at lw_m6 91 rfl) rfl
theorem q1357 : (Jvm.Cond.code ({ cls := "LectureTurnsModel", name := "say", desc := "(II)I" } : Jvm.MethodName) prog_12_method_15_code (4 : Nat) (Option.some Jvm.ClassFile.FieldType.int)) ∈ lw_all := lw_g (lw_at lw_m6 92 rfl) rfl
theorem q1358 : (Jvm.Cond.methodLink "LectureTurnsModel" (66 : Nat) ({ cls := "LectureTurnsModel", name := "isTurn", desc := "(I)Z" } : Jvm.MethodName)) ∈ lw_all := lw_g (lw_at lw_m6 93 rfl) rfl
theorem q1359 : (Jvm.Cond.privateMethod ({ cls := "LectureTurnsModel", name := "isTurn", desc := "(I)Z" } : Jvm.MethodName)) ∈ lw_tbl := lw_at lw_m6 94 rfl
theorem q1360 : (Jvm.Cond.instanceMethod ({ cls := "LectureTurnsModel", name := "isTurn", desc := "(I)Z" } : Jvm.MethodName)) ∈ lw_all := lw_g (lw_at lw_m6 95 rfl) rfl
theorem q1361 : (Jvm.Cond.code ({ cls := "LectureTurnsModel", name := "isTurn", desc := "(I)Z" } : Jvm.MethodName) prog_12_method_8_code (2 : Nat) (Option.some Jvm.ClassFile.FieldType.boolean)) ∈ lw_all := lw_g (lw_at lw_m6 96 rfl) rfl
theorem q1362 : (Jvm.Cond.methodLink "LectureTurnsModel" (70 : Nat) ({ cls := "LectureTurnsModel", name := "isTerm", desc := "(I)Z" } : Jvm.MethodName)) ∈ lw_all := lw_g (lw_at lw_m6 97 rfl) rfl
theorem q1363 : (Jvm.Cond.static ({ cls := "LectureTurnsModel", name := "isTerm", desc := "(I)Z" } : Jvm.MethodName)) ∈ lw_all := lw_g (lw_at lw_m6 98 rfl) rfl
theorem q1364 : (Jvm.Cond.code ({ cls := "LectureTurnsModel", name := "isTerm", desc := "(I)Z" } : Jvm.MethodName) prog_12_method_10_code (1 : Nat) (Option.some Jvm.ClassFile.FieldType.boolean)) ∈ lw_all := lw_g (lw_at lw_m6 99 rfl) rfl
theorem q1366 : (Jvm.Cond.instanceMethod ({ cls := "LectureTurnsModel", name := "part", desc := "(III)I" } : Jvm.MethodName)) ∈ lw_all := lw_g (lw_at lw_m6 101 rfl) rfl
theorem q1367 : (Jvm.Cond.selects "LectureTurnsModel" ({ cls := "LectureTurnsModel", name := "part", desc := "(III)I" } : Jvm.MethodName) ({ cls := "LectureTurnsModel", name := "part", desc := "(III)I" } : Jvm.MethodName)) ∈ lw_all := lw_g (lw_at lw_m6 102 rfl) rfl
theorem q1368 : (Jvm.Cond.code ({ cls := "LectureTurnsModel", name := "part", desc := "(III)I" } : Jvm.MethodName) prog_12_method_16_code (6 : Nat) (Option.some Jvm.ClassFile.FieldType.int)) ∈ lw_all := lw_g (lw_at lw_m6 103 rfl) rfl
theorem q1370 : (Jvm.Cond.instanceMethod ({ cls := "LectureTurnsModel", name := "remove", desc := "(I)I" } : Jvm.MethodName)) ∈ lw_all := lw_g (lw_at lw_m6 105 rfl) rfl
theorem q1371 : (Jvm.Cond.selects "LectureTurnsModel" ({ cls := "LectureTurnsModel", name := "remove", desc := "(I)I" } : Jvm.MethodName) ({ cls := "LectureTurnsModel", name := "remove", desc := "(I)I" } : Jvm.MethodName)) ∈ lw_all := lw_g (lw_at lw_m6 106 rfl) rfl
theorem q1372 : (Jvm.Cond.code ({ cls := "LectureTurnsModel", name := "remove", desc := "(I)I" } : Jvm.MethodName) prog_12_method_17_code (3 : Nat) (Option.some Jvm.ClassFile.FieldType.int)) ∈ lw_all := lw_g (lw_at lw_m6 107 rfl) rfl
theorem q1374 : (Jvm.Cond.instanceMethod ({ cls := "LectureTurnsModel", name := "correct", desc := "(II)I" } : Jvm.MethodName)) ∈ lw_all := lw_g (lw_at lw_m6 109 rfl) rfl
theorem q1375 : (Jvm.Cond.selects "LectureTurnsModel" ({ cls := "LectureTurnsModel", name := "correct", desc := "(II)I" } : Jvm.MethodName) ({ cls := "LectureTurnsModel", name := "correct", desc := "(II)I" } : Jvm.MethodName)) ∈ lw_all := lw_g (lw_at lw_m6 110 rfl) rfl
theorem q1376 : (Jvm.Cond.code ({ cls := "LectureTurnsModel", name := "correct", desc := "(II)I" } : Jvm.MethodName) prog_12_method_22_code (4 : Nat) (Option.some Jvm.ClassFile.FieldType.int)) ∈ lw_all := lw_g (lw_at lw_m6 111 rfl) rfl
theorem q1377 : (Jvm.Cond.methodLink "LectureTurnsModel" (81 : Nat) ({ cls := "LectureTurnsModel", name := "mayCorrect", desc := "(II)I" } : Jvm.MethodName)) ∈ lw_all := lw_g (lw_at lw_m6 112 rfl) rfl
theorem q1378 : (Jvm.Cond.privateMethod ({ cls := "LectureTurnsModel", name := "mayCorrect", desc := "(II)I" } : Jvm.MethodName)) ∈ lw_tbl := lw_at lw_m6 113 rfl
theorem q1379 : (Jvm.Cond.instanceMethod ({ cls := "LectureTurnsModel", name := "mayCorrect", desc := "(II)I" } : Jvm.MethodName)) ∈ lw_all := lw_g (lw_at lw_m6 114 rfl) rfl
theorem q1380 : (Jvm.Cond.code ({ cls := "LectureTurnsModel", name := "mayCorrect", desc := "(II)I" } : Jvm.MethodName) prog_12_method_21_code (3 : Nat) (Option.some Jvm.ClassFile.FieldType.int)) ∈ lw_all := lw_g (lw_at lw_m6 115 rfl) rfl
theorem q1381 : (Jvm.Cond.methodLink "LectureTurnsModel" (76 : Nat) ({ cls := "LectureTurnsModel", name := "isOn", desc := "(II)Z" } : Jvm.MethodName)) ∈ lw_all := lw_g (lw_at lw_m6 116 rfl) rfl
theorem q1382 : (Jvm.Cond.privateMethod ({ cls := "LectureTurnsModel", name := "isOn", desc := "(II)Z" } : Jvm.MethodName)) ∈ lw_tbl := lw_at lw_m6 117 rfl
theorem q1383 : (Jvm.Cond.instanceMethod ({ cls := "LectureTurnsModel", name := "isOn", desc := "(II)Z" } : Jvm.MethodName)) ∈ lw_all := lw_g (lw_at lw_m6 118 rfl) rfl
theorem q1384 : (Jvm.Cond.code ({ cls := "LectureTurnsModel", name := "isOn", desc := "(II)Z" } : Jvm.MethodName) prog_12_method_19_code (4 : Nat) (Option.some Jvm.ClassFile.FieldType.boolean)) ∈ lw_all := lw_g (lw_at lw_m6 119 rfl) rfl
theorem q1385 : (Jvm.Cond.constant "LectureTurnsModel" (80 : Nat) (-1000002 : Int32)) ∈ lw_all := lw_g (lw_at lw_m6 120 rfl) rfl
theorem q1386 : (Jvm.Cond.methodLink "LectureTurnsModel" (84 : Nat) ({ cls := "LectureTurnsModel", name := "turnsTo", desc := "(IIZ)I" } : Jvm.MethodName)) ∈ lw_all := lw_g (lw_at lw_m6 121 rfl) rfl
theorem q1387 : (Jvm.Cond.privateMethod ({ cls := "LectureTurnsModel", name := "turnsTo", desc := "(IIZ)I" } : Jvm.MethodName)) ∈ lw_tbl := lw_at lw_m6 122 rfl
theorem q1388 : (Jvm.Cond.instanceMethod ({ cls := "LectureTurnsModel", name := "turnsTo", desc := "(IIZ)I" } : Jvm.MethodName)) ∈ lw_all := lw_g (lw_at lw_m6 123 rfl) rfl
theorem q1389 : (Jvm.Cond.code ({ cls := "LectureTurnsModel", name := "turnsTo", desc := "(IIZ)I" } : Jvm.MethodName) prog_12_method_20_code (8 : Nat) (Option.some Jvm.ClassFile.FieldType.int)) ∈ lw_all := lw_g (lw_at lw_m6 124 rfl) rfl
theorem q1390 : (Jvm.Cond.methodLink "LectureTurnsModel" (73 : Nat) ({ cls := "LectureTurnsModel", name := "shown", desc := "(I)I" } : Jvm.MethodName)) ∈ lw_all := lw_g (lw_at lw_m6 125 rfl) rfl
theorem q1391 : (Jvm.Cond.privateMethod ({ cls := "LectureTurnsModel", name := "shown", desc := "(I)I" } : Jvm.MethodName)) ∈ lw_tbl := lw_at lw_m6 126 rfl
theorem q1392 : (Jvm.Cond.instanceMethod ({ cls := "LectureTurnsModel", name := "shown", desc := "(I)I" } : Jvm.MethodName)) ∈ lw_all := lw_g (lw_at lw_m6 127 rfl) rfl
theorem q1393 : (Jvm.Cond.code ({ cls := "LectureTurnsModel", name := "shown", desc := "(I)I" } : Jvm.MethodName) prog_12_method_18_code (3 : Nat) (Option.some Jvm.ClassFile.FieldType.int)) ∈ lw_all := lw_g (lw_at lw_m6 128 rfl) rfl
theorem q1395 : (Jvm.Cond.instanceMethod ({ cls := "LectureTurnsModel", name := "uncorrect", desc := "(I)I" } : Jvm.MethodName)) ∈ lw_all := lw_g (lw_at lw_m6 130 rfl) rfl
theorem q1396 : (Jvm.Cond.selects "LectureTurnsModel" ({ cls := "LectureTurnsModel", name := "uncorrect", desc := "(I)I" } : Jvm.MethodName) ({ cls := "LectureTurnsModel", name := "uncorrect", desc := "(I)I" } : Jvm.MethodName)) ∈ lw_all := lw_g (lw_at lw_m6 131 rfl) rfl
theorem q1397 : (Jvm.Cond.code ({ cls := "LectureTurnsModel", name := "uncorrect", desc := "(I)I" } : Jvm.MethodName) prog_12_method_23_code (2 : Nat) (Option.some Jvm.ClassFile.FieldType.int)) ∈ lw_all := lw_g (lw_at lw_m6 132 rfl) rfl
theorem q1399 : (Jvm.Cond.instanceMethod ({ cls := "LectureTurnsModel", name := "speaker", desc := "(I)I" } : Jvm.MethodName)) ∈ lw_all := lw_g (lw_at lw_m6 134 rfl) rfl
theorem q1400 : (Jvm.Cond.selects "LectureTurnsModel" ({ cls := "LectureTurnsModel", name := "speaker", desc := "(I)I" } : Jvm.MethodName) ({ cls := "LectureTurnsModel", name := "speaker", desc := "(I)I" } : Jvm.MethodName)) ∈ lw_all := lw_g (lw_at lw_m6 135 rfl) rfl
theorem q1401 : (Jvm.Cond.code ({ cls := "LectureTurnsModel", name := "speaker", desc := "(I)I" } : Jvm.MethodName) prog_12_method_24_code (3 : Nat) (Option.some Jvm.ClassFile.FieldType.int)) ∈ lw_all := lw_g (lw_at lw_m6 136 rfl) rfl
theorem q1403 : (Jvm.Cond.instanceMethod ({ cls := "LectureTurnsModel", name := "give", desc := "(II)I" } : Jvm.MethodName)) ∈ lw_all := lw_g (lw_at lw_m6 138 rfl) rfl
theorem q1404 : (Jvm.Cond.selects "LectureTurnsModel" ({ cls := "LectureTurnsModel", name := "give", desc := "(II)I" } : Jvm.MethodName) ({ cls := "LectureTurnsModel", name := "give", desc := "(II)I" } : Jvm.MethodName)) ∈ lw_all := lw_g (lw_at lw_m6 139 rfl) rfl
theorem q1405 : (Jvm.Cond.code ({ cls := "LectureTurnsModel", name := "give", desc := "(II)I" } : Jvm.MethodName) prog_12_method_27_code (3 : Nat) (Option.some Jvm.ClassFile.FieldType.int)) ∈ lw_all := lw_g (lw_at lw_m6 140 rfl) rfl
theorem q1406 : (Jvm.Cond.methodLink "LectureTurnsModel" (91 : Nat) ({ cls := "LectureTurnsModel", name := "isVoice", desc := "(I)Z" } : Jvm.MethodName)) ∈ lw_all := lw_g (lw_at lw_m6 141 rfl) rfl
theorem q1407 : (Jvm.Cond.privateMethod ({ cls := "LectureTurnsModel", name := "isVoice", desc := "(I)Z" } : Jvm.MethodName)) ∈ lw_tbl := lw_at lw_m6 142 rfl
theorem q1408 : (Jvm.Cond.instanceMethod ({ cls := "LectureTurnsModel", name := "isVoice", desc := "(I)Z" } : Jvm.MethodName)) ∈ lw_all := lw_g (lw_at lw_m6 143 rfl) rfl
theorem q1409 : (Jvm.Cond.code ({ cls := "LectureTurnsModel", name := "isVoice", desc := "(I)Z" } : Jvm.MethodName) prog_12_method_9_code (2 : Nat) (Option.some Jvm.ClassFile.FieldType.boolean)) ∈ lw_all := lw_g (lw_at lw_m6 144 rfl) rfl
theorem q1410 : (Jvm.Cond.methodLink "LectureTurnsModel" (94 : Nat) ({ cls := "LectureTurnsModel", name := "tunes", desc := "(I)V" } : Jvm.MethodName)) ∈ lw_all := lw_g (lw_at lw_m6 145 rfl) rfl
theorem q1411 : (Jvm.Cond.privateMethod ({ cls := "LectureTurnsModel", name := "tunes", desc := "(I)V" } : Jvm.MethodName)) ∈ lw_tbl := lw_at lw_m6 146 rfl
theorem q1412 : (Jvm.Cond.instanceMethod ({ cls := "LectureTurnsModel", name := "tunes", desc := "(I)V" } : Jvm.MethodName)) ∈ lw_all := lw_g (lw_at lw_m6 147 rfl) rfl
theorem q1413 : (Jvm.Cond.code ({ cls := "LectureTurnsModel", name := "tunes", desc := "(I)V" } : Jvm.MethodName) prog_12_method_26_code (4 : Nat) (Option.none : Option Jvm.ClassFile.FieldType)) ∈ lw_all := lw_g (lw_at lw_m6 148 rfl) rfl
theorem q1414 : (Jvm.Cond.methodLink "LectureTurnsModel" (88 : Nat) ({ cls := "LectureTurnsModel", name := "turnsOf", desc := "(I)I" } : Jvm.MethodName)) ∈ lw_all := lw_g (lw_at lw_m6 149 rfl) rfl
theorem q1415 : (Jvm.Cond.privateMethod ({ cls := "LectureTurnsModel", name := "turnsOf", desc := "(I)I" } : Jvm.MethodName)) ∈ lw_tbl := lw_at lw_m6 150 rfl
theorem q1416 : (Jvm.Cond.instanceMethod ({ cls := "LectureTurnsModel", name := "turnsOf", desc := "(I)I" } : Jvm.MethodName)) ∈ lw_all := lw_g (lw_at lw_m6 151 rfl) rfl
theorem q1417 : (Jvm.Cond.code ({ cls := "LectureTurnsModel", name := "turnsOf", desc := "(I)I" } : Jvm.MethodName) prog_12_method_25_code (4 : Nat) (Option.some Jvm.ClassFile.FieldType.int)) ∈ lw_all := lw_g (lw_at lw_m6 152 rfl) rfl
theorem q1419 : (Jvm.Cond.instanceMethod ({ cls := "LectureTurnsModel", name := "join", desc := "(II)I" } : Jvm.MethodName)) ∈ lw_all := lw_g (lw_at lw_m6 154 rfl) rfl
theorem q1420 : (Jvm.Cond.selects "LectureTurnsModel" ({ cls := "LectureTurnsModel", name := "join", desc := "(II)I" } : Jvm.MethodName) ({ cls := "LectureTurnsModel", name := "join", desc := "(II)I" } : Jvm.MethodName)) ∈ lw_all := lw_g (lw_at lw_m6 155 rfl) rfl
theorem q1421 : (Jvm.Cond.code ({ cls := "LectureTurnsModel", name := "join", desc := "(II)I" } : Jvm.MethodName) prog_12_method_28_code (4 : Nat) (Option.some Jvm.ClassFile.FieldType.int)) ∈ lw_all := lw_g (lw_at lw_m6 156 rfl) rfl
theorem q1423 : (Jvm.Cond.instanceMethod ({ cls := "LectureTurnsModel", name := "set", desc := "(II)I" } : Jvm.MethodName)) ∈ lw_all := lw_g (lw_at lw_m6 158 rfl) rfl
theorem q1424 : (Jvm.Cond.selects "LectureTurnsModel" ({ cls := "LectureTurnsModel", name := "set", desc := "(II)I" } : Jvm.MethodName) ({ cls := "LectureTurnsModel", name := "set", desc := "(II)I" } : Jvm.MethodName)) ∈ lw_all := lw_g (lw_at lw_m6 159 rfl) rfl
theorem q1425 : (Jvm.Cond.code ({ cls := "LectureTurnsModel", name := "set", desc := "(II)I" } : Jvm.MethodName) prog_12_method_29_code (4 : Nat) (Option.some Jvm.ClassFile.FieldType.int)) ∈ lw_all := lw_g (lw_at lw_m6 160 rfl) rfl
theorem q1427 : (Jvm.Cond.instanceMethod ({ cls := "LectureTurnsModel", name := "turnOf", desc := "(II)I" } : Jvm.MethodName)) ∈ lw_all := lw_g (lw_at lw_m6 162 rfl) rfl
theorem q1428 : (Jvm.Cond.selects "LectureTurnsModel" ({ cls := "LectureTurnsModel", name := "turnOf", desc := "(II)I" } : Jvm.MethodName) ({ cls := "LectureTurnsModel", name := "turnOf", desc := "(II)I" } : Jvm.MethodName)) ∈ lw_all := lw_g (lw_at lw_m6 163 rfl) rfl
theorem q1429 : (Jvm.Cond.code ({ cls := "LectureTurnsModel", name := "turnOf", desc := "(II)I" } : Jvm.MethodName) prog_12_method_36_code (3 : Nat) (Option.some Jvm.ClassFile.FieldType.int)) ∈ lw_all := lw_g (lw_at lw_m6 164 rfl) rfl
theorem q1430 : (Jvm.Cond.constant "LectureTurnsModel" (110 : Nat) (-1000004 : Int32)) ∈ lw_all := lw_g (lw_at lw_m6 165 rfl) rfl
theorem q1431 : (Jvm.Cond.methodLink "LectureTurnsModel" (111 : Nat) ({ cls := "LectureTurnsModel", name := "overlapping", desc := "(IZ)I" } : Jvm.MethodName)) ∈ lw_all := lw_g (lw_at lw_m6 166 rfl) rfl
theorem q1432 : (Jvm.Cond.privateMethod ({ cls := "LectureTurnsModel", name := "overlapping", desc := "(IZ)I" } : Jvm.MethodName)) ∈ lw_tbl := lw_at lw_m6 167 rfl
theorem q1433 : (Jvm.Cond.instanceMethod ({ cls := "LectureTurnsModel", name := "overlapping", desc := "(IZ)I" } : Jvm.MethodName)) ∈ lw_all := lw_g (lw_at lw_m6 168 rfl) rfl
theorem q1434 : (Jvm.Cond.code ({ cls := "LectureTurnsModel", name := "overlapping", desc := "(IZ)I" } : Jvm.MethodName) prog_12_method_32_code (5 : Nat) (Option.some Jvm.ClassFile.FieldType.int)) ∈ lw_all := lw_g (lw_at lw_m6 169 rfl) rfl
theorem q1435 : (Jvm.Cond.methodLink "LectureTurnsModel" (98 : Nat) ({ cls := "LectureTurnsModel", name := "interrupt", desc := "(II)Z" } : Jvm.MethodName)) ∈ lw_all := lw_g (lw_at lw_m6 170 rfl) rfl
theorem q1436 : (Jvm.Cond.privateMethod ({ cls := "LectureTurnsModel", name := "interrupt", desc := "(II)Z" } : Jvm.MethodName)) ∈ lw_tbl := lw_at lw_m6 171 rfl
theorem q1437 : (Jvm.Cond.instanceMethod ({ cls := "LectureTurnsModel", name := "interrupt", desc := "(II)Z" } : Jvm.MethodName)) ∈ lw_all := lw_g (lw_at lw_m6 172 rfl) rfl
theorem q1438 : (Jvm.Cond.code ({ cls := "LectureTurnsModel", name := "interrupt", desc := "(II)Z" } : Jvm.MethodName) prog_12_method_31_code (4 : Nat) (Option.some Jvm.ClassFile.FieldType.boolean)) ∈ lw_all := lw_g (lw_at lw_m6 173 rfl) rfl
theorem q1439 : (Jvm.Cond.methodLink "LectureTurnsModel" (101 : Nat) ({ cls := "LectureTurnsModel", name := "overlap", desc := "(II)Z" } : Jvm.MethodName)) ∈ lw_all := lw_g (lw_at lw_m6 174 rfl) rfl
theorem q1440 : (Jvm.Cond.privateMethod ({ cls := "LectureTurnsModel", name := "overlap", desc := "(II)Z" } : Jvm.MethodName)) ∈ lw_tbl := lw_at lw_m6 175 rfl
theorem q1441 : (Jvm.Cond.instanceMethod ({ cls := "LectureTurnsModel", name := "overlap", desc := "(II)Z" } : Jvm.MethodName)) ∈ lw_all := lw_g (lw_at lw_m6 176 rfl) rfl
theorem q1442 : (Jvm.Cond.code ({ cls := "LectureTurnsModel", name := "overlap", desc := "(II)Z" } : Jvm.MethodName) prog_12_method_30_code (3 : Nat) (Option.some Jvm.ClassFile.FieldType.boolean)) ∈ lw_all := lw_g (lw_at lw_m6 177 rfl) rfl
theorem q1443 : (Jvm.Cond.methodLink "LectureTurnsModel" (115 : Nat) ({ cls := "LectureTurnsModel", name := "alone", desc := "(I)I" } : Jvm.MethodName)) ∈ lw_all := lw_g (lw_at lw_m6 178 rfl) rfl
theorem q1444 : (Jvm.Cond.privateMethod ({ cls := "LectureTurnsModel", name := "alone", desc := "(I)I" } : Jvm.MethodName)) ∈ lw_tbl := lw_at lw_m6 179 rfl
theorem q1445 : (Jvm.Cond.instanceMethod ({ cls := "LectureTurnsModel", name := "alone", desc := "(I)I" } : Jvm.MethodName)) ∈ lw_all := lw_g (lw_at lw_m6 180 rfl) rfl
theorem q1446 : (Jvm.Cond.code ({ cls := "LectureTurnsModel", name := "alone", desc := "(I)I" } : Jvm.MethodName) prog_12_method_35_code (4 : Nat) (Option.some Jvm.ClassFile.FieldType.int)) ∈ lw_all := lw_g (lw_at lw_m6 181 rfl) rfl
theorem q1447 : (Jvm.Cond.methodLink "LectureTurnsModel" (107 : Nat) ({ cls := "LectureTurnsModel", name := "going", desc := "(I)I" } : Jvm.MethodName)) ∈ lw_all := lw_g (lw_at lw_m6 182 rfl) rfl
theorem q1448 : (Jvm.Cond.privateMethod ({ cls := "LectureTurnsModel", name := "going", desc := "(I)I" } : Jvm.MethodName)) ∈ lw_tbl := lw_at lw_m6 183 rfl
theorem q1449 : (Jvm.Cond.instanceMethod ({ cls := "LectureTurnsModel", name := "going", desc := "(I)I" } : Jvm.MethodName)) ∈ lw_all := lw_g (lw_at lw_m6 184 rfl) rfl
theorem q1450 : (Jvm.Cond.code ({ cls := "LectureTurnsModel", name := "going", desc := "(I)I" } : Jvm.MethodName) prog_12_method_34_code (4 : Nat) (Option.some Jvm.ClassFile.FieldType.int)) ∈ lw_all := lw_g (lw_at lw_m6 185 rfl) rfl
theorem q1451 : (Jvm.Cond.methodLink "LectureTurnsModel" (104 : Nat) ({ cls := "LectureTurnsModel", name := "goesOn", desc := "(II)Z" } : Jvm.MethodName)) ∈ lw_all := lw_g (lw_at lw_m6 186 rfl) rfl
theorem q1452 : (Jvm.Cond.privateMethod ({ cls := "LectureTurnsModel", name := "goesOn", desc := "(II)Z" } : Jvm.MethodName)) ∈ lw_tbl := lw_at lw_m6 187 rfl
theorem q1453 : (Jvm.Cond.instanceMethod ({ cls := "LectureTurnsModel", name := "goesOn", desc := "(II)Z" } : Jvm.MethodName)) ∈ lw_all := lw_g (lw_at lw_m6 188 rfl) rfl
theorem q1454 : (Jvm.Cond.code ({ cls := "LectureTurnsModel", name := "goesOn", desc := "(II)Z" } : Jvm.MethodName) prog_12_method_33_code (3 : Nat) (Option.some Jvm.ClassFile.FieldType.boolean)) ∈ lw_all := lw_g (lw_at lw_m6 189 rfl) rfl
theorem q1456 : (Jvm.Cond.instanceMethod ({ cls := "LectureTurnsModel", name := "termAt", desc := "(III)I" } : Jvm.MethodName)) ∈ lw_all := lw_g (lw_at lw_m6 191 rfl) rfl
theorem q1457 : (Jvm.Cond.selects "LectureTurnsModel" ({ cls := "LectureTurnsModel", name := "termAt", desc := "(III)I" } : Jvm.MethodName) ({ cls := "LectureTurnsModel", name := "termAt", desc := "(III)I" } : Jvm.MethodName)) ∈ lw_all := lw_g (lw_at lw_m6 192 rfl) rfl
theorem q1458 : (Jvm.Cond.code ({ cls := "LectureTurnsModel", name := "termAt", desc := "(III)I" } : Jvm.MethodName) prog_12_method_37_code (5 : Nat) (Option.some Jvm.ClassFile.FieldType.int)) ∈ lw_all := lw_g (lw_at lw_m6 193 rfl) rfl
theorem q1460 : (Jvm.Cond.instanceMethod ({ cls := "LectureTurnsModel", name := "termOf", desc := "(II)I" } : Jvm.MethodName)) ∈ lw_all := lw_g (lw_at lw_m6 195 rfl) rfl
theorem q1461 : (Jvm.Cond.selects "LectureTurnsModel" ({ cls := "LectureTurnsModel", name := "termOf", desc := "(II)I" } : Jvm.MethodName) ({ cls := "LectureTurnsModel", name := "termOf", desc := "(II)I" } : Jvm.MethodName)) ∈ lw_all := lw_g (lw_at lw_m6 196 rfl) rfl
theorem q1462 : (Jvm.Cond.code ({ cls := "LectureTurnsModel", name := "termOf", desc := "(II)I" } : Jvm.MethodName) prog_12_method_42_code (3 : Nat) (Option.some Jvm.ClassFile.FieldType.int)) ∈ lw_all := lw_g (lw_at lw_m6 197 rfl) rfl
theorem q1463 : (Jvm.Cond.methodLink "LectureTurnsModel" (121 : Nat) ({ cls := "LectureTurnsModel", name := "chain", desc := "(I)I" } : Jvm.MethodName)) ∈ lw_all := lw_g (lw_at lw_m6 198 rfl) rfl
theorem q1464 : (Jvm.Cond.privateMethod ({ cls := "LectureTurnsModel", name := "chain", desc := "(I)I" } : Jvm.MethodName)) ∈ lw_tbl := lw_at lw_m6 199 rfl
theorem q1465 : (Jvm.Cond.instanceMethod ({ cls := "LectureTurnsModel", name := "chain", desc := "(I)I" } : Jvm.MethodName)) ∈ lw_all := lw_g (lw_at lw_m6 200 rfl) rfl
theorem q1466 : (Jvm.Cond.code ({ cls := "LectureTurnsModel", name := "chain", desc := "(I)I" } : Jvm.MethodName) prog_12_method_38_code (4 : Nat) (Option.some Jvm.ClassFile.FieldType.int)) ∈ lw_all := lw_g (lw_at lw_m6 201 rfl) rfl
theorem q1467 : (Jvm.Cond.methodLink "LectureTurnsModel" (124 : Nat) ({ cls := "LectureTurnsModel", name := "shownAs", desc := "(I)I" } : Jvm.MethodName)) ∈ lw_all := lw_g (lw_at lw_m6 202 rfl) rfl
theorem q1468 : (Jvm.Cond.privateMethod ({ cls := "LectureTurnsModel", name := "shownAs", desc := "(I)I" } : Jvm.MethodName)) ∈ lw_tbl := lw_at lw_m6 203 rfl
theorem q1469 : (Jvm.Cond.instanceMethod ({ cls := "LectureTurnsModel", name := "shownAs", desc := "(I)I" } : Jvm.MethodName)) ∈ lw_all := lw_g (lw_at lw_m6 204 rfl) rfl
theorem q1470 : (Jvm.Cond.code ({ cls := "LectureTurnsModel", name := "shownAs", desc := "(I)I" } : Jvm.MethodName) prog_12_method_41_code (4 : Nat) (Option.some Jvm.ClassFile.FieldType.int)) ∈ lw_all := lw_g (lw_at lw_m6 205 rfl) rfl
theorem q1471 : (Jvm.Cond.methodLink "LectureTurnsModel" (127 : Nat) ({ cls := "LectureTurnsModel", name := "showing", desc := "(II)I" } : Jvm.MethodName)) ∈ lw_all := lw_g (lw_at lw_m6 206 rfl) rfl
theorem q1472 : (Jvm.Cond.privateMethod ({ cls := "LectureTurnsModel", name := "showing", desc := "(II)I" } : Jvm.MethodName)) ∈ lw_tbl := lw_at lw_m6 207 rfl
theorem q1473 : (Jvm.Cond.instanceMethod ({ cls := "LectureTurnsModel", name := "showing", desc := "(II)I" } : Jvm.MethodName)) ∈ lw_all := lw_g (lw_at lw_m6 208 rfl) rfl
theorem q1474 : (Jvm.Cond.code ({ cls := "LectureTurnsModel", name := "showing", desc := "(II)I" } : Jvm.MethodName) prog_12_method_40_code (7 : Nat) (Option.some Jvm.ClassFile.FieldType.int)) ∈ lw_all := lw_g (lw_at lw_m6 209 rfl) rfl
theorem q1475 : (Jvm.Cond.methodLink "LectureTurnsModel" (118 : Nat) ({ cls := "LectureTurnsModel", name := "shows", desc := "(II)I" } : Jvm.MethodName)) ∈ lw_all := lw_g (lw_at lw_m6 210 rfl) rfl
theorem q1476 : (Jvm.Cond.privateMethod ({ cls := "LectureTurnsModel", name := "shows", desc := "(II)I" } : Jvm.MethodName)) ∈ lw_tbl := lw_at lw_m6 211 rfl
theorem q1477 : (Jvm.Cond.instanceMethod ({ cls := "LectureTurnsModel", name := "shows", desc := "(II)I" } : Jvm.MethodName)) ∈ lw_all := lw_g (lw_at lw_m6 212 rfl) rfl
theorem q1478 : (Jvm.Cond.code ({ cls := "LectureTurnsModel", name := "shows", desc := "(II)I" } : Jvm.MethodName) prog_12_method_39_code (5 : Nat) (Option.some Jvm.ClassFile.FieldType.int)) ∈ lw_all := lw_g (lw_at lw_m6 213 rfl) rfl
theorem q1480 : (Jvm.Cond.instanceMethod ({ cls := "LectureTurnsModel", name := "speakerOf", desc := "(II)I" } : Jvm.MethodName)) ∈ lw_all := lw_g (lw_at lw_m6 215 rfl) rfl
theorem q1481 : (Jvm.Cond.selects "LectureTurnsModel" ({ cls := "LectureTurnsModel", name := "speakerOf", desc := "(II)I" } : Jvm.MethodName) ({ cls := "LectureTurnsModel", name := "speakerOf", desc := "(II)I" } : Jvm.MethodName)) ∈ lw_all := lw_g (lw_at lw_m6 216 rfl) rfl
theorem q1482 : (Jvm.Cond.code ({ cls := "LectureTurnsModel", name := "speakerOf", desc := "(II)I" } : Jvm.MethodName) prog_12_method_48_code (3 : Nat) (Option.some Jvm.ClassFile.FieldType.int)) ∈ lw_all := lw_g (lw_at lw_m6 217 rfl) rfl
theorem q1483 : (Jvm.Cond.methodLink "LectureTurnsModel" (130 : Nat) ({ cls := "LectureTurnsModel", name := "secondsOf", desc := "(I)I" } : Jvm.MethodName)) ∈ lw_all := lw_g (lw_at lw_m6 218 rfl) rfl
theorem q1484 : (Jvm.Cond.privateMethod ({ cls := "LectureTurnsModel", name := "secondsOf", desc := "(I)I" } : Jvm.MethodName)) ∈ lw_tbl := lw_at lw_m6 219 rfl
theorem q1485 : (Jvm.Cond.instanceMethod ({ cls := "LectureTurnsModel", name := "secondsOf", desc := "(I)I" } : Jvm.MethodName)) ∈ lw_all := lw_g (lw_at lw_m6 220 rfl) rfl
theorem q1486 : (Jvm.Cond.code ({ cls := "LectureTurnsModel", name := "secondsOf", desc := "(I)I" } : Jvm.MethodName) prog_12_method_43_code (4 : Nat) (Option.some Jvm.ClassFile.FieldType.int)) ∈ lw_all := lw_g (lw_at lw_m6 221 rfl) rfl
theorem q1487 : (Jvm.Cond.methodLink "LectureTurnsModel" (133 : Nat) ({ cls := "LectureTurnsModel", name := "termsOf", desc := "(IZ)I" } : Jvm.MethodName)) ∈ lw_all := lw_g (lw_at lw_m6 222 rfl) rfl
theorem q1488 : (Jvm.Cond.privateMethod ({ cls := "LectureTurnsModel", name := "termsOf", desc := "(IZ)I" } : Jvm.MethodName)) ∈ lw_tbl := lw_at lw_m6 223 rfl
theorem q1489 : (Jvm.Cond.instanceMethod ({ cls := "LectureTurnsModel", name := "termsOf", desc := "(IZ)I" } : Jvm.MethodName)) ∈ lw_all := lw_g (lw_at lw_m6 224 rfl) rfl
theorem q1490 : (Jvm.Cond.code ({ cls := "LectureTurnsModel", name := "termsOf", desc := "(IZ)I" } : Jvm.MethodName) prog_12_method_44_code (6 : Nat) (Option.some Jvm.ClassFile.FieldType.int)) ∈ lw_all := lw_g (lw_at lw_m6 225 rfl) rfl
theorem q1491 : (Jvm.Cond.methodLink "LectureTurnsModel" (143 : Nat) ({ cls := "LectureTurnsModel", name := "often", desc := "(II)I" } : Jvm.MethodName)) ∈ lw_all := lw_g (lw_at lw_m6 226 rfl) rfl
theorem q1492 : (Jvm.Cond.privateMethod ({ cls := "LectureTurnsModel", name := "often", desc := "(II)I" } : Jvm.MethodName)) ∈ lw_tbl := lw_at lw_m6 227 rfl
theorem q1493 : (Jvm.Cond.instanceMethod ({ cls := "LectureTurnsModel", name := "often", desc := "(II)I" } : Jvm.MethodName)) ∈ lw_all := lw_g (lw_at lw_m6 228 rfl) rfl
theorem q1494 : (Jvm.Cond.code ({ cls := "LectureTurnsModel", name := "often", desc := "(II)I" } : Jvm.MethodName) prog_12_method_46_code (7 : Nat) (Option.some Jvm.ClassFile.FieldType.int)) ∈ lw_all := lw_g (lw_at lw_m6 229 rfl) rfl
theorem q1495 : (Jvm.Cond.methodLink "LectureTurnsModel" (146 : Nat) ({ cls := "LectureTurnsModel", name := "byMinute", desc := "(I)I" } : Jvm.MethodName)) ∈ lw_all := lw_g (lw_at lw_m6 230 rfl) rfl
theorem q1496 : (Jvm.Cond.privateMethod ({ cls := "LectureTurnsModel", name := "byMinute", desc := "(I)I" } : Jvm.MethodName)) ∈ lw_tbl := lw_at lw_m6 231 rfl
theorem q1497 : (Jvm.Cond.instanceMethod ({ cls := "LectureTurnsModel", name := "byMinute", desc := "(I)I" } : Jvm.MethodName)) ∈ lw_all := lw_g (lw_at lw_m6 232 rfl) rfl
theorem q1498 : (Jvm.Cond.code ({ cls := "LectureTurnsModel", name := "byMinute", desc := "(I)I" } : Jvm.MethodName) prog_12_method_47_code (4 : Nat) (Option.some Jvm.ClassFile.FieldType.int)) ∈ lw_all := lw_g (lw_at lw_m6 233 rfl) rfl
theorem q1499 : (Jvm.Cond.constantFloat "LectureTurnsModel" (136 : Nat) (1114636288 : UInt32)) ∈ lw_all := lw_g (lw_at lw_m6 234 rfl) rfl
theorem q1500 : (Jvm.Cond.methodLink "LectureTurnsModel" (137 : Nat) ({ cls := "java/lang/Float", name := "floatToIntBits", desc := "(F)I" } : Jvm.MethodName)) ∈ lw_all := lw_g (lw_at lw_m6 235 rfl) rfl
theorem q1502 : (Jvm.Cond.instanceMethod ({ cls := "LectureTurnsModel", name := "during", desc := "(II)I" } : Jvm.MethodName)) ∈ lw_all := lw_g (lw_at lw_m6 237 rfl) rfl
theorem q1503 : (Jvm.Cond.selects "LectureTurnsModel" ({ cls := "LectureTurnsModel", name := "during", desc := "(II)I" } : Jvm.MethodName) ({ cls := "LectureTurnsModel", name := "during", desc := "(II)I" } : Jvm.MethodName)) ∈ lw_all := lw_g (lw_at lw_m6 238 rfl) rfl
theorem q1504 : (Jvm.Cond.code ({ cls := "LectureTurnsModel", name := "during", desc := "(II)I" } : Jvm.MethodName) prog_12_method_50_code (3 : Nat) (Option.some Jvm.ClassFile.FieldType.int)) ∈ lw_all := lw_g (lw_at lw_m6 239 rfl) rfl
theorem q1505 : (Jvm.Cond.methodLink "LectureTurnsModel" (149 : Nat) ({ cls := "LectureTurnsModel", name := "voices", desc := "(I)I" } : Jvm.MethodName)) ∈ lw_all := lw_g (lw_at lw_m7 0 rfl) rfl
theorem q1506 : (Jvm.Cond.privateMethod ({ cls := "LectureTurnsModel", name := "voices", desc := "(I)I" } : Jvm.MethodName)) ∈ lw_tbl := lw_at lw_m7 1 rfl
theorem q1507 : (Jvm.Cond.instanceMethod ({ cls := "LectureTurnsModel", name := "voices", desc := "(I)I" } : Jvm.MethodName)) ∈ lw_all := lw_g (lw_at lw_m7 2 rfl) rfl
theorem q1508 : (Jvm.Cond.code ({ cls := "LectureTurnsModel", name := "voices", desc := "(I)I" } : Jvm.MethodName) prog_12_method_49_code (4 : Nat) (Option.some Jvm.ClassFile.FieldType.int)) ∈ lw_all := lw_g (lw_at lw_m7 3 rfl) rfl
theorem q1510 : (Jvm.Cond.instanceMethod ({ cls := "LectureTurnsModel", name := "interrupts", desc := "(II)I" } : Jvm.MethodName)) ∈ lw_all := lw_g (lw_at lw_m7 5 rfl) rfl
theorem q1511 : (Jvm.Cond.selects "LectureTurnsModel" ({ cls := "LectureTurnsModel", name := "interrupts", desc := "(II)I" } : Jvm.MethodName) ({ cls := "LectureTurnsModel", name := "interrupts", desc := "(II)I" } : Jvm.MethodName)) ∈ lw_all := lw_g (lw_at lw_m7 6 rfl) rfl
theorem q1512 : (Jvm.Cond.code ({ cls := "LectureTurnsModel", name := "interrupts", desc := "(II)I" } : Jvm.MethodName) prog_12_method_51_code (3 : Nat) (Option.some Jvm.ClassFile.FieldType.int)) ∈ lw_all := lw_g (lw_at lw_m7 7 rfl) rfl
theorem q1514 : (Jvm.Cond.instanceMethod ({ cls := "LectureTurnsModel", name := "nearest", desc := "(I)I" } : Jvm.MethodName)) ∈ lw_all := lw_g (lw_at lw_m7 9 rfl) rfl
theorem q1515 : (Jvm.Cond.selects "LectureTurnsModel" ({ cls := "LectureTurnsModel", name := "nearest", desc := "(I)I" } : Jvm.MethodName) ({ cls := "LectureTurnsModel", name := "nearest", desc := "(I)I" } : Jvm.MethodName)) ∈ lw_all := lw_g (lw_at lw_m7 10 rfl) rfl
theorem q1516 : (Jvm.Cond.code ({ cls := "LectureTurnsModel", name := "nearest", desc := "(I)I" } : Jvm.MethodName) prog_12_method_52_code (2 : Nat) (Option.some Jvm.ClassFile.FieldType.int)) ∈ lw_all := lw_g (lw_at lw_m7 11 rfl) rfl
theorem q1518 : (Jvm.Cond.instanceMethod ({ cls := "LectureTurnsModel", name := "would", desc := "(II)I" } : Jvm.MethodName)) ∈ lw_all := lw_g (lw_at lw_m7 13 rfl) rfl
theorem q1519 : (Jvm.Cond.selects "LectureTurnsModel" ({ cls := "LectureTurnsModel", name := "would", desc := "(II)I" } : Jvm.MethodName) ({ cls := "LectureTurnsModel", name := "would", desc := "(II)I" } : Jvm.MethodName)) ∈ lw_all := lw_g (lw_at lw_m7 14 rfl) rfl
theorem q1520 : (Jvm.Cond.code ({ cls := "LectureTurnsModel", name := "would", desc := "(II)I" } : Jvm.MethodName) prog_12_method_53_code (4 : Nat) (Option.some Jvm.ClassFile.FieldType.int)) ∈ lw_all := lw_g (lw_at lw_m7 15 rfl) rfl
theorem q1522 : (Jvm.Cond.instanceMethod ({ cls := "LectureTurnsModel", name := "together", desc := "(I)I" } : Jvm.MethodName)) ∈ lw_all := lw_g (lw_at lw_m7 17 rfl) rfl
theorem q1523 : (Jvm.Cond.selects "LectureTurnsModel" ({ cls := "LectureTurnsModel", name := "together", desc := "(I)I" } : Jvm.MethodName) ({ cls := "LectureTurnsModel", name := "together", desc := "(I)I" } : Jvm.MethodName)) ∈ lw_all := lw_g (lw_at lw_m7 18 rfl) rfl
theorem q1524 : (Jvm.Cond.code ({ cls := "LectureTurnsModel", name := "together", desc := "(I)I" } : Jvm.MethodName) prog_12_method_55_code (8 : Nat) (Option.some Jvm.ClassFile.FieldType.int)) ∈ lw_all := lw_g (lw_at lw_m7 19 rfl) rfl
theorem q1525 : (Jvm.Cond.methodLink "LectureTurnsModel" (152 : Nat) ({ cls := "LectureTurnsModel", name := "both", desc := "(II)I" } : Jvm.MethodName)) ∈ lw_all := lw_g (lw_at lw_m7 20 rfl) rfl
theorem q1526 : (Jvm.Cond.privateMethod ({ cls := "LectureTurnsModel", name := "both", desc := "(II)I" } : Jvm.MethodName)) ∈ lw_tbl := lw_at lw_m7 21 rfl
theorem q1527 : (Jvm.Cond.instanceMethod ({ cls := "LectureTurnsModel", name := "both", desc := "(II)I" } : Jvm.MethodName)) ∈ lw_all := lw_g (lw_at lw_m7 22 rfl) rfl
theorem q1528 : (Jvm.Cond.code ({ cls := "LectureTurnsModel", name := "both", desc := "(II)I" } : Jvm.MethodName) prog_12_method_54_code (5 : Nat) (Option.some Jvm.ClassFile.FieldType.int)) ∈ lw_all := lw_g (lw_at lw_m7 23 rfl) rfl
theorem q1530 : (Jvm.Cond.instanceMethod ({ cls := "LectureTurnsModel", name := "silence", desc := "(I)I" } : Jvm.MethodName)) ∈ lw_all := lw_g (lw_at lw_m7 25 rfl) rfl
theorem q1531 : (Jvm.Cond.selects "LectureTurnsModel" ({ cls := "LectureTurnsModel", name := "silence", desc := "(I)I" } : Jvm.MethodName) ({ cls := "LectureTurnsModel", name := "silence", desc := "(I)I" } : Jvm.MethodName)) ∈ lw_all := lw_g (lw_at lw_m7 26 rfl) rfl
theorem q1532 : (Jvm.Cond.code ({ cls := "LectureTurnsModel", name := "silence", desc := "(I)I" } : Jvm.MethodName) prog_12_method_57_code (7 : Nat) (Option.some Jvm.ClassFile.FieldType.int)) ∈ lw_all := lw_g (lw_at lw_m7 27 rfl) rfl
theorem q1533 : (Jvm.Cond.methodLink "LectureTurnsModel" (155 : Nat) ({ cls := "LectureTurnsModel", name := "lastEnd", desc := "()I" } : Jvm.MethodName)) ∈ lw_all := lw_g (lw_at lw_m7 28 rfl) rfl
theorem q1534 : (Jvm.Cond.privateMethod ({ cls := "LectureTurnsModel", name := "lastEnd", desc := "()I" } : Jvm.MethodName)) ∈ lw_tbl := lw_at lw_m7 29 rfl
theorem q1535 : (Jvm.Cond.instanceMethod ({ cls := "LectureTurnsModel", name := "lastEnd", desc := "()I" } : Jvm.MethodName)) ∈ lw_all := lw_g (lw_at lw_m7 30 rfl) rfl
theorem q1536 : (Jvm.Cond.code ({ cls := "LectureTurnsModel", name := "lastEnd", desc := "()I" } : Jvm.MethodName) prog_12_method_56_code (3 : Nat) (Option.some Jvm.ClassFile.FieldType.int)) ∈ lw_all := lw_g (lw_at lw_m7 31 rfl) rfl
theorem q1538 : (Jvm.Cond.instanceMethod ({ cls := "LectureTurnsModel", name := "doubtful", desc := "(I)I" } : Jvm.MethodName)) ∈ lw_all := lw_g (lw_at lw_m7 33 rfl) rfl
theorem q1539 : (Jvm.Cond.selects "LectureTurnsModel" ({ cls := "LectureTurnsModel", name := "doubtful", desc := "(I)I" } : Jvm.MethodName) ({ cls := "LectureTurnsModel", name := "doubtful", desc := "(I)I" } : Jvm.MethodName)) ∈ lw_all := lw_g (lw_at lw_m7 34 rfl) rfl
theorem q1540 : (Jvm.Cond.code ({ cls := "LectureTurnsModel", name := "doubtful", desc := "(I)I" } : Jvm.MethodName) prog_12_method_58_code (6 : Nat) (Option.some Jvm.ClassFile.FieldType.int)) ∈ lw_all := lw_g (lw_at lw_m7 35 rfl) rfl
theorem q1542 : (Jvm.Cond.instanceMethod ({ cls := "LectureTurnsModel", name := "count", desc := "(I)I" } : Jvm.MethodName)) ∈ lw_all := lw_g (lw_at lw_m7 37 rfl) rfl
theorem q1543 : (Jvm.Cond.selects "LectureTurnsModel" ({ cls := "LectureTurnsModel", name := "count", desc := "(I)I" } : Jvm.MethodName) ({ cls := "LectureTurnsModel", name := "count", desc := "(I)I" } : Jvm.MethodName)) ∈ lw_all := lw_g (lw_at lw_m7 38 rfl) rfl
theorem q1544 : (Jvm.Cond.code ({ cls := "LectureTurnsModel", name := "count", desc := "(I)I" } : Jvm.MethodName) prog_12_method_63_code (2 : Nat) (Option.some Jvm.ClassFile.FieldType.int)) ∈ lw_all := lw_g (lw_at lw_m7 39 rfl) rfl
theorem q1545 : (Jvm.Cond.methodLink "LectureTurnsModel" (162 : Nat) ({ cls := "LectureTurnsModel", name := "voicesAll", desc := "()I" } : Jvm.MethodName)) ∈ lw_all := lw_g (lw_at lw_m7 40 rfl) rfl
theorem q1546 : (Jvm.Cond.privateMethod ({ cls := "LectureTurnsModel", name := "voicesAll", desc := "()I" } : Jvm.MethodName)) ∈ lw_tbl := lw_at lw_m7 41 rfl
theorem q1547 : (Jvm.Cond.instanceMethod ({ cls := "LectureTurnsModel", name := "voicesAll", desc := "()I" } : Jvm.MethodName)) ∈ lw_all := lw_g (lw_at lw_m7 42 rfl) rfl
theorem q1548 : (Jvm.Cond.code ({ cls := "LectureTurnsModel", name := "voicesAll", desc := "()I" } : Jvm.MethodName) prog_12_method_61_code (3 : Nat) (Option.some Jvm.ClassFile.FieldType.int)) ∈ lw_all := lw_g (lw_at lw_m7 43 rfl) rfl
theorem q1549 : (Jvm.Cond.methodLink "LectureTurnsModel" (159 : Nat) ({ cls := "LectureTurnsModel", name := "ones", desc := "(I)I" } : Jvm.MethodName)) ∈ lw_all := lw_g (lw_at lw_m7 44 rfl) rfl
theorem q1550 : (Jvm.Cond.static ({ cls := "LectureTurnsModel", name := "ones", desc := "(I)I" } : Jvm.MethodName)) ∈ lw_all := lw_g (lw_at lw_m7 45 rfl) rfl
theorem q1551 : (Jvm.Cond.code ({ cls := "LectureTurnsModel", name := "ones", desc := "(I)I" } : Jvm.MethodName) prog_12_method_45_code (3 : Nat) (Option.some Jvm.ClassFile.FieldType.int)) ∈ lw_all := lw_g (lw_at lw_m7 46 rfl) rfl
theorem q1552 : (Jvm.Cond.methodLink "LectureTurnsModel" (165 : Nat) ({ cls := "LectureTurnsModel", name := "ofTurns", desc := "(I)I" } : Jvm.MethodName)) ∈ lw_all := lw_g (lw_at lw_m7 47 rfl) rfl
theorem q1553 : (Jvm.Cond.privateMethod ({ cls := "LectureTurnsModel", name := "ofTurns", desc := "(I)I" } : Jvm.MethodName)) ∈ lw_tbl := lw_at lw_m7 48 rfl
theorem q1554 : (Jvm.Cond.instanceMethod ({ cls := "LectureTurnsModel", name := "ofTurns", desc := "(I)I" } : Jvm.MethodName)) ∈ lw_all := lw_g (lw_at lw_m7 49 rfl) rfl
theorem q1555 : (Jvm.Cond.code ({ cls := "LectureTurnsModel", name := "ofTurns", desc := "(I)I" } : Jvm.MethodName) prog_12_method_59_code (4 : Nat) (Option.some Jvm.ClassFile.FieldType.int)) ∈ lw_all := lw_g (lw_at lw_m7 50 rfl) rfl
theorem q1556 : (Jvm.Cond.methodLink "LectureTurnsModel" (168 : Nat) ({ cls := "LectureTurnsModel", name := "corrections", desc := "()I" } : Jvm.MethodName)) ∈ lw_all := lw_g (lw_at lw_m7 51 rfl) rfl
theorem q1557 : (Jvm.Cond.privateMethod ({ cls := "LectureTurnsModel", name := "corrections", desc := "()I" } : Jvm.MethodName)) ∈ lw_tbl := lw_at lw_m7 52 rfl
theorem q1558 : (Jvm.Cond.instanceMethod ({ cls := "LectureTurnsModel", name := "corrections", desc := "()I" } : Jvm.MethodName)) ∈ lw_all := lw_g (lw_at lw_m7 53 rfl) rfl
theorem q1559 : (Jvm.Cond.code ({ cls := "LectureTurnsModel", name := "corrections", desc := "()I" } : Jvm.MethodName) prog_12_method_62_code (3 : Nat) (Option.some Jvm.ClassFile.FieldType.int)) ∈ lw_all := lw_g (lw_at lw_m7 54 rfl) rfl
theorem q1560 : (Jvm.Cond.methodLink "LectureTurnsModel" (171 : Nat) ({ cls := "LectureTurnsModel", name := "seconds", desc := "(I)I" } : Jvm.MethodName)) ∈ lw_all := lw_g (lw_at lw_m7 55 rfl) rfl
theorem q1561 : (Jvm.Cond.privateMethod ({ cls := "LectureTurnsModel", name := "seconds", desc := "(I)I" } : Jvm.MethodName)) ∈ lw_tbl := lw_at lw_m7 56 rfl
theorem q1562 : (Jvm.Cond.instanceMethod ({ cls := "LectureTurnsModel", name := "seconds", desc := "(I)I" } : Jvm.MethodName)) ∈ lw_all := lw_g (lw_at lw_m7 57 rfl) rfl
theorem q1563 : (Jvm.Cond.code ({ cls := "LectureTurnsModel", name := "seconds", desc := "(I)I" } : Jvm.MethodName) prog_12_method_60_code (4 : Nat) (Option.some Jvm.ClassFile.FieldType.int)) ∈ lw_all := lw_g (lw_at lw_m7 58 rfl) rfl
theorem q1565 : (Jvm.Cond.instanceMethod ({ cls := "LectureTurnsModel", name := "undo", desc := "()I" } : Jvm.MethodName)) ∈ lw_all := lw_g (lw_at lw_m7 60 rfl) rfl
theorem q1566 : (Jvm.Cond.selects "LectureTurnsModel" ({ cls := "LectureTurnsModel", name := "undo", desc := "()I" } : Jvm.MethodName) ({ cls := "LectureTurnsModel", name := "undo", desc := "()I" } : Jvm.MethodName)) ∈ lw_all := lw_g (lw_at lw_m7 61 rfl) rfl
theorem q1567 : (Jvm.Cond.code ({ cls := "LectureTurnsModel", name := "undo", desc := "()I" } : Jvm.MethodName) prog_12_method_64_code (2 : Nat) (Option.some Jvm.ClassFile.FieldType.int)) ∈ lw_all := lw_g (lw_at lw_m7 62 rfl) rfl
theorem q1569 : (Jvm.Cond.instanceMethod ({ cls := "LectureTurnsModel", name := "type", desc := "(I)I" } : Jvm.MethodName)) ∈ lw_all := lw_g (lw_at lw_m7 64 rfl) rfl
theorem q1570 : (Jvm.Cond.selects "LectureTurnsModel" ({ cls := "LectureTurnsModel", name := "type", desc := "(I)I" } : Jvm.MethodName) ({ cls := "LectureTurnsModel", name := "type", desc := "(I)I" } : Jvm.MethodName)) ∈ lw_all := lw_g (lw_at lw_m7 65 rfl) rfl
theorem q1571 : (Jvm.Cond.code ({ cls := "LectureTurnsModel", name := "type", desc := "(I)I" } : Jvm.MethodName) prog_12_method_65_code (2 : Nat) (Option.some Jvm.ClassFile.FieldType.int)) ∈ lw_all := lw_g (lw_at lw_m7 66 rfl) rfl
theorem q1573 : (Jvm.Cond.instanceMethod ({ cls := "LectureTurnsModel", name := "clearText", desc := "()I" } : Jvm.MethodName)) ∈ lw_all := lw_g (lw_at lw_m7 68 rfl) rfl
theorem q1574 : (Jvm.Cond.selects "LectureTurnsModel" ({ cls := "LectureTurnsModel", name := "clearText", desc := "()I" } : Jvm.MethodName) ({ cls := "LectureTurnsModel", name := "clearText", desc := "()I" } : Jvm.MethodName)) ∈ lw_all := lw_g (lw_at lw_m7 69 rfl) rfl
theorem q1575 : (Jvm.Cond.code ({ cls := "LectureTurnsModel", name := "clearText", desc := "()I" } : Jvm.MethodName) prog_12_method_66_code (2 : Nat) (Option.some Jvm.ClassFile.FieldType.int)) ∈ lw_all := lw_g (lw_at lw_m7 70 rfl) rfl
theorem q1577 : (Jvm.Cond.instanceMethod ({ cls := "LectureTurnsModel", name := "fault", desc := "(I)I" } : Jvm.MethodName)) ∈ lw_all := lw_g (lw_at lw_m7 72 rfl) rfl
theorem q1578 : (Jvm.Cond.selects "LectureTurnsModel" ({ cls := "LectureTurnsModel", name := "fault", desc := "(I)I" } : Jvm.MethodName) ({ cls := "LectureTurnsModel", name := "fault", desc := "(I)I" } : Jvm.MethodName)) ∈ lw_all := lw_g (lw_at lw_m7 73 rfl) rfl
theorem q1579 : (Jvm.Cond.code ({ cls := "LectureTurnsModel", name := "fault", desc := "(I)I" } : Jvm.MethodName) prog_12_method_74_code (3 : Nat) (Option.some Jvm.ClassFile.FieldType.int)) ∈ lw_all := lw_g (lw_at lw_m7 74 rfl) rfl
theorem q1580 : (Jvm.Cond.methodLink "LectureTurnsModel" (230 : Nat) ({ cls := "LectureTurnsModel", name := "copies", desc := "([I[I)V" } : Jvm.MethodName)) ∈ lw_all := lw_g (lw_at lw_m7 75 rfl) rfl
theorem q1581 : (Jvm.Cond.static ({ cls := "LectureTurnsModel", name := "copies", desc := "([I[I)V" } : Jvm.MethodName)) ∈ lw_all := lw_g (lw_at lw_m7 76 rfl) rfl
theorem q1582 : (Jvm.Cond.code ({ cls := "LectureTurnsModel", name := "copies", desc := "([I[I)V" } : Jvm.MethodName) prog_12_method_4_code (3 : Nat) (Option.none : Option Jvm.ClassFile.FieldType)) ∈ lw_all := lw_g (lw_at lw_m7 77 rfl) rfl
theorem q1583 : (Jvm.Cond.methodLink "LectureTurnsModel" (234 : Nat) ({ cls := "LectureTurnsModel", name := "plays", desc := "()Z" } : Jvm.MethodName)) ∈ lw_all := lw_g (lw_at lw_m7 78 rfl) rfl
theorem q1584 : (Jvm.Cond.privateMethod ({ cls := "LectureTurnsModel", name := "plays", desc := "()Z" } : Jvm.MethodName)) ∈ lw_tbl := lw_at lw_m7 79 rfl
theorem q1585 : (Jvm.Cond.instanceMethod ({ cls := "LectureTurnsModel", name := "plays", desc := "()Z" } : Jvm.MethodName)) ∈ lw_all := lw_g (lw_at lw_m7 80 rfl) rfl
theorem q1586 : (Jvm.Cond.code ({ cls := "LectureTurnsModel", name := "plays", desc := "()Z" } : Jvm.MethodName) prog_12_method_73_code (4 : Nat) (Option.some Jvm.ClassFile.FieldType.boolean)) ∈ lw_all := lw_g (lw_at lw_m7 81 rfl) rfl
theorem q1587 : (Jvm.Cond.methodLink "LectureTurnsModel" (217 : Nat) ({ cls := "LectureTurnsModel", name := "reads", desc := "()Z" } : Jvm.MethodName)) ∈ lw_all := lw_g (lw_at lw_m7 82 rfl) rfl
theorem q1588 : (Jvm.Cond.privateMethod ({ cls := "LectureTurnsModel", name := "reads", desc := "()Z" } : Jvm.MethodName)) ∈ lw_tbl := lw_at lw_m7 83 rfl
theorem q1589 : (Jvm.Cond.instanceMethod ({ cls := "LectureTurnsModel", name := "reads", desc := "()Z" } : Jvm.MethodName)) ∈ lw_all := lw_g (lw_at lw_m7 84 rfl) rfl
theorem q1590 : (Jvm.Cond.code ({ cls := "LectureTurnsModel", name := "reads", desc := "()Z" } : Jvm.MethodName) prog_12_method_71_code (4 : Nat) (Option.some Jvm.ClassFile.FieldType.boolean)) ∈ lw_all := lw_g (lw_at lw_m7 85 rfl) rfl
theorem q1591 : (Jvm.Cond.methodLink "LectureTurnsModel" (180 : Nat) ({ cls := "LectureTurnsModel", name := "isAt", desc := "(II)Z" } : Jvm.MethodName)) ∈ lw_all := lw_g (lw_at lw_m7 86 rfl) rfl
theorem q1592 : (Jvm.Cond.privateMethod ({ cls := "LectureTurnsModel", name := "isAt", desc := "(II)Z" } : Jvm.MethodName)) ∈ lw_tbl := lw_at lw_m7 87 rfl
theorem q1593 : (Jvm.Cond.instanceMethod ({ cls := "LectureTurnsModel", name := "isAt", desc := "(II)Z" } : Jvm.MethodName)) ∈ lw_all := lw_g (lw_at lw_m7 88 rfl) rfl
theorem q1594 : (Jvm.Cond.code ({ cls := "LectureTurnsModel", name := "isAt", desc := "(II)Z" } : Jvm.MethodName) prog_12_method_67_code (3 : Nat) (Option.some Jvm.ClassFile.FieldType.boolean)) ∈ lw_all := lw_g (lw_at lw_m7 89 rfl) rfl
theorem q1595 : (Jvm.Cond.methodLink "LectureTurnsModel" (186 : Nat) ({ cls := "LectureTurnsModel", name := "numbersOf", desc := "(I)I" } : Jvm.MethodName)) ∈ lw_all := lw_g (lw_at lw_m7 90 rfl) rfl
theorem q1596 : (Jvm.Cond.static ({ cls := "LectureTurnsModel", name := "numbersOf", desc := "(I)I" } : Jvm.MethodName)) ∈ lw_all := lw_g (lw_at lw_m7 91 rfl) rfl
theorem q1597 : (Jvm.Cond.code ({ cls := "LectureTurnsModel", name := "numbersOf", desc := "(I)I" } : Jvm.MethodName) prog_12_method_70_code (1 : Nat) (Option.some Jvm.ClassFile.FieldType.int)) ∈ lw_all := lw_g (lw_at lw_m7 92 rfl) rfl
theorem q1598 : (Jvm.Cond.methodLink "LectureTurnsModel" (189 : Nat) ({ cls := "LectureTurnsModel", name := "number", desc := "(I)Z" } : Jvm.MethodName)) ∈ lw_all := lw_g (lw_at lw_m7 93 rfl) rfl
theorem q1599 : (Jvm.Cond.privateMethod ({ cls := "LectureTurnsModel", name := "number", desc := "(I)Z" } : Jvm.MethodName)) ∈ lw_tbl := lw_at lw_m7 94 rfl
theorem q1600 : (Jvm.Cond.instanceMethod ({ cls := "LectureTurnsModel", name := "number", desc := "(I)Z" } : Jvm.MethodName)) ∈ lw_all := lw_g (lw_at lw_m7 95 rfl) rfl
theorem q1601 : (Jvm.Cond.code ({ cls := "LectureTurnsModel", name := "number", desc := "(I)Z" } : Jvm.MethodName) prog_12_method_69_code (3 : Nat) (Option.some Jvm.ClassFile.FieldType.boolean)) ∈ lw_all := lw_g (lw_at lw_m7 96 rfl) rfl
theorem q1602 : (Jvm.Cond.methodLink "LectureTurnsModel" (192 : Nat) ({ cls := "LectureTurnsModel", name := "sign", desc := "(I)Z" } : Jvm.MethodName)) ∈ lw_all := lw_g (lw_at lw_m7 97 rfl) rfl
theorem q1603 : (Jvm.Cond.privateMethod ({ cls := "LectureTurnsModel", name := "sign", desc := "(I)Z" } : Jvm.MethodName)) ∈ lw_tbl := lw_at lw_m7 98 rfl
theorem q1604 : (Jvm.Cond.instanceMethod ({ cls := "LectureTurnsModel", name := "sign", desc := "(I)Z" } : Jvm.MethodName)) ∈ lw_all := lw_g (lw_at lw_m7 99 rfl) rfl
theorem q1605 : (Jvm.Cond.code ({ cls := "LectureTurnsModel", name := "sign", desc := "(I)Z" } : Jvm.MethodName) prog_12_method_68_code (3 : Nat) (Option.some Jvm.ClassFile.FieldType.boolean)) ∈ lw_all := lw_g (lw_at lw_m7 100 rfl) rfl
theorem q1606 : (Jvm.Cond.methodLink "LectureTurnsModel" (221 : Nat) ({ cls := "LectureTurnsModel", name := "calls", desc := "()I" } : Jvm.MethodName)) ∈ lw_all := lw_g (lw_at lw_m7 101 rfl) rfl
theorem q1607 : (Jvm.Cond.privateMethod ({ cls := "LectureTurnsModel", name := "calls", desc := "()I" } : Jvm.MethodName)) ∈ lw_tbl := lw_at lw_m7 102 rfl
theorem q1608 : (Jvm.Cond.instanceMethod ({ cls := "LectureTurnsModel", name := "calls", desc := "()I" } : Jvm.MethodName)) ∈ lw_all := lw_g (lw_at lw_m7 103 rfl) rfl
theorem q1609 : (Jvm.Cond.code ({ cls := "LectureTurnsModel", name := "calls", desc := "()I" } : Jvm.MethodName) prog_12_method_72_code (1 : Nat) (Option.some Jvm.ClassFile.FieldType.int)) ∈ lw_all := lw_g (lw_at lw_m7 104 rfl) rfl
theorem q1610 : (Jvm.Cond.methodLink "LectureTurnsModel" (195 : Nat) ({ cls := "LectureTurnsModel", name := "turn", desc := "(III)I" } : Jvm.MethodName)) ∈ lw_all := lw_g (lw_at lw_m7 105 rfl) rfl
theorem q1611 : (Jvm.Cond.methodLink "LectureTurnsModel" (199 : Nat) ({ cls := "LectureTurnsModel", name := "say", desc := "(II)I" } : Jvm.MethodName)) ∈ lw_all := lw_g (lw_at lw_m7 106 rfl) rfl
theorem q1612 : (Jvm.Cond.methodLink "LectureTurnsModel" (202 : Nat) ({ cls := "LectureTurnsModel", name := "correct", desc := "(II)I" } : Jvm.MethodName)) ∈ lw_all := lw_g (lw_at lw_m7 107 rfl) rfl
theorem q1613 : (Jvm.Cond.methodLink "LectureTurnsModel" (205 : Nat) ({ cls := "LectureTurnsModel", name := "speaker", desc := "(I)I" } : Jvm.MethodName)) ∈ lw_all := lw_g (lw_at lw_m7 108 rfl) rfl
theorem q1614 : (Jvm.Cond.methodLink "LectureTurnsModel" (208 : Nat) ({ cls := "LectureTurnsModel", name := "give", desc := "(II)I" } : Jvm.MethodName)) ∈ lw_all := lw_g (lw_at lw_m7 109 rfl) rfl
theorem q1616 : (Jvm.Cond.instanceMethod ({ cls := "LectureTurnsModel", name := "play", desc := "()I" } : Jvm.MethodName)) ∈ lw_all := lw_g (lw_at lw_m7 111 rfl) rfl
theorem q1617 : (Jvm.Cond.selects "LectureTurnsModel" ({ cls := "LectureTurnsModel", name := "play", desc := "()I" } : Jvm.MethodName) ({ cls := "LectureTurnsModel", name := "play", desc := "()I" } : Jvm.MethodName)) ∈ lw_all := lw_g (lw_at lw_m7 112 rfl) rfl
theorem q1618 : (Jvm.Cond.code ({ cls := "LectureTurnsModel", name := "play", desc := "()I" } : Jvm.MethodName) prog_12_method_75_code (2 : Nat) (Option.some Jvm.ClassFile.FieldType.int)) ∈ lw_all := lw_g (lw_at lw_m7 113 rfl) rfl
theorem q1635 : (Jvm.Cond.castable "LectureTurnsModel" "java/lang/Object") ∈ lw_tbl := lw_at lw_m7 130 rfl
theorem in_X3 : ∀ w ∈ wsX30, w ∈ lw_all := lw_in wsX30 [1289, 1291, 1293, 1295, 1297, 1299, 1301, 1303, 1305, 1307, 1309, 1311, 1313, 1315, 1317, 1319] (by decide +kernel) (by decide +kernel)
