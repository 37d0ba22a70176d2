/-! LectureTurns -/
set_option maxRecDepth 100000
def RX0 : String := "LectureTurns"
def TX0 : u_T := fun k => match k with
  | 0 => ("LectureTurns", "lecture", "LLectureTurns$Lecture;", false)
  | 1 => ("LectureTurns", "history", "Ljava/util/ArrayDeque;", true)
  | _ => ("LectureTurns", "text", "Ljava/lang/StringBuilder;", true)
def tyX0 : Nat → FieldType := fun k => match k with
  | 0 => .object "LectureTurns$Lecture"
  | 1 => .object "java/util/ArrayDeque"
  | _ => .object "java/lang/StringBuilder"
abbrev wsX00 : List Cond := u_ws RX0 TX0 3
theorem nmX0 : ∀ a, a < 3 → ∀ b, b < 3 → a ≠ b → (TX0 a).2.1 ≠ (TX0 b).2.1 := by decide +kernel
theorem tyX0_ok : ∀ k, k < 3 → parseFieldDescriptor (TX0 k).2.2.1 = some (tyX0 k) := by decide +kernel
abbrev cX0_init : ByteArray := prog_1_method_5_code
def yX0_init : MethodName := ⟨RX0, "<init>", "()V"⟩
def dkwX0_init_1 : List UInt8 := [181, 0, 34, 42, 187, 0, 38, 89, 183, 0, 40, 181, 0, 41, 177]
abbrev dktX0_init_1 : List UInt8 := dkwX0_init_1 ++ []
def dkwX0_init_0 : List UInt8 := [42, 183, 0, 19, 42, 187, 0, 24, 89, 183, 0, 26, 181, 0, 27, 42, 187, 0, 31, 89, 183, 0, 33]
abbrev dktX0_init_0 : List UInt8 := dkwX0_init_0 ++ dktX0_init_1
theorem dksX0_init_0 : cX0_init.data.toList.drop 0 = dktX0_init_0 := by decide +kernel
theorem dksX0_init_1 : cX0_init.data.toList.drop 23 = dktX0_init_1 := dk_seg dksX0_init_0 23 rfl rfl
theorem dX0_init_0 : decode cX0_init 0 = .ok (.aload_n 0, 1) := dk_42 (dk_at dksX0_init_0 0 rfl rfl)
theorem dX0_init_1 : decode cX0_init 1 = .ok (.invokespecial 19, 3) := dk_183 0 19 (dk_at dksX0_init_0 1 rfl rfl)
theorem dX0_init_4 : decode cX0_init 4 = .ok (.aload_n 0, 1) := dk_42 (dk_at dksX0_init_0 4 rfl rfl)
theorem dX0_init_5 : decode cX0_init 5 = .ok (.new 24, 3) := dk_187 0 24 (dk_at dksX0_init_0 5 rfl rfl)
theorem dX0_init_8 : decode cX0_init 8 = .ok (.dup, 1) := dk_89 (dk_at dksX0_init_0 8 rfl rfl)
theorem dX0_init_9 : decode cX0_init 9 = .ok (.invokespecial 26, 3) := dk_183 0 26 (dk_at dksX0_init_0 9 rfl rfl)
theorem dX0_init_12 : decode cX0_init 12 = .ok (.putfield 27, 3) := dk_181 0 27 (dk_at dksX0_init_0 12 rfl rfl)
theorem dX0_init_15 : decode cX0_init 15 = .ok (.aload_n 0, 1) := dk_42 (dk_at dksX0_init_0 15 rfl rfl)
theorem dX0_init_16 : decode cX0_init 16 = .ok (.new 31, 3) := dk_187 0 31 (dk_at dksX0_init_0 16 rfl rfl)
theorem dX0_init_19 : decode cX0_init 19 = .ok (.dup, 1) := dk_89 (dk_at dksX0_init_0 19 rfl rfl)
theorem dX0_init_20 : decode cX0_init 20 = .ok (.invokespecial 33, 3) := dk_183 0 33 (dk_at dksX0_init_0 20 rfl rfl)
theorem dX0_init_23 : decode cX0_init 23 = .ok (.putfield 34, 3) := dk_181 0 34 (dk_at dksX0_init_1 0 rfl rfl)
theorem dX0_init_26 : decode cX0_init 26 = .ok (.aload_n 0, 1) := dk_42 (dk_at dksX0_init_1 3 rfl rfl)
theorem dX0_init_27 : decode cX0_init 27 = .ok (.new 38, 3) := dk_187 0 38 (dk_at dksX0_init_1 4 rfl rfl)
theorem dX0_init_30 : decode cX0_init 30 = .ok (.dup, 1) := dk_89 (dk_at dksX0_init_1 7 rfl rfl)
theorem dX0_init_31 : decode cX0_init 31 = .ok (.invokespecial 40, 3) := dk_183 0 40 (dk_at dksX0_init_1 8 rfl rfl)
theorem dX0_init_34 : decode cX0_init 34 = .ok (.putfield 41, 3) := dk_181 0 41 (dk_at dksX0_init_1 11 rfl rfl)
theorem dX0_init_37 : decode cX0_init 37 = .ok (.return_, 1) := dk_177 (dk_at dksX0_init_1 14 rfl rfl)
abbrev cX0_turn : ByteArray := prog_1_method_9_code
def yX0_turn : MethodName := ⟨RX0, "turn", "(III)I"⟩
def dkwX0_turn_0 : List UInt8 := [42, 16, 116, 6, 188, 10, 89, 3, 27, 79, 89, 4, 28, 79, 89, 5, 29, 79, 182, 0, 105, 172]
abbrev dktX0_turn_0 : List UInt8 := dkwX0_turn_0 ++ []
theorem dksX0_turn_0 : cX0_turn.data.toList.drop 0 = dktX0_turn_0 := by decide +kernel
theorem dX0_turn_0 : decode cX0_turn 0 = .ok (.aload_n 0, 1) := dk_42 (dk_at dksX0_turn_0 0 rfl rfl)
theorem dX0_turn_1 : decode cX0_turn 1 = .ok (.bipush 116, 2) := dk_16 116 (dk_at dksX0_turn_0 1 rfl rfl)
theorem dX0_turn_3 : decode cX0_turn 3 = .ok (.iconst 3, 1) := dk_6 (dk_at dksX0_turn_0 3 rfl rfl)
theorem dX0_turn_4 : decode cX0_turn 4 = .ok (.newarray .int, 2) := dk_188_10 (dk_at dksX0_turn_0 4 rfl rfl)
theorem dX0_turn_6 : decode cX0_turn 6 = .ok (.dup, 1) := dk_89 (dk_at dksX0_turn_0 6 rfl rfl)
theorem dX0_turn_7 : decode cX0_turn 7 = .ok (.iconst 0, 1) := dk_3 (dk_at dksX0_turn_0 7 rfl rfl)
theorem dX0_turn_8 : decode cX0_turn 8 = .ok (.iload_n 1, 1) := dk_27 (dk_at dksX0_turn_0 8 rfl rfl)
theorem dX0_turn_9 : decode cX0_turn 9 = .ok (.iastore, 1) := dk_79 (dk_at dksX0_turn_0 9 rfl rfl)
theorem dX0_turn_10 : decode cX0_turn 10 = .ok (.dup, 1) := dk_89 (dk_at dksX0_turn_0 10 rfl rfl)
theorem dX0_turn_11 : decode cX0_turn 11 = .ok (.iconst 1, 1) := dk_4 (dk_at dksX0_turn_0 11 rfl rfl)
theorem dX0_turn_12 : decode cX0_turn 12 = .ok (.iload_n 2, 1) := dk_28 (dk_at dksX0_turn_0 12 rfl rfl)
theorem dX0_turn_13 : decode cX0_turn 13 = .ok (.iastore, 1) := dk_79 (dk_at dksX0_turn_0 13 rfl rfl)
theorem dX0_turn_14 : decode cX0_turn 14 = .ok (.dup, 1) := dk_89 (dk_at dksX0_turn_0 14 rfl rfl)
theorem dX0_turn_15 : decode cX0_turn 15 = .ok (.iconst 2, 1) := dk_5 (dk_at dksX0_turn_0 15 rfl rfl)
theorem dX0_turn_16 : decode cX0_turn 16 = .ok (.iload_n 3, 1) := dk_29 (dk_at dksX0_turn_0 16 rfl rfl)
theorem dX0_turn_17 : decode cX0_turn 17 = .ok (.iastore, 1) := dk_79 (dk_at dksX0_turn_0 17 rfl rfl)
theorem dX0_turn_18 : decode cX0_turn 18 = .ok (.invokevirtual 105, 3) := dk_182 0 105 (dk_at dksX0_turn_0 18 rfl rfl)
theorem dX0_turn_21 : decode cX0_turn 21 = .ok (.ireturn, 1) := dk_172 (dk_at dksX0_turn_0 21 rfl rfl)
abbrev cX0_act : ByteArray := prog_1_method_8_code
def yX0_act : MethodName := ⟨RX0, "act", "(C[I)I"⟩
def dkwX0_act_1 : List UInt8 := [58, 4, 25, 4, 180, 0, 101, 172]
abbrev dktX0_act_1 : List UInt8 := dkwX0_act_1 ++ []
def dkwX0_act_0 : List UInt8 := [187, 0, 24, 89, 42, 180, 0, 27, 183, 0, 90, 78, 42, 45, 45, 27, 44, 184, 0, 93, 182, 0, 97, 172]
abbrev dktX0_act_0 : List UInt8 := dkwX0_act_0 ++ dktX0_act_1
theorem dksX0_act_0 : cX0_act.data.toList.drop 0 = dktX0_act_0 := by decide +kernel
theorem dksX0_act_1 : cX0_act.data.toList.drop 24 = dktX0_act_1 := dk_seg dksX0_act_0 24 rfl rfl
theorem dX0_act_0 : decode cX0_act 0 = .ok (.new 24, 3) := dk_187 0 24 (dk_at dksX0_act_0 0 rfl rfl)
theorem dX0_act_3 : decode cX0_act 3 = .ok (.dup, 1) := dk_89 (dk_at dksX0_act_0 3 rfl rfl)
theorem dX0_act_4 : decode cX0_act 4 = .ok (.aload_n 0, 1) := dk_42 (dk_at dksX0_act_0 4 rfl rfl)
theorem dX0_act_5 : decode cX0_act 5 = .ok (.getfield 27, 3) := dk_180 0 27 (dk_at dksX0_act_0 5 rfl rfl)
theorem dX0_act_8 : decode cX0_act 8 = .ok (.invokespecial 90, 3) := dk_183 0 90 (dk_at dksX0_act_0 8 rfl rfl)
theorem dX0_act_11 : decode cX0_act 11 = .ok (.astore_n 3, 1) := dk_78 (dk_at dksX0_act_0 11 rfl rfl)
theorem dX0_act_12 : decode cX0_act 12 = .ok (.aload_n 0, 1) := dk_42 (dk_at dksX0_act_0 12 rfl rfl)
theorem dX0_act_13 : decode cX0_act 13 = .ok (.aload_n 3, 1) := dk_45 (dk_at dksX0_act_0 13 rfl rfl)
theorem dX0_act_14 : decode cX0_act 14 = .ok (.aload_n 3, 1) := dk_45 (dk_at dksX0_act_0 14 rfl rfl)
theorem dX0_act_15 : decode cX0_act 15 = .ok (.iload_n 1, 1) := dk_27 (dk_at dksX0_act_0 15 rfl rfl)
theorem dX0_act_16 : decode cX0_act 16 = .ok (.aload_n 2, 1) := dk_44 (dk_at dksX0_act_0 16 rfl rfl)
theorem dX0_act_17 : decode cX0_act 17 = .ok (.invokestatic 93, 3) := dk_184 0 93 (dk_at dksX0_act_0 17 rfl rfl)
theorem dX0_act_20 : decode cX0_act 20 = .ok (.invokevirtual 97, 3) := dk_182 0 97 (dk_at dksX0_act_0 20 rfl rfl)
theorem dX0_act_23 : decode cX0_act 23 = .ok (.ireturn, 1) := dk_172 (dk_at dksX0_act_0 23 rfl rfl)
theorem dX0_act_24 : decode cX0_act 24 = .ok (.astore 4, 2) := dk_58 4 (dk_at dksX0_act_1 0 rfl rfl)
theorem dX0_act_26 : decode cX0_act 26 = .ok (.aload 4, 2) := dk_25 4 (dk_at dksX0_act_1 2 rfl rfl)
theorem dX0_act_28 : decode cX0_act 28 = .ok (.getfield 101, 3) := dk_180 0 101 (dk_at dksX0_act_1 4 rfl rfl)
theorem dX0_act_31 : decode cX0_act 31 = .ok (.ireturn, 1) := dk_172 (dk_at dksX0_act_1 7 rfl rfl)
abbrev cX0_done : ByteArray := prog_1_method_7_code
def yX0_done : MethodName := ⟨RX0, "done", "(LLectureTurns$Lecture;C[I)I"⟩
def dkwX0_done_6 : List UInt8 := [182, 0, 84, 172, 42, 44, 3, 46, 182, 0, 87, 172]
abbrev dktX0_done_6 : List UInt8 := dkwX0_done_6 ++ []
def dkwX0_done_5 : List UInt8 := [182, 0, 78, 172, 42, 44, 3, 46, 44, 4, 46, 182, 0, 81, 172, 42, 44, 3, 46, 44, 4, 46]
abbrev dktX0_done_5 : List UInt8 := dkwX0_done_5 ++ dktX0_done_6
def dkwX0_done_4 : List UInt8 := [44, 3, 46, 44, 4, 46, 182, 0, 72, 172, 42, 44, 3, 46, 182, 0, 75, 172, 42, 44, 3, 46]
abbrev dktX0_done_4 : List UInt8 := dkwX0_done_4 ++ dktX0_done_5
def dkwX0_done_3 : List UInt8 := [172, 42, 44, 3, 46, 44, 4, 46, 44, 5, 46, 182, 0, 65, 172, 42, 44, 3, 46, 182, 0, 68, 172, 42]
abbrev dktX0_done_3 : List UInt8 := dkwX0_done_3 ++ dktX0_done_4
def dkwX0_done_2 : List UInt8 := [42, 44, 3, 46, 44, 4, 46, 44, 5, 46, 182, 0, 57, 172, 42, 44, 3, 46, 44, 4, 46, 182, 0, 61]
abbrev dktX0_done_2 : List UInt8 := dkwX0_done_2 ++ dktX0_done_3
def dkwX0_done_1 : List UInt8 := [170, 0, 0, 0, 0, 0, 195, 0, 0, 0, 99, 0, 0, 0, 119, 0, 0, 0, 146, 0, 0, 0, 195, 0, 0, 0, 195, 0, 0, 0, 195, 0, 0, 0, 173, 0, 0, 0, 195, 0, 0, 0, 195, 0, 0, 0, 184, 0, 0, 0, 195, 0, 0, 0, 195, 0, 0, 0, 195, 0, 0, 0, 195, 0, 0, 0, 195, 0, 0, 0, 124, 0, 0, 0, 195, 0, 0, 0, 138, 0, 0, 0, 165, 0, 0, 0, 99, 0, 0, 0, 157, 0, 0, 0, 195, 0, 0, 0, 113]
abbrev dktX0_done_1 : List UInt8 := dkwX0_done_1 ++ dktX0_done_2
def dkwX0_done_0 : List UInt8 := [27]
abbrev dktX0_done_0 : List UInt8 := dkwX0_done_0 ++ dktX0_done_1
theorem dksX0_done_0 : cX0_done.data.toList.drop 0 = dktX0_done_0 := by decide +kernel
theorem dksX0_done_1 : cX0_done.data.toList.drop 1 = dktX0_done_1 := dk_seg dksX0_done_0 1 rfl rfl
theorem dksX0_done_2 : cX0_done.data.toList.drop 100 = dktX0_done_2 := dk_seg dksX0_done_1 99 rfl rfl
theorem dksX0_done_3 : cX0_done.data.toList.drop 124 = dktX0_done_3 := dk_seg dksX0_done_2 24 rfl rfl
theorem dksX0_done_4 : cX0_done.data.toList.drop 148 = dktX0_done_4 := dk_seg dksX0_done_3 24 rfl rfl
theorem dksX0_done_5 : cX0_done.data.toList.drop 170 = dktX0_done_5 := dk_seg dksX0_done_4 22 rfl rfl
theorem dksX0_done_6 : cX0_done.data.toList.drop 192 = dktX0_done_6 := dk_seg dksX0_done_5 22 rfl rfl
theorem dX0_done_0 : decode cX0_done 0 = .ok (.iload_n 1, 1) := dk_27 (dk_at dksX0_done_0 0 rfl rfl)
theorem dX0_done_1 : decode cX0_done 1 = .ok (.tableswitch 195 99 119 #[146, 195, 195, 195, 173, 195, 195, 184, 195, 195, 195, 195, 195, 124, 195, 138, 165, 99, 157, 195, 113], 99) := by decide +kernel
theorem dX0_done_100 : decode cX0_done 100 = .ok (.aload_n 0, 1) := dk_42 (dk_at dksX0_done_2 0 rfl rfl)
theorem dX0_done_101 : decode cX0_done 101 = .ok (.aload_n 2, 1) := dk_44 (dk_at dksX0_done_2 1 rfl rfl)
theorem dX0_done_102 : decode cX0_done 102 = .ok (.iconst 0, 1) := dk_3 (dk_at dksX0_done_2 2 rfl rfl)
theorem dX0_done_103 : decode cX0_done 103 = .ok (.iaload, 1) := dk_46 (dk_at dksX0_done_2 3 rfl rfl)
theorem dX0_done_104 : decode cX0_done 104 = .ok (.aload_n 2, 1) := dk_44 (dk_at dksX0_done_2 4 rfl rfl)
theorem dX0_done_105 : decode cX0_done 105 = .ok (.iconst 1, 1) := dk_4 (dk_at dksX0_done_2 5 rfl rfl)
theorem dX0_done_106 : decode cX0_done 106 = .ok (.iaload, 1) := dk_46 (dk_at dksX0_done_2 6 rfl rfl)
theorem dX0_done_107 : decode cX0_done 107 = .ok (.aload_n 2, 1) := dk_44 (dk_at dksX0_done_2 7 rfl rfl)
theorem dX0_done_108 : decode cX0_done 108 = .ok (.iconst 2, 1) := dk_5 (dk_at dksX0_done_2 8 rfl rfl)
theorem dX0_done_109 : decode cX0_done 109 = .ok (.iaload, 1) := dk_46 (dk_at dksX0_done_2 9 rfl rfl)
theorem dX0_done_110 : decode cX0_done 110 = .ok (.invokevirtual 57, 3) := dk_182 0 57 (dk_at dksX0_done_2 10 rfl rfl)
theorem dX0_done_113 : decode cX0_done 113 = .ok (.ireturn, 1) := dk_172 (dk_at dksX0_done_2 13 rfl rfl)
theorem dX0_done_114 : decode cX0_done 114 = .ok (.aload_n 0, 1) := dk_42 (dk_at dksX0_done_2 14 rfl rfl)
theorem dX0_done_115 : decode cX0_done 115 = .ok (.aload_n 2, 1) := dk_44 (dk_at dksX0_done_2 15 rfl rfl)
theorem dX0_done_116 : decode cX0_done 116 = .ok (.iconst 0, 1) := dk_3 (dk_at dksX0_done_2 16 rfl rfl)
theorem dX0_done_117 : decode cX0_done 117 = .ok (.iaload, 1) := dk_46 (dk_at dksX0_done_2 17 rfl rfl)
theorem dX0_done_118 : decode cX0_done 118 = .ok (.aload_n 2, 1) := dk_44 (dk_at dksX0_done_2 18 rfl rfl)
theorem dX0_done_119 : decode cX0_done 119 = .ok (.iconst 1, 1) := dk_4 (dk_at dksX0_done_2 19 rfl rfl)
theorem dX0_done_120 : decode cX0_done 120 = .ok (.iaload, 1) := dk_46 (dk_at dksX0_done_2 20 rfl rfl)
theorem dX0_done_121 : decode cX0_done 121 = .ok (.invokevirtual 61, 3) := dk_182 0 61 (dk_at dksX0_done_2 21 rfl rfl)
theorem dX0_done_124 : decode cX0_done 124 = .ok (.ireturn, 1) := dk_172 (dk_at dksX0_done_3 0 rfl rfl)
theorem dX0_done_125 : decode cX0_done 125 = .ok (.aload_n 0, 1) := dk_42 (dk_at dksX0_done_3 1 rfl rfl)
theorem dX0_done_126 : decode cX0_done 126 = .ok (.aload_n 2, 1) := dk_44 (dk_at dksX0_done_3 2 rfl rfl)
theorem dX0_done_127 : decode cX0_done 127 = .ok (.iconst 0, 1) := dk_3 (dk_at dksX0_done_3 3 rfl rfl)
theorem dX0_done_128 : decode cX0_done 128 = .ok (.iaload, 1) := dk_46 (dk_at dksX0_done_3 4 rfl rfl)
theorem dX0_done_129 : decode cX0_done 129 = .ok (.aload_n 2, 1) := dk_44 (dk_at dksX0_done_3 5 rfl rfl)
theorem dX0_done_130 : decode cX0_done 130 = .ok (.iconst 1, 1) := dk_4 (dk_at dksX0_done_3 6 rfl rfl)
theorem dX0_done_131 : decode cX0_done 131 = .ok (.iaload, 1) := dk_46 (dk_at dksX0_done_3 7 rfl rfl)
theorem dX0_done_132 : decode cX0_done 132 = .ok (.aload_n 2, 1) := dk_44 (dk_at dksX0_done_3 8 rfl rfl)
theorem dX0_done_133 : decode cX0_done 133 = .ok (.iconst 2, 1) := dk_5 (dk_at dksX0_done_3 9 rfl rfl)
theorem dX0_done_134 : decode cX0_done 134 = .ok (.iaload, 1) := dk_46 (dk_at dksX0_done_3 10 rfl rfl)
theorem dX0_done_135 : decode cX0_done 135 = .ok (.invokevirtual 65, 3) := dk_182 0 65 (dk_at dksX0_done_3 11 rfl rfl)
theorem dX0_done_138 : decode cX0_done 138 = .ok (.ireturn, 1) := dk_172 (dk_at dksX0_done_3 14 rfl rfl)
theorem dX0_done_139 : decode cX0_done 139 = .ok (.aload_n 0, 1) := dk_42 (dk_at dksX0_done_3 15 rfl rfl)
theorem dX0_done_140 : decode cX0_done 140 = .ok (.aload_n 2, 1) := dk_44 (dk_at dksX0_done_3 16 rfl rfl)
theorem dX0_done_141 : decode cX0_done 141 = .ok (.iconst 0, 1) := dk_3 (dk_at dksX0_done_3 17 rfl rfl)
theorem dX0_done_142 : decode cX0_done 142 = .ok (.iaload, 1) := dk_46 (dk_at dksX0_done_3 18 rfl rfl)
theorem dX0_done_143 : decode cX0_done 143 = .ok (.invokevirtual 68, 3) := dk_182 0 68 (dk_at dksX0_done_3 19 rfl rfl)
theorem dX0_done_146 : decode cX0_done 146 = .ok (.ireturn, 1) := dk_172 (dk_at dksX0_done_3 22 rfl rfl)
theorem dX0_done_147 : decode cX0_done 147 = .ok (.aload_n 0, 1) := dk_42 (dk_at dksX0_done_3 23 rfl rfl)
theorem dX0_done_148 : decode cX0_done 148 = .ok (.aload_n 2, 1) := dk_44 (dk_at dksX0_done_4 0 rfl rfl)
theorem dX0_done_149 : decode cX0_done 149 = .ok (.iconst 0, 1) := dk_3 (dk_at dksX0_done_4 1 rfl rfl)
theorem dX0_done_150 : decode cX0_done 150 = .ok (.iaload, 1) := dk_46 (dk_at dksX0_done_4 2 rfl rfl)
theorem dX0_done_151 : decode cX0_done 151 = .ok (.aload_n 2, 1) := dk_44 (dk_at dksX0_done_4 3 rfl rfl)
theorem dX0_done_152 : decode cX0_done 152 = .ok (.iconst 1, 1) := dk_4 (dk_at dksX0_done_4 4 rfl rfl)
theorem dX0_done_153 : decode cX0_done 153 = .ok (.iaload, 1) := dk_46 (dk_at dksX0_done_4 5 rfl rfl)
theorem dX0_done_154 : decode cX0_done 154 = .ok (.invokevirtual 72, 3) := dk_182 0 72 (dk_at dksX0_done_4 6 rfl rfl)
theorem dX0_done_157 : decode cX0_done 157 = .ok (.ireturn, 1) := dk_172 (dk_at dksX0_done_4 9 rfl rfl)
theorem dX0_done_158 : decode cX0_done 158 = .ok (.aload_n 0, 1) := dk_42 (dk_at dksX0_done_4 10 rfl rfl)
theorem dX0_done_159 : decode cX0_done 159 = .ok (.aload_n 2, 1) := dk_44 (dk_at dksX0_done_4 11 rfl rfl)
theorem dX0_done_160 : decode cX0_done 160 = .ok (.iconst 0, 1) := dk_3 (dk_at dksX0_done_4 12 rfl rfl)
theorem dX0_done_161 : decode cX0_done 161 = .ok (.iaload, 1) := dk_46 (dk_at dksX0_done_4 13 rfl rfl)
theorem dX0_done_162 : decode cX0_done 162 = .ok (.invokevirtual 75, 3) := dk_182 0 75 (dk_at dksX0_done_4 14 rfl rfl)
theorem dX0_done_165 : decode cX0_done 165 = .ok (.ireturn, 1) := dk_172 (dk_at dksX0_done_4 17 rfl rfl)
theorem dX0_done_166 : decode cX0_done 166 = .ok (.aload_n 0, 1) := dk_42 (dk_at dksX0_done_4 18 rfl rfl)
theorem dX0_done_167 : decode cX0_done 167 = .ok (.aload_n 2, 1) := dk_44 (dk_at dksX0_done_4 19 rfl rfl)
theorem dX0_done_168 : decode cX0_done 168 = .ok (.iconst 0, 1) := dk_3 (dk_at dksX0_done_4 20 rfl rfl)
theorem dX0_done_169 : decode cX0_done 169 = .ok (.iaload, 1) := dk_46 (dk_at dksX0_done_4 21 rfl rfl)
theorem dX0_done_170 : decode cX0_done 170 = .ok (.invokevirtual 78, 3) := dk_182 0 78 (dk_at dksX0_done_5 0 rfl rfl)
theorem dX0_done_173 : decode cX0_done 173 = .ok (.ireturn, 1) := dk_172 (dk_at dksX0_done_5 3 rfl rfl)
theorem dX0_done_174 : decode cX0_done 174 = .ok (.aload_n 0, 1) := dk_42 (dk_at dksX0_done_5 4 rfl rfl)
theorem dX0_done_175 : decode cX0_done 175 = .ok (.aload_n 2, 1) := dk_44 (dk_at dksX0_done_5 5 rfl rfl)
theorem dX0_done_176 : decode cX0_done 176 = .ok (.iconst 0, 1) := dk_3 (dk_at dksX0_done_5 6 rfl rfl)
theorem dX0_done_177 : decode cX0_done 177 = .ok (.iaload, 1) := dk_46 (dk_at dksX0_done_5 7 rfl rfl)
theorem dX0_done_178 : decode cX0_done 178 = .ok (.aload_n 2, 1) := dk_44 (dk_at dksX0_done_5 8 rfl rfl)
theorem dX0_done_179 : decode cX0_done 179 = .ok (.iconst 1, 1) := dk_4 (dk_at dksX0_done_5 9 rfl rfl)
theorem dX0_done_180 : decode cX0_done 180 = .ok (.iaload, 1) := dk_46 (dk_at dksX0_done_5 10 rfl rfl)
theorem dX0_done_181 : decode cX0_done 181 = .ok (.invokevirtual 81, 3) := dk_182 0 81 (dk_at dksX0_done_5 11 rfl rfl)
theorem dX0_done_184 : decode cX0_done 184 = .ok (.ireturn, 1) := dk_172 (dk_at dksX0_done_5 14 rfl rfl)
theorem dX0_done_185 : decode cX0_done 185 = .ok (.aload_n 0, 1) := dk_42 (dk_at dksX0_done_5 15 rfl rfl)
theorem dX0_done_186 : decode cX0_done 186 = .ok (.aload_n 2, 1) := dk_44 (dk_at dksX0_done_5 16 rfl rfl)
theorem dX0_done_187 : decode cX0_done 187 = .ok (.iconst 0, 1) := dk_3 (dk_at dksX0_done_5 17 rfl rfl)
theorem dX0_done_188 : decode cX0_done 188 = .ok (.iaload, 1) := dk_46 (dk_at dksX0_done_5 18 rfl rfl)
theorem dX0_done_189 : decode cX0_done 189 = .ok (.aload_n 2, 1) := dk_44 (dk_at dksX0_done_5 19 rfl rfl)
theorem dX0_done_190 : decode cX0_done 190 = .ok (.iconst 1, 1) := dk_4 (dk_at dksX0_done_5 20 rfl rfl)
theorem dX0_done_191 : decode cX0_done 191 = .ok (.iaload, 1) := dk_46 (dk_at dksX0_done_5 21 rfl rfl)
theorem dX0_done_192 : decode cX0_done 192 = .ok (.invokevirtual 84, 3) := dk_182 0 84 (dk_at dksX0_done_6 0 rfl rfl)
theorem dX0_done_195 : decode cX0_done 195 = .ok (.ireturn, 1) := dk_172 (dk_at dksX0_done_6 3 rfl rfl)
theorem dX0_done_196 : decode cX0_done 196 = .ok (.aload_n 0, 1) := dk_42 (dk_at dksX0_done_6 4 rfl rfl)
theorem dX0_done_197 : decode cX0_done 197 = .ok (.aload_n 2, 1) := dk_44 (dk_at dksX0_done_6 5 rfl rfl)
theorem dX0_done_198 : decode cX0_done 198 = .ok (.iconst 0, 1) := dk_3 (dk_at dksX0_done_6 6 rfl rfl)
theorem dX0_done_199 : decode cX0_done 199 = .ok (.iaload, 1) := dk_46 (dk_at dksX0_done_6 7 rfl rfl)
theorem dX0_done_200 : decode cX0_done 200 = .ok (.invokevirtual 87, 3) := dk_182 0 87 (dk_at dksX0_done_6 8 rfl rfl)
theorem dX0_done_203 : decode cX0_done 203 = .ok (.ireturn, 1) := dk_172 (dk_at dksX0_done_6 11 rfl rfl)
abbrev cX0_isBetween : ByteArray := prog_1_method_1_code
def yX0_isBetween : MethodName := ⟨RX0, "isBetween", "(JJJ)Z"⟩
def dkwX0_isBetween_0 : List UInt8 := [30, 32, 148, 155, 0, 14, 30, 22, 4, 148, 157, 0, 7, 4, 167, 0, 4, 3, 172]
abbrev dktX0_isBetween_0 : List UInt8 := dkwX0_isBetween_0 ++ []
theorem dksX0_isBetween_0 : cX0_isBetween.data.toList.drop 0 = dktX0_isBetween_0 := by decide +kernel
theorem dX0_isBetween_0 : decode cX0_isBetween 0 = .ok (.lload_n 0, 1) := dk_30 (dk_at dksX0_isBetween_0 0 rfl rfl)
theorem dX0_isBetween_1 : decode cX0_isBetween 1 = .ok (.lload_n 2, 1) := dk_32 (dk_at dksX0_isBetween_0 1 rfl rfl)
theorem dX0_isBetween_2 : decode cX0_isBetween 2 = .ok (.lcmp, 1) := dk_148 (dk_at dksX0_isBetween_0 2 rfl rfl)
theorem dX0_isBetween_3 : decode cX0_isBetween 3 = .ok (.ifCond .lt 14, 3) := dk_155 0 14 (dk_at dksX0_isBetween_0 3 rfl rfl)
theorem dX0_isBetween_6 : decode cX0_isBetween 6 = .ok (.lload_n 0, 1) := dk_30 (dk_at dksX0_isBetween_0 6 rfl rfl)
theorem dX0_isBetween_7 : decode cX0_isBetween 7 = .ok (.lload 4, 2) := dk_22 4 (dk_at dksX0_isBetween_0 7 rfl rfl)
theorem dX0_isBetween_9 : decode cX0_isBetween 9 = .ok (.lcmp, 1) := dk_148 (dk_at dksX0_isBetween_0 9 rfl rfl)
theorem dX0_isBetween_10 : decode cX0_isBetween 10 = .ok (.ifCond .gt 7, 3) := dk_157 0 7 (dk_at dksX0_isBetween_0 10 rfl rfl)
theorem dX0_isBetween_13 : decode cX0_isBetween 13 = .ok (.iconst 1, 1) := dk_4 (dk_at dksX0_isBetween_0 13 rfl rfl)
theorem dX0_isBetween_14 : decode cX0_isBetween 14 = .ok (.goto 4, 3) := dk_167 0 4 (dk_at dksX0_isBetween_0 14 rfl rfl)
theorem dX0_isBetween_17 : decode cX0_isBetween 17 = .ok (.iconst 0, 1) := dk_3 (dk_at dksX0_isBetween_0 17 rfl rfl)
theorem dX0_isBetween_18 : decode cX0_isBetween 18 = .ok (.ireturn, 1) := dk_172 (dk_at dksX0_isBetween_0 18 rfl rfl)
abbrev cX0_isPitch : ByteArray := prog_1_method_3_code
def yX0_isPitch : MethodName := ⟨RX0, "isPitch", "(I)Z"⟩
def dkwX0_isPitch_0 : List UInt8 := [26, 133, 20, 0, 9, 20, 0, 11, 184, 0, 5, 172]
abbrev dktX0_isPitch_0 : List UInt8 := dkwX0_isPitch_0 ++ []
theorem dksX0_isPitch_0 : cX0_isPitch.data.toList.drop 0 = dktX0_isPitch_0 := by decide +kernel
theorem dX0_isPitch_0 : decode cX0_isPitch 0 = .ok (.iload_n 0, 1) := dk_26 (dk_at dksX0_isPitch_0 0 rfl rfl)
theorem dX0_isPitch_1 : decode cX0_isPitch 1 = .ok (.i2l, 1) := dk_133 (dk_at dksX0_isPitch_0 1 rfl rfl)
theorem dX0_isPitch_2 : decode cX0_isPitch 2 = .ok (.ldc2_w 9, 3) := dk_20 0 9 (dk_at dksX0_isPitch_0 2 rfl rfl)
theorem dX0_isPitch_5 : decode cX0_isPitch 5 = .ok (.ldc2_w 11, 3) := dk_20 0 11 (dk_at dksX0_isPitch_0 5 rfl rfl)
theorem dX0_isPitch_8 : decode cX0_isPitch 8 = .ok (.invokestatic 5, 3) := dk_184 0 5 (dk_at dksX0_isPitch_0 8 rfl rfl)
theorem dX0_isPitch_11 : decode cX0_isPitch 11 = .ok (.ireturn, 1) := dk_172 (dk_at dksX0_isPitch_0 11 rfl rfl)
abbrev cX0_need : ByteArray := prog_1_method_4_code
def yX0_need : MethodName := ⟨RX0, "need", "(ZI)V"⟩
def dkwX0_need_0 : List UInt8 := [26, 154, 0, 13, 187, 0, 13, 89, 27, 1, 183, 0, 15, 191, 177]
abbrev dktX0_need_0 : List UInt8 := dkwX0_need_0 ++ []
theorem dksX0_need_0 : cX0_need.data.toList.drop 0 = dktX0_need_0 := by decide +kernel
theorem dX0_need_0 : decode cX0_need 0 = .ok (.iload_n 0, 1) := dk_26 (dk_at dksX0_need_0 0 rfl rfl)
theorem dX0_need_1 : decode cX0_need 1 = .ok (.ifCond .ne 13, 3) := dk_154 0 13 (dk_at dksX0_need_0 1 rfl rfl)
theorem dX0_need_4 : decode cX0_need 4 = .ok (.new 13, 3) := dk_187 0 13 (dk_at dksX0_need_0 4 rfl rfl)
theorem dX0_need_7 : decode cX0_need 7 = .ok (.dup, 1) := dk_89 (dk_at dksX0_need_0 7 rfl rfl)
theorem dX0_need_8 : decode cX0_need 8 = .ok (.iload_n 1, 1) := dk_27 (dk_at dksX0_need_0 8 rfl rfl)
theorem dX0_need_9 : decode cX0_need 9 = .ok (.aconst_null, 1) := dk_1 (dk_at dksX0_need_0 9 rfl rfl)
theorem dX0_need_10 : decode cX0_need 10 = .ok (.invokespecial 15, 3) := dk_183 0 15 (dk_at dksX0_need_0 10 rfl rfl)
theorem dX0_need_13 : decode cX0_need 13 = .ok (.athrow, 1) := dk_191 (dk_at dksX0_need_0 13 rfl rfl)
theorem dX0_need_14 : decode cX0_need 14 = .ok (.return_, 1) := dk_177 (dk_at dksX0_need_0 14 rfl rfl)
abbrev cX0_isTerm : ByteArray := prog_1_method_2_code
def yX0_isTerm : MethodName := ⟨RX0, "isTerm", "(I)Z"⟩
def dkwX0_isTerm_0 : List UInt8 := [26, 133, 9, 20, 0, 3, 184, 0, 5, 172]
abbrev dktX0_isTerm_0 : List UInt8 := dkwX0_isTerm_0 ++ []
theorem dksX0_isTerm_0 : cX0_isTerm.data.toList.drop 0 = dktX0_isTerm_0 := by decide +kernel
theorem dX0_isTerm_0 : decode cX0_isTerm 0 = .ok (.iload_n 0, 1) := dk_26 (dk_at dksX0_isTerm_0 0 rfl rfl)
theorem dX0_isTerm_1 : decode cX0_isTerm 1 = .ok (.i2l, 1) := dk_133 (dk_at dksX0_isTerm_0 1 rfl rfl)
theorem dX0_isTerm_2 : decode cX0_isTerm 2 = .ok (.lconst 0, 1) := dk_9 (dk_at dksX0_isTerm_0 2 rfl rfl)
theorem dX0_isTerm_3 : decode cX0_isTerm 3 = .ok (.ldc2_w 3, 3) := dk_20 0 3 (dk_at dksX0_isTerm_0 3 rfl rfl)
theorem dX0_isTerm_6 : decode cX0_isTerm 6 = .ok (.invokestatic 5, 3) := dk_184 0 5 (dk_at dksX0_isTerm_0 6 rfl rfl)
theorem dX0_isTerm_9 : decode cX0_isTerm 9 = .ok (.ireturn, 1) := dk_172 (dk_at dksX0_isTerm_0 9 rfl rfl)
abbrev cX0_changed : ByteArray := prog_1_method_6_code
def yX0_changed : MethodName := ⟨RX0, "changed", "(LLectureTurns$Lecture;I)I"⟩
def dkwX0_changed_1 : List UInt8 := [180, 0, 34, 182, 0, 53, 87, 42, 43, 181, 0, 27, 28, 172]
abbrev dktX0_changed_1 : List UInt8 := dkwX0_changed_1 ++ []
def dkwX0_changed_0 : List UInt8 := [42, 180, 0, 34, 42, 180, 0, 27, 182, 0, 45, 42, 180, 0, 34, 182, 0, 49, 7, 164, 0, 11, 42]
abbrev dktX0_changed_0 : List UInt8 := dkwX0_changed_0 ++ dktX0_changed_1
theorem dksX0_changed_0 : cX0_changed.data.toList.drop 0 = dktX0_changed_0 := by decide +kernel
theorem dksX0_changed_1 : cX0_changed.data.toList.drop 23 = dktX0_changed_1 := dk_seg dksX0_changed_0 23 rfl rfl
theorem dX0_changed_0 : decode cX0_changed 0 = .ok (.aload_n 0, 1) := dk_42 (dk_at dksX0_changed_0 0 rfl rfl)
theorem dX0_changed_1 : decode cX0_changed 1 = .ok (.getfield 34, 3) := dk_180 0 34 (dk_at dksX0_changed_0 1 rfl rfl)
theorem dX0_changed_4 : decode cX0_changed 4 = .ok (.aload_n 0, 1) := dk_42 (dk_at dksX0_changed_0 4 rfl rfl)
theorem dX0_changed_5 : decode cX0_changed 5 = .ok (.getfield 27, 3) := dk_180 0 27 (dk_at dksX0_changed_0 5 rfl rfl)
theorem dX0_changed_8 : decode cX0_changed 8 = .ok (.invokevirtual 45, 3) := dk_182 0 45 (dk_at dksX0_changed_0 8 rfl rfl)
theorem dX0_changed_11 : decode cX0_changed 11 = .ok (.aload_n 0, 1) := dk_42 (dk_at dksX0_changed_0 11 rfl rfl)
theorem dX0_changed_12 : decode cX0_changed 12 = .ok (.getfield 34, 3) := dk_180 0 34 (dk_at dksX0_changed_0 12 rfl rfl)
theorem dX0_changed_15 : decode cX0_changed 15 = .ok (.invokevirtual 49, 3) := dk_182 0 49 (dk_at dksX0_changed_0 15 rfl rfl)
theorem dX0_changed_18 : decode cX0_changed 18 = .ok (.iconst 4, 1) := dk_7 (dk_at dksX0_changed_0 18 rfl rfl)
theorem dX0_changed_19 : decode cX0_changed 19 = .ok (.if_icmp .le 11, 3) := dk_164 0 11 (dk_at dksX0_changed_0 19 rfl rfl)
theorem dX0_changed_22 : decode cX0_changed 22 = .ok (.aload_n 0, 1) := dk_42 (dk_at dksX0_changed_0 22 rfl rfl)
theorem dX0_changed_23 : decode cX0_changed 23 = .ok (.getfield 34, 3) := dk_180 0 34 (dk_at dksX0_changed_1 0 rfl rfl)
theorem dX0_changed_26 : decode cX0_changed 26 = .ok (.invokevirtual 53, 3) := dk_182 0 53 (dk_at dksX0_changed_1 3 rfl rfl)
theorem dX0_changed_29 : decode cX0_changed 29 = .ok (.pop, 1) := dk_87 (dk_at dksX0_changed_1 6 rfl rfl)
theorem dX0_changed_30 : decode cX0_changed 30 = .ok (.aload_n 0, 1) := dk_42 (dk_at dksX0_changed_1 7 rfl rfl)
theorem dX0_changed_31 : decode cX0_changed 31 = .ok (.aload_n 1, 1) := dk_43 (dk_at dksX0_changed_1 8 rfl rfl)
theorem dX0_changed_32 : decode cX0_changed 32 = .ok (.putfield 27, 3) := dk_181 0 27 (dk_at dksX0_changed_1 9 rfl rfl)
theorem dX0_changed_35 : decode cX0_changed 35 = .ok (.iload_n 2, 1) := dk_28 (dk_at dksX0_changed_1 12 rfl rfl)
theorem dX0_changed_36 : decode cX0_changed 36 = .ok (.ireturn, 1) := dk_172 (dk_at dksX0_changed_1 13 rfl rfl)
abbrev cX0_say : ByteArray := prog_1_method_10_code
def yX0_say : MethodName := ⟨RX0, "say", "(II)I"⟩
def dkwX0_say_0 : List UInt8 := [42, 16, 119, 5, 188, 10, 89, 3, 27, 79, 89, 4, 28, 79, 182, 0, 105, 172]
abbrev dktX0_say_0 : List UInt8 := dkwX0_say_0 ++ []
theorem dksX0_say_0 : cX0_say.data.toList.drop 0 = dktX0_say_0 := by decide +kernel
theorem dX0_say_0 : decode cX0_say 0 = .ok (.aload_n 0, 1) := dk_42 (dk_at dksX0_say_0 0 rfl rfl)
theorem dX0_say_1 : decode cX0_say 1 = .ok (.bipush 119, 2) := dk_16 119 (dk_at dksX0_say_0 1 rfl rfl)
theorem dX0_say_3 : decode cX0_say 3 = .ok (.iconst 2, 1) := dk_5 (dk_at dksX0_say_0 3 rfl rfl)
theorem dX0_say_4 : decode cX0_say 4 = .ok (.newarray .int, 2) := dk_188_10 (dk_at dksX0_say_0 4 rfl rfl)
theorem dX0_say_6 : decode cX0_say 6 = .ok (.dup, 1) := dk_89 (dk_at dksX0_say_0 6 rfl rfl)
theorem dX0_say_7 : decode cX0_say 7 = .ok (.iconst 0, 1) := dk_3 (dk_at dksX0_say_0 7 rfl rfl)
theorem dX0_say_8 : decode cX0_say 8 = .ok (.iload_n 1, 1) := dk_27 (dk_at dksX0_say_0 8 rfl rfl)
theorem dX0_say_9 : decode cX0_say 9 = .ok (.iastore, 1) := dk_79 (dk_at dksX0_say_0 9 rfl rfl)
theorem dX0_say_10 : decode cX0_say 10 = .ok (.dup, 1) := dk_89 (dk_at dksX0_say_0 10 rfl rfl)
theorem dX0_say_11 : decode cX0_say 11 = .ok (.iconst 1, 1) := dk_4 (dk_at dksX0_say_0 11 rfl rfl)
theorem dX0_say_12 : decode cX0_say 12 = .ok (.iload_n 2, 1) := dk_28 (dk_at dksX0_say_0 12 rfl rfl)
theorem dX0_say_13 : decode cX0_say 13 = .ok (.iastore, 1) := dk_79 (dk_at dksX0_say_0 13 rfl rfl)
theorem dX0_say_14 : decode cX0_say 14 = .ok (.invokevirtual 105, 3) := dk_182 0 105 (dk_at dksX0_say_0 14 rfl rfl)
theorem dX0_say_17 : decode cX0_say 17 = .ok (.ireturn, 1) := dk_172 (dk_at dksX0_say_0 17 rfl rfl)
abbrev cX0_part : ByteArray := prog_1_method_11_code
def yX0_part : MethodName := ⟨RX0, "part", "(III)I"⟩
def dkwX0_part_0 : List UInt8 := [42, 16, 112, 6, 188, 10, 89, 3, 27, 79, 89, 4, 28, 79, 89, 5, 29, 79, 182, 0, 105, 172]
abbrev dktX0_part_0 : List UInt8 := dkwX0_part_0 ++ []
theorem dksX0_part_0 : cX0_part.data.toList.drop 0 = dktX0_part_0 := by decide +kernel
theorem dX0_part_0 : decode cX0_part 0 = .ok (.aload_n 0, 1) := dk_42 (dk_at dksX0_part_0 0 rfl rfl)
theorem dX0_part_1 : decode cX0_part 1 = .ok (.bipush 112, 2) := dk_16 112 (dk_at dksX0_part_0 1 rfl rfl)
theorem dX0_part_3 : decode cX0_part 3 = .ok (.iconst 3, 1) := dk_6 (dk_at dksX0_part_0 3 rfl rfl)
theorem dX0_part_4 : decode cX0_part 4 = .ok (.newarray .int, 2) := dk_188_10 (dk_at dksX0_part_0 4 rfl rfl)
theorem dX0_part_6 : decode cX0_part 6 = .ok (.dup, 1) := dk_89 (dk_at dksX0_part_0 6 rfl rfl)
theorem dX0_part_7 : decode cX0_part 7 = .ok (.iconst 0, 1) := dk_3 (dk_at dksX0_part_0 7 rfl rfl)
theorem dX0_part_8 : decode cX0_part 8 = .ok (.iload_n 1, 1) := dk_27 (dk_at dksX0_part_0 8 rfl rfl)
theorem dX0_part_9 : decode cX0_part 9 = .ok (.iastore, 1) := dk_79 (dk_at dksX0_part_0 9 rfl rfl)
theorem dX0_part_10 : decode cX0_part 10 = .ok (.dup, 1) := dk_89 (dk_at dksX0_part_0 10 rfl rfl)
theorem dX0_part_11 : decode cX0_part 11 = .ok (.iconst 1, 1) := dk_4 (dk_at dksX0_part_0 11 rfl rfl)
theorem dX0_part_12 : decode cX0_part 12 = .ok (.iload_n 2, 1) := dk_28 (dk_at dksX0_part_0 12 rfl rfl)
theorem dX0_part_13 : decode cX0_part 13 = .ok (.iastore, 1) := dk_79 (dk_at dksX0_part_0 13 rfl rfl)
theorem dX0_part_14 : decode cX0_part 14 = .ok (.dup, 1) := dk_89 (dk_at dksX0_part_0 14 rfl rfl)
theorem dX0_part_15 : decode cX0_part 15 = .ok (.iconst 2, 1) := dk_5 (dk_at dksX0_part_0 15 rfl rfl)
theorem dX0_part_16 : decode cX0_part 16 = .ok (.iload_n 3, 1) := dk_29 (dk_at dksX0_part_0 16 rfl rfl)
theorem dX0_part_17 : decode cX0_part 17 = .ok (.iastore, 1) := dk_79 (dk_at dksX0_part_0 17 rfl rfl)
theorem dX0_part_18 : decode cX0_part 18 = .ok (.invokevirtual 105, 3) := dk_182 0 105 (dk_at dksX0_part_0 18 rfl rfl)
theorem dX0_part_21 : decode cX0_part 21 = .ok (.ireturn, 1) := dk_172 (dk_at dksX0_part_0 21 rfl rfl)
abbrev cX0_remove : ByteArray := prog_1_method_12_code
def yX0_remove : MethodName := ⟨RX0, "remove", "(I)I"⟩
def dkwX0_remove_0 : List UInt8 := [42, 16, 114, 4, 188, 10, 89, 3, 27, 79, 182, 0, 105, 172]
abbrev dktX0_remove_0 : List UInt8 := dkwX0_remove_0 ++ []
theorem dksX0_remove_0 : cX0_remove.data.toList.drop 0 = dktX0_remove_0 := by decide +kernel
theorem dX0_remove_0 : decode cX0_remove 0 = .ok (.aload_n 0, 1) := dk_42 (dk_at dksX0_remove_0 0 rfl rfl)
theorem dX0_remove_1 : decode cX0_remove 1 = .ok (.bipush 114, 2) := dk_16 114 (dk_at dksX0_remove_0 1 rfl rfl)
theorem dX0_remove_3 : decode cX0_remove 3 = .ok (.iconst 1, 1) := dk_4 (dk_at dksX0_remove_0 3 rfl rfl)
theorem dX0_remove_4 : decode cX0_remove 4 = .ok (.newarray .int, 2) := dk_188_10 (dk_at dksX0_remove_0 4 rfl rfl)
theorem dX0_remove_6 : decode cX0_remove 6 = .ok (.dup, 1) := dk_89 (dk_at dksX0_remove_0 6 rfl rfl)
theorem dX0_remove_7 : decode cX0_remove 7 = .ok (.iconst 0, 1) := dk_3 (dk_at dksX0_remove_0 7 rfl rfl)
theorem dX0_remove_8 : decode cX0_remove 8 = .ok (.iload_n 1, 1) := dk_27 (dk_at dksX0_remove_0 8 rfl rfl)
theorem dX0_remove_9 : decode cX0_remove 9 = .ok (.iastore, 1) := dk_79 (dk_at dksX0_remove_0 9 rfl rfl)
theorem dX0_remove_10 : decode cX0_remove 10 = .ok (.invokevirtual 105, 3) := dk_182 0 105 (dk_at dksX0_remove_0 10 rfl rfl)
theorem dX0_remove_13 : decode cX0_remove 13 = .ok (.ireturn, 1) := dk_172 (dk_at dksX0_remove_0 13 rfl rfl)
abbrev cX0_correct : ByteArray := prog_1_method_13_code
def yX0_correct : MethodName := ⟨RX0, "correct", "(II)I"⟩
def dkwX0_correct_0 : List UInt8 := [42, 16, 99, 5, 188, 10, 89, 3, 27, 79, 89, 4, 28, 79, 182, 0, 105, 172]
abbrev dktX0_correct_0 : List UInt8 := dkwX0_correct_0 ++ []
theorem dksX0_correct_0 : cX0_correct.data.toList.drop 0 = dktX0_correct_0 := by decide +kernel
theorem dX0_correct_0 : decode cX0_correct 0 = .ok (.aload_n 0, 1) := dk_42 (dk_at dksX0_correct_0 0 rfl rfl)
theorem dX0_correct_1 : decode cX0_correct 1 = .ok (.bipush 99, 2) := dk_16 99 (dk_at dksX0_correct_0 1 rfl rfl)
theorem dX0_correct_3 : decode cX0_correct 3 = .ok (.iconst 2, 1) := dk_5 (dk_at dksX0_correct_0 3 rfl rfl)
theorem dX0_correct_4 : decode cX0_correct 4 = .ok (.newarray .int, 2) := dk_188_10 (dk_at dksX0_correct_0 4 rfl rfl)
theorem dX0_correct_6 : decode cX0_correct 6 = .ok (.dup, 1) := dk_89 (dk_at dksX0_correct_0 6 rfl rfl)
theorem dX0_correct_7 : decode cX0_correct 7 = .ok (.iconst 0, 1) := dk_3 (dk_at dksX0_correct_0 7 rfl rfl)
theorem dX0_correct_8 : decode cX0_correct 8 = .ok (.iload_n 1, 1) := dk_27 (dk_at dksX0_correct_0 8 rfl rfl)
theorem dX0_correct_9 : decode cX0_correct 9 = .ok (.iastore, 1) := dk_79 (dk_at dksX0_correct_0 9 rfl rfl)
theorem dX0_correct_10 : decode cX0_correct 10 = .ok (.dup, 1) := dk_89 (dk_at dksX0_correct_0 10 rfl rfl)
theorem dX0_correct_11 : decode cX0_correct 11 = .ok (.iconst 1, 1) := dk_4 (dk_at dksX0_correct_0 11 rfl rfl)
theorem dX0_correct_12 : decode cX0_correct 12 = .ok (.iload_n 2, 1) := dk_28 (dk_at dksX0_correct_0 12 rfl rfl)
theorem dX0_correct_13 : decode cX0_correct 13 = .ok (.iastore, 1) := dk_79 (dk_at dksX0_correct_0 13 rfl rfl)
theorem dX0_correct_14 : decode cX0_correct 14 = .ok (.invokevirtual 105, 3) := dk_182 0 105 (dk_at dksX0_correct_0 14 rfl rfl)
theorem dX0_correct_17 : decode cX0_correct 17 = .ok (.ireturn, 1) := dk_172 (dk_at dksX0_correct_0 17 rfl rfl)
abbrev cX0_uncorrect : ByteArray := prog_1_method_14_code
def yX0_uncorrect : MethodName := ⟨RX0, "uncorrect", "(I)I"⟩
def dkwX0_uncorrect_0 : List UInt8 := [42, 16, 117, 4, 188, 10, 89, 3, 27, 79, 182, 0, 105, 172]
abbrev dktX0_uncorrect_0 : List UInt8 := dkwX0_uncorrect_0 ++ []
theorem dksX0_uncorrect_0 : cX0_uncorrect.data.toList.drop 0 = dktX0_uncorrect_0 := by decide +kernel
theorem dX0_uncorrect_0 : decode cX0_uncorrect 0 = .ok (.aload_n 0, 1) := dk_42 (dk_at dksX0_uncorrect_0 0 rfl rfl)
theorem dX0_uncorrect_1 : decode cX0_uncorrect 1 = .ok (.bipush 117, 2) := dk_16 117 (dk_at dksX0_uncorrect_0 1 rfl rfl)
theorem dX0_uncorrect_3 : decode cX0_uncorrect 3 = .ok (.iconst 1, 1) := dk_4 (dk_at dksX0_uncorrect_0 3 rfl rfl)
theorem dX0_uncorrect_4 : decode cX0_uncorrect 4 = .ok (.newarray .int, 2) := dk_188_10 (dk_at dksX0_uncorrect_0 4 rfl rfl)
theorem dX0_uncorrect_6 : decode cX0_uncorrect 6 = .ok (.dup, 1) := dk_89 (dk_at dksX0_uncorrect_0 6 rfl rfl)
theorem dX0_uncorrect_7 : decode cX0_uncorrect 7 = .ok (.iconst 0, 1) := dk_3 (dk_at dksX0_uncorrect_0 7 rfl rfl)
theorem dX0_uncorrect_8 : decode cX0_uncorrect 8 = .ok (.iload_n 1, 1) := dk_27 (dk_at dksX0_uncorrect_0 8 rfl rfl)
theorem dX0_uncorrect_9 : decode cX0_uncorrect 9 = .ok (.iastore, 1) := dk_79 (dk_at dksX0_uncorrect_0 9 rfl rfl)
theorem dX0_uncorrect_10 : decode cX0_uncorrect 10 = .ok (.invokevirtual 105, 3) := dk_182 0 105 (dk_at dksX0_uncorrect_0 10 rfl rfl)
theorem dX0_uncorrect_13 : decode cX0_uncorrect 13 = .ok (.ireturn, 1) := dk_172 (dk_at dksX0_uncorrect_0 13 rfl rfl)
abbrev cX0_speaker : ByteArray := prog_1_method_15_code
def yX0_speaker : MethodName := ⟨RX0, "speaker", "(I)I"⟩
def dkwX0_speaker_0 : List UInt8 := [42, 16, 115, 4, 188, 10, 89, 3, 27, 79, 182, 0, 105, 172]
abbrev dktX0_speaker_0 : List UInt8 := dkwX0_speaker_0 ++ []
theorem dksX0_speaker_0 : cX0_speaker.data.toList.drop 0 = dktX0_speaker_0 := by decide +kernel
theorem dX0_speaker_0 : decode cX0_speaker 0 = .ok (.aload_n 0, 1) := dk_42 (dk_at dksX0_speaker_0 0 rfl rfl)
theorem dX0_speaker_1 : decode cX0_speaker 1 = .ok (.bipush 115, 2) := dk_16 115 (dk_at dksX0_speaker_0 1 rfl rfl)
theorem dX0_speaker_3 : decode cX0_speaker 3 = .ok (.iconst 1, 1) := dk_4 (dk_at dksX0_speaker_0 3 rfl rfl)
theorem dX0_speaker_4 : decode cX0_speaker 4 = .ok (.newarray .int, 2) := dk_188_10 (dk_at dksX0_speaker_0 4 rfl rfl)
theorem dX0_speaker_6 : decode cX0_speaker 6 = .ok (.dup, 1) := dk_89 (dk_at dksX0_speaker_0 6 rfl rfl)
theorem dX0_speaker_7 : decode cX0_speaker 7 = .ok (.iconst 0, 1) := dk_3 (dk_at dksX0_speaker_0 7 rfl rfl)
theorem dX0_speaker_8 : decode cX0_speaker 8 = .ok (.iload_n 1, 1) := dk_27 (dk_at dksX0_speaker_0 8 rfl rfl)
theorem dX0_speaker_9 : decode cX0_speaker 9 = .ok (.iastore, 1) := dk_79 (dk_at dksX0_speaker_0 9 rfl rfl)
theorem dX0_speaker_10 : decode cX0_speaker 10 = .ok (.invokevirtual 105, 3) := dk_182 0 105 (dk_at dksX0_speaker_0 10 rfl rfl)
theorem dX0_speaker_13 : decode cX0_speaker 13 = .ok (.ireturn, 1) := dk_172 (dk_at dksX0_speaker_0 13 rfl rfl)
abbrev cX0_give : ByteArray := prog_1_method_16_code
def yX0_give : MethodName := ⟨RX0, "give", "(II)I"⟩
def dkwX0_give_0 : List UInt8 := [42, 16, 103, 5, 188, 10, 89, 3, 27, 79, 89, 4, 28, 79, 182, 0, 105, 172]
abbrev dktX0_give_0 : List UInt8 := dkwX0_give_0 ++ []
theorem dksX0_give_0 : cX0_give.data.toList.drop 0 = dktX0_give_0 := by decide +kernel
theorem dX0_give_0 : decode cX0_give 0 = .ok (.aload_n 0, 1) := dk_42 (dk_at dksX0_give_0 0 rfl rfl)
theorem dX0_give_1 : decode cX0_give 1 = .ok (.bipush 103, 2) := dk_16 103 (dk_at dksX0_give_0 1 rfl rfl)
theorem dX0_give_3 : decode cX0_give 3 = .ok (.iconst 2, 1) := dk_5 (dk_at dksX0_give_0 3 rfl rfl)
theorem dX0_give_4 : decode cX0_give 4 = .ok (.newarray .int, 2) := dk_188_10 (dk_at dksX0_give_0 4 rfl rfl)
theorem dX0_give_6 : decode cX0_give 6 = .ok (.dup, 1) := dk_89 (dk_at dksX0_give_0 6 rfl rfl)
theorem dX0_give_7 : decode cX0_give 7 = .ok (.iconst 0, 1) := dk_3 (dk_at dksX0_give_0 7 rfl rfl)
theorem dX0_give_8 : decode cX0_give 8 = .ok (.iload_n 1, 1) := dk_27 (dk_at dksX0_give_0 8 rfl rfl)
theorem dX0_give_9 : decode cX0_give 9 = .ok (.iastore, 1) := dk_79 (dk_at dksX0_give_0 9 rfl rfl)
theorem dX0_give_10 : decode cX0_give 10 = .ok (.dup, 1) := dk_89 (dk_at dksX0_give_0 10 rfl rfl)
theorem dX0_give_11 : decode cX0_give 11 = .ok (.iconst 1, 1) := dk_4 (dk_at dksX0_give_0 11 rfl rfl)
theorem dX0_give_12 : decode cX0_give 12 = .ok (.iload_n 2, 1) := dk_28 (dk_at dksX0_give_0 12 rfl rfl)
theorem dX0_give_13 : decode cX0_give 13 = .ok (.iastore, 1) := dk_79 (dk_at dksX0_give_0 13 rfl rfl)
theorem dX0_give_14 : decode cX0_give 14 = .ok (.invokevirtual 105, 3) := dk_182 0 105 (dk_at dksX0_give_0 14 rfl rfl)
theorem dX0_give_17 : decode cX0_give 17 = .ok (.ireturn, 1) := dk_172 (dk_at dksX0_give_0 17 rfl rfl)
abbrev cX0_join : ByteArray := prog_1_method_17_code
def yX0_join : MethodName := ⟨RX0, "join", "(II)I"⟩
def dkwX0_join_0 : List UInt8 := [42, 16, 106, 5, 188, 10, 89, 3, 27, 79, 89, 4, 28, 79, 182, 0, 105, 172]
abbrev dktX0_join_0 : List UInt8 := dkwX0_join_0 ++ []
theorem dksX0_join_0 : cX0_join.data.toList.drop 0 = dktX0_join_0 := by decide +kernel
theorem dX0_join_0 : decode cX0_join 0 = .ok (.aload_n 0, 1) := dk_42 (dk_at dksX0_join_0 0 rfl rfl)
theorem dX0_join_1 : decode cX0_join 1 = .ok (.bipush 106, 2) := dk_16 106 (dk_at dksX0_join_0 1 rfl rfl)
theorem dX0_join_3 : decode cX0_join 3 = .ok (.iconst 2, 1) := dk_5 (dk_at dksX0_join_0 3 rfl rfl)
theorem dX0_join_4 : decode cX0_join 4 = .ok (.newarray .int, 2) := dk_188_10 (dk_at dksX0_join_0 4 rfl rfl)
theorem dX0_join_6 : decode cX0_join 6 = .ok (.dup, 1) := dk_89 (dk_at dksX0_join_0 6 rfl rfl)
theorem dX0_join_7 : decode cX0_join 7 = .ok (.iconst 0, 1) := dk_3 (dk_at dksX0_join_0 7 rfl rfl)
theorem dX0_join_8 : decode cX0_join 8 = .ok (.iload_n 1, 1) := dk_27 (dk_at dksX0_join_0 8 rfl rfl)
theorem dX0_join_9 : decode cX0_join 9 = .ok (.iastore, 1) := dk_79 (dk_at dksX0_join_0 9 rfl rfl)
theorem dX0_join_10 : decode cX0_join 10 = .ok (.dup, 1) := dk_89 (dk_at dksX0_join_0 10 rfl rfl)
theorem dX0_join_11 : decode cX0_join 11 = .ok (.iconst 1, 1) := dk_4 (dk_at dksX0_join_0 11 rfl rfl)
theorem dX0_join_12 : decode cX0_join 12 = .ok (.iload_n 2, 1) := dk_28 (dk_at dksX0_join_0 12 rfl rfl)
theorem dX0_join_13 : decode cX0_join 13 = .ok (.iastore, 1) := dk_79 (dk_at dksX0_join_0 13 rfl rfl)
theorem dX0_join_14 : decode cX0_join 14 = .ok (.invokevirtual 105, 3) := dk_182 0 105 (dk_at dksX0_join_0 14 rfl rfl)
theorem dX0_join_17 : decode cX0_join 17 = .ok (.ireturn, 1) := dk_172 (dk_at dksX0_join_0 17 rfl rfl)
abbrev cX0_set : ByteArray := prog_1_method_18_code
def yX0_set : MethodName := ⟨RX0, "set", "(II)I"⟩
def dkwX0_set_0 : List UInt8 := [27, 154, 0, 19, 42, 16, 110, 4, 188, 10, 89, 3, 28, 79, 182, 0, 105, 167, 0, 5, 18, 109, 172]
abbrev dktX0_set_0 : List UInt8 := dkwX0_set_0 ++ []
theorem dksX0_set_0 : cX0_set.data.toList.drop 0 = dktX0_set_0 := by decide +kernel
theorem dX0_set_0 : decode cX0_set 0 = .ok (.iload_n 1, 1) := dk_27 (dk_at dksX0_set_0 0 rfl rfl)
theorem dX0_set_1 : decode cX0_set 1 = .ok (.ifCond .ne 19, 3) := dk_154 0 19 (dk_at dksX0_set_0 1 rfl rfl)
theorem dX0_set_4 : decode cX0_set 4 = .ok (.aload_n 0, 1) := dk_42 (dk_at dksX0_set_0 4 rfl rfl)
theorem dX0_set_5 : decode cX0_set 5 = .ok (.bipush 110, 2) := dk_16 110 (dk_at dksX0_set_0 5 rfl rfl)
theorem dX0_set_7 : decode cX0_set 7 = .ok (.iconst 1, 1) := dk_4 (dk_at dksX0_set_0 7 rfl rfl)
theorem dX0_set_8 : decode cX0_set 8 = .ok (.newarray .int, 2) := dk_188_10 (dk_at dksX0_set_0 8 rfl rfl)
theorem dX0_set_10 : decode cX0_set 10 = .ok (.dup, 1) := dk_89 (dk_at dksX0_set_0 10 rfl rfl)
theorem dX0_set_11 : decode cX0_set 11 = .ok (.iconst 0, 1) := dk_3 (dk_at dksX0_set_0 11 rfl rfl)
theorem dX0_set_12 : decode cX0_set 12 = .ok (.iload_n 2, 1) := dk_28 (dk_at dksX0_set_0 12 rfl rfl)
theorem dX0_set_13 : decode cX0_set 13 = .ok (.iastore, 1) := dk_79 (dk_at dksX0_set_0 13 rfl rfl)
theorem dX0_set_14 : decode cX0_set 14 = .ok (.invokevirtual 105, 3) := dk_182 0 105 (dk_at dksX0_set_0 14 rfl rfl)
theorem dX0_set_17 : decode cX0_set 17 = .ok (.goto 5, 3) := dk_167 0 5 (dk_at dksX0_set_0 17 rfl rfl)
theorem dX0_set_20 : decode cX0_set 20 = .ok (.ldc 109, 2) := dk_18 109 (dk_at dksX0_set_0 20 rfl rfl)
theorem dX0_set_22 : decode cX0_set 22 = .ok (.ireturn, 1) := dk_172 (dk_at dksX0_set_0 22 rfl rfl)
abbrev cX0_turnOf : ByteArray := prog_1_method_21_code
def yX0_turnOf : MethodName := ⟨RX0, "turnOf", "(II)I"⟩
def dkwX0_turnOf_2 : List UInt8 := [28, 50, 185, 0, 148, 1, 0, 172]
abbrev dktX0_turnOf_2 : List UInt8 := dkwX0_turnOf_2 ++ []
def dkwX0_turnOf_1 : List UInt8 := [18, 109, 172, 42, 180, 0, 27, 42, 180, 0, 27, 180, 0, 132, 27, 182, 0, 136, 192, 0, 142, 184, 0, 144]
abbrev dktX0_turnOf_1 : List UInt8 := dkwX0_turnOf_1 ++ dktX0_turnOf_2
def dkwX0_turnOf_0 : List UInt8 := [42, 180, 0, 27, 27, 182, 0, 126, 153, 0, 15, 28, 133, 9, 20, 0, 130, 184, 0, 5, 154, 0, 6]
abbrev dktX0_turnOf_0 : List UInt8 := dkwX0_turnOf_0 ++ dktX0_turnOf_1
theorem dksX0_turnOf_0 : cX0_turnOf.data.toList.drop 0 = dktX0_turnOf_0 := by decide +kernel
theorem dksX0_turnOf_1 : cX0_turnOf.data.toList.drop 23 = dktX0_turnOf_1 := dk_seg dksX0_turnOf_0 23 rfl rfl
theorem dksX0_turnOf_2 : cX0_turnOf.data.toList.drop 47 = dktX0_turnOf_2 := dk_seg dksX0_turnOf_1 24 rfl rfl
theorem dX0_turnOf_0 : decode cX0_turnOf 0 = .ok (.aload_n 0, 1) := dk_42 (dk_at dksX0_turnOf_0 0 rfl rfl)
theorem dX0_turnOf_1 : decode cX0_turnOf 1 = .ok (.getfield 27, 3) := dk_180 0 27 (dk_at dksX0_turnOf_0 1 rfl rfl)
theorem dX0_turnOf_4 : decode cX0_turnOf 4 = .ok (.iload_n 1, 1) := dk_27 (dk_at dksX0_turnOf_0 4 rfl rfl)
theorem dX0_turnOf_5 : decode cX0_turnOf 5 = .ok (.invokevirtual 126, 3) := dk_182 0 126 (dk_at dksX0_turnOf_0 5 rfl rfl)
theorem dX0_turnOf_8 : decode cX0_turnOf 8 = .ok (.ifCond .eq 15, 3) := dk_153 0 15 (dk_at dksX0_turnOf_0 8 rfl rfl)
theorem dX0_turnOf_11 : decode cX0_turnOf 11 = .ok (.iload_n 2, 1) := dk_28 (dk_at dksX0_turnOf_0 11 rfl rfl)
theorem dX0_turnOf_12 : decode cX0_turnOf 12 = .ok (.i2l, 1) := dk_133 (dk_at dksX0_turnOf_0 12 rfl rfl)
theorem dX0_turnOf_13 : decode cX0_turnOf 13 = .ok (.lconst 0, 1) := dk_9 (dk_at dksX0_turnOf_0 13 rfl rfl)
theorem dX0_turnOf_14 : decode cX0_turnOf 14 = .ok (.ldc2_w 130, 3) := dk_20 0 130 (dk_at dksX0_turnOf_0 14 rfl rfl)
theorem dX0_turnOf_17 : decode cX0_turnOf 17 = .ok (.invokestatic 5, 3) := dk_184 0 5 (dk_at dksX0_turnOf_0 17 rfl rfl)
theorem dX0_turnOf_20 : decode cX0_turnOf 20 = .ok (.ifCond .ne 6, 3) := dk_154 0 6 (dk_at dksX0_turnOf_0 20 rfl rfl)
theorem dX0_turnOf_23 : decode cX0_turnOf 23 = .ok (.ldc 109, 2) := dk_18 109 (dk_at dksX0_turnOf_1 0 rfl rfl)
theorem dX0_turnOf_25 : decode cX0_turnOf 25 = .ok (.ireturn, 1) := dk_172 (dk_at dksX0_turnOf_1 2 rfl rfl)
theorem dX0_turnOf_26 : decode cX0_turnOf 26 = .ok (.aload_n 0, 1) := dk_42 (dk_at dksX0_turnOf_1 3 rfl rfl)
theorem dX0_turnOf_27 : decode cX0_turnOf 27 = .ok (.getfield 27, 3) := dk_180 0 27 (dk_at dksX0_turnOf_1 4 rfl rfl)
theorem dX0_turnOf_30 : decode cX0_turnOf 30 = .ok (.aload_n 0, 1) := dk_42 (dk_at dksX0_turnOf_1 7 rfl rfl)
theorem dX0_turnOf_31 : decode cX0_turnOf 31 = .ok (.getfield 27, 3) := dk_180 0 27 (dk_at dksX0_turnOf_1 8 rfl rfl)
theorem dX0_turnOf_34 : decode cX0_turnOf 34 = .ok (.getfield 132, 3) := dk_180 0 132 (dk_at dksX0_turnOf_1 11 rfl rfl)
theorem dX0_turnOf_37 : decode cX0_turnOf 37 = .ok (.iload_n 1, 1) := dk_27 (dk_at dksX0_turnOf_1 14 rfl rfl)
theorem dX0_turnOf_38 : decode cX0_turnOf 38 = .ok (.invokevirtual 136, 3) := dk_182 0 136 (dk_at dksX0_turnOf_1 15 rfl rfl)
theorem dX0_turnOf_41 : decode cX0_turnOf 41 = .ok (.checkcast 142, 3) := dk_192 0 142 (dk_at dksX0_turnOf_1 18 rfl rfl)
theorem dX0_turnOf_44 : decode cX0_turnOf 44 = .ok (.invokestatic 144, 3) := dk_184 0 144 (dk_at dksX0_turnOf_1 21 rfl rfl)
theorem dX0_turnOf_47 : decode cX0_turnOf 47 = .ok (.iload_n 2, 1) := dk_28 (dk_at dksX0_turnOf_2 0 rfl rfl)
theorem dX0_turnOf_48 : decode cX0_turnOf 48 = .ok (.aaload, 1) := dk_50 (dk_at dksX0_turnOf_2 1 rfl rfl)
theorem dX0_turnOf_49 : decode cX0_turnOf 49 = .ok (.invokeinterface 148 1, 5) := by decide +kernel
theorem dX0_turnOf_54 : decode cX0_turnOf 54 = .ok (.ireturn, 1) := dk_172 (dk_at dksX0_turnOf_2 7 rfl rfl)
abbrev cX0_tellers : ByteArray := prog_1_method_20_code
def yX0_tellers : MethodName := ⟨RX0, "tellers", "(LLectureTurns$Lecture;LLectureTurns$Turn;)[LLectureTurns$Told;"⟩
def dkwX0_tellers_3 : List UInt8 := [186, 0, 124, 0, 0, 83, 89, 16, 7, 42, 43, 186, 0, 125, 0, 0, 83, 176]
abbrev dktX0_tellers_3 : List UInt8 := dkwX0_tellers_3 ++ []
def dkwX0_tellers_2 : List UInt8 := [186, 0, 120, 0, 0, 83, 89, 8, 42, 43, 186, 0, 121, 0, 0, 83, 89, 16, 6, 42, 43]
abbrev dktX0_tellers_2 : List UInt8 := dkwX0_tellers_2 ++ dktX0_tellers_3
def dkwX0_tellers_1 : List UInt8 := [5, 43, 186, 0, 118, 0, 0, 83, 89, 6, 43, 186, 0, 119, 0, 0, 83, 89, 7, 43]
abbrev dktX0_tellers_1 : List UInt8 := dkwX0_tellers_1 ++ dktX0_tellers_2
def dkwX0_tellers_0 : List UInt8 := [16, 8, 189, 0, 111, 89, 3, 43, 186, 0, 113, 0, 0, 83, 89, 4, 43, 186, 0, 117, 0, 0, 83, 89]
abbrev dktX0_tellers_0 : List UInt8 := dkwX0_tellers_0 ++ dktX0_tellers_1
theorem dksX0_tellers_0 : cX0_tellers.data.toList.drop 0 = dktX0_tellers_0 := by decide +kernel
theorem dksX0_tellers_1 : cX0_tellers.data.toList.drop 24 = dktX0_tellers_1 := dk_seg dksX0_tellers_0 24 rfl rfl
theorem dksX0_tellers_2 : cX0_tellers.data.toList.drop 44 = dktX0_tellers_2 := dk_seg dksX0_tellers_1 20 rfl rfl
theorem dksX0_tellers_3 : cX0_tellers.data.toList.drop 65 = dktX0_tellers_3 := dk_seg dksX0_tellers_2 21 rfl rfl
theorem dX0_tellers_0 : decode cX0_tellers 0 = .ok (.bipush 8, 2) := dk_16 8 (dk_at dksX0_tellers_0 0 rfl rfl)
theorem dX0_tellers_2 : decode cX0_tellers 2 = .ok (.anewarray 111, 3) := dk_189 0 111 (dk_at dksX0_tellers_0 2 rfl rfl)
theorem dX0_tellers_5 : decode cX0_tellers 5 = .ok (.dup, 1) := dk_89 (dk_at dksX0_tellers_0 5 rfl rfl)
theorem dX0_tellers_6 : decode cX0_tellers 6 = .ok (.iconst 0, 1) := dk_3 (dk_at dksX0_tellers_0 6 rfl rfl)
theorem dX0_tellers_7 : decode cX0_tellers 7 = .ok (.aload_n 1, 1) := dk_43 (dk_at dksX0_tellers_0 7 rfl rfl)
theorem dX0_tellers_8 : decode cX0_tellers 8 = .ok (.invokedynamic 113, 5) := by decide +kernel
theorem dX0_tellers_13 : decode cX0_tellers 13 = .ok (.aastore, 1) := dk_83 (dk_at dksX0_tellers_0 13 rfl rfl)
theorem dX0_tellers_14 : decode cX0_tellers 14 = .ok (.dup, 1) := dk_89 (dk_at dksX0_tellers_0 14 rfl rfl)
theorem dX0_tellers_15 : decode cX0_tellers 15 = .ok (.iconst 1, 1) := dk_4 (dk_at dksX0_tellers_0 15 rfl rfl)
theorem dX0_tellers_16 : decode cX0_tellers 16 = .ok (.aload_n 1, 1) := dk_43 (dk_at dksX0_tellers_0 16 rfl rfl)
theorem dX0_tellers_17 : decode cX0_tellers 17 = .ok (.invokedynamic 117, 5) := by decide +kernel
theorem dX0_tellers_22 : decode cX0_tellers 22 = .ok (.aastore, 1) := dk_83 (dk_at dksX0_tellers_0 22 rfl rfl)
theorem dX0_tellers_23 : decode cX0_tellers 23 = .ok (.dup, 1) := dk_89 (dk_at dksX0_tellers_0 23 rfl rfl)
theorem dX0_tellers_24 : decode cX0_tellers 24 = .ok (.iconst 2, 1) := dk_5 (dk_at dksX0_tellers_1 0 rfl rfl)
theorem dX0_tellers_25 : decode cX0_tellers 25 = .ok (.aload_n 1, 1) := dk_43 (dk_at dksX0_tellers_1 1 rfl rfl)
theorem dX0_tellers_26 : decode cX0_tellers 26 = .ok (.invokedynamic 118, 5) := by decide +kernel
theorem dX0_tellers_31 : decode cX0_tellers 31 = .ok (.aastore, 1) := dk_83 (dk_at dksX0_tellers_1 7 rfl rfl)
theorem dX0_tellers_32 : decode cX0_tellers 32 = .ok (.dup, 1) := dk_89 (dk_at dksX0_tellers_1 8 rfl rfl)
theorem dX0_tellers_33 : decode cX0_tellers 33 = .ok (.iconst 3, 1) := dk_6 (dk_at dksX0_tellers_1 9 rfl rfl)
theorem dX0_tellers_34 : decode cX0_tellers 34 = .ok (.aload_n 1, 1) := dk_43 (dk_at dksX0_tellers_1 10 rfl rfl)
theorem dX0_tellers_35 : decode cX0_tellers 35 = .ok (.invokedynamic 119, 5) := by decide +kernel
theorem dX0_tellers_40 : decode cX0_tellers 40 = .ok (.aastore, 1) := dk_83 (dk_at dksX0_tellers_1 16 rfl rfl)
theorem dX0_tellers_41 : decode cX0_tellers 41 = .ok (.dup, 1) := dk_89 (dk_at dksX0_tellers_1 17 rfl rfl)
theorem dX0_tellers_42 : decode cX0_tellers 42 = .ok (.iconst 4, 1) := dk_7 (dk_at dksX0_tellers_1 18 rfl rfl)
theorem dX0_tellers_43 : decode cX0_tellers 43 = .ok (.aload_n 1, 1) := dk_43 (dk_at dksX0_tellers_1 19 rfl rfl)
theorem dX0_tellers_44 : decode cX0_tellers 44 = .ok (.invokedynamic 120, 5) := by decide +kernel
theorem dX0_tellers_49 : decode cX0_tellers 49 = .ok (.aastore, 1) := dk_83 (dk_at dksX0_tellers_2 5 rfl rfl)
theorem dX0_tellers_50 : decode cX0_tellers 50 = .ok (.dup, 1) := dk_89 (dk_at dksX0_tellers_2 6 rfl rfl)
theorem dX0_tellers_51 : decode cX0_tellers 51 = .ok (.iconst 5, 1) := dk_8 (dk_at dksX0_tellers_2 7 rfl rfl)
theorem dX0_tellers_52 : decode cX0_tellers 52 = .ok (.aload_n 0, 1) := dk_42 (dk_at dksX0_tellers_2 8 rfl rfl)
theorem dX0_tellers_53 : decode cX0_tellers 53 = .ok (.aload_n 1, 1) := dk_43 (dk_at dksX0_tellers_2 9 rfl rfl)
theorem dX0_tellers_54 : decode cX0_tellers 54 = .ok (.invokedynamic 121, 5) := by decide +kernel
theorem dX0_tellers_59 : decode cX0_tellers 59 = .ok (.aastore, 1) := dk_83 (dk_at dksX0_tellers_2 15 rfl rfl)
theorem dX0_tellers_60 : decode cX0_tellers 60 = .ok (.dup, 1) := dk_89 (dk_at dksX0_tellers_2 16 rfl rfl)
theorem dX0_tellers_61 : decode cX0_tellers 61 = .ok (.bipush 6, 2) := dk_16 6 (dk_at dksX0_tellers_2 17 rfl rfl)
theorem dX0_tellers_63 : decode cX0_tellers 63 = .ok (.aload_n 0, 1) := dk_42 (dk_at dksX0_tellers_2 19 rfl rfl)
theorem dX0_tellers_64 : decode cX0_tellers 64 = .ok (.aload_n 1, 1) := dk_43 (dk_at dksX0_tellers_2 20 rfl rfl)
theorem dX0_tellers_65 : decode cX0_tellers 65 = .ok (.invokedynamic 124, 5) := by decide +kernel
theorem dX0_tellers_70 : decode cX0_tellers 70 = .ok (.aastore, 1) := dk_83 (dk_at dksX0_tellers_3 5 rfl rfl)
theorem dX0_tellers_71 : decode cX0_tellers 71 = .ok (.dup, 1) := dk_89 (dk_at dksX0_tellers_3 6 rfl rfl)
theorem dX0_tellers_72 : decode cX0_tellers 72 = .ok (.bipush 7, 2) := dk_16 7 (dk_at dksX0_tellers_3 7 rfl rfl)
theorem dX0_tellers_74 : decode cX0_tellers 74 = .ok (.aload_n 0, 1) := dk_42 (dk_at dksX0_tellers_3 9 rfl rfl)
theorem dX0_tellers_75 : decode cX0_tellers 75 = .ok (.aload_n 1, 1) := dk_43 (dk_at dksX0_tellers_3 10 rfl rfl)
theorem dX0_tellers_76 : decode cX0_tellers 76 = .ok (.invokedynamic 125, 5) := by decide +kernel
theorem dX0_tellers_81 : decode cX0_tellers 81 = .ok (.aastore, 1) := dk_83 (dk_at dksX0_tellers_3 16 rfl rfl)
theorem dX0_tellers_82 : decode cX0_tellers 82 = .ok (.areturn, 1) := dk_176 (dk_at dksX0_tellers_3 17 rfl rfl)
abbrev cX0_lambda_tellers_0 : ByteArray := prog_1_method_52_code
def yX0_lambda_tellers_0 : MethodName := ⟨RX0, "lambda$tellers$0", "(LLectureTurns$Turn;)I"⟩
theorem dX0_lambda_tellers_0_0 : decode cX0_lambda_tellers_0 0 = .ok (.aload_n 0, 1) := by decide +kernel
theorem dX0_lambda_tellers_0_1 : decode cX0_lambda_tellers_0 1 = .ok (.getfield 253, 3) := by decide +kernel
theorem dX0_lambda_tellers_0_4 : decode cX0_lambda_tellers_0 4 = .ok (.ireturn, 1) := by decide +kernel
abbrev cX0_lambda_tellers_1 : ByteArray := prog_1_method_51_code
def yX0_lambda_tellers_1 : MethodName := ⟨RX0, "lambda$tellers$1", "(LLectureTurns$Turn;)I"⟩
theorem dX0_lambda_tellers_1_0 : decode cX0_lambda_tellers_1 0 = .ok (.aload_n 0, 1) := by decide +kernel
theorem dX0_lambda_tellers_1_1 : decode cX0_lambda_tellers_1 1 = .ok (.getfield 333, 3) := by decide +kernel
theorem dX0_lambda_tellers_1_4 : decode cX0_lambda_tellers_1 4 = .ok (.ireturn, 1) := by decide +kernel
abbrev cX0_lambda_tellers_2 : ByteArray := prog_1_method_50_code
def yX0_lambda_tellers_2 : MethodName := ⟨RX0, "lambda$tellers$2", "(LLectureTurns$Turn;)I"⟩
theorem dX0_lambda_tellers_2_0 : decode cX0_lambda_tellers_2 0 = .ok (.aload_n 0, 1) := by decide +kernel
theorem dX0_lambda_tellers_2_1 : decode cX0_lambda_tellers_2 1 = .ok (.getfield 262, 3) := by decide +kernel
theorem dX0_lambda_tellers_2_4 : decode cX0_lambda_tellers_2 4 = .ok (.ireturn, 1) := by decide +kernel
abbrev cX0_lambda_tellers_3 : ByteArray := prog_1_method_49_code
def yX0_lambda_tellers_3 : MethodName := ⟨RX0, "lambda$tellers$3", "(LLectureTurns$Turn;)I"⟩
def dkwX0_lambda_tellers_3_0 : List UInt8 := [42, 180, 0, 174, 184, 0, 186, 172]
abbrev dktX0_lambda_tellers_3_0 : List UInt8 := dkwX0_lambda_tellers_3_0 ++ []
theorem dksX0_lambda_tellers_3_0 : cX0_lambda_tellers_3.data.toList.drop 0 = dktX0_lambda_tellers_3_0 := by decide +kernel
theorem dX0_lambda_tellers_3_0 : decode cX0_lambda_tellers_3 0 = .ok (.aload_n 0, 1) := dk_42 (dk_at dksX0_lambda_tellers_3_0 0 rfl rfl)
theorem dX0_lambda_tellers_3_1 : decode cX0_lambda_tellers_3 1 = .ok (.getfield 174, 3) := dk_180 0 174 (dk_at dksX0_lambda_tellers_3_0 1 rfl rfl)
theorem dX0_lambda_tellers_3_4 : decode cX0_lambda_tellers_3 4 = .ok (.invokestatic 186, 3) := dk_184 0 186 (dk_at dksX0_lambda_tellers_3_0 4 rfl rfl)
theorem dX0_lambda_tellers_3_7 : decode cX0_lambda_tellers_3 7 = .ok (.ireturn, 1) := dk_172 (dk_at dksX0_lambda_tellers_3_0 7 rfl rfl)
abbrev cX0_orNotFound : ByteArray := prog_1_method_19_code
def yX0_orNotFound : MethodName := ⟨RX0, "orNotFound", "(I)I"⟩
def dkwX0_orNotFound_0 : List UInt8 := [26, 2, 160, 0, 8, 18, 110, 167, 0, 4, 26, 172]
abbrev dktX0_orNotFound_0 : List UInt8 := dkwX0_orNotFound_0 ++ []
theorem dksX0_orNotFound_0 : cX0_orNotFound.data.toList.drop 0 = dktX0_orNotFound_0 := by decide +kernel
theorem dX0_orNotFound_0 : decode cX0_orNotFound 0 = .ok (.iload_n 0, 1) := dk_26 (dk_at dksX0_orNotFound_0 0 rfl rfl)
theorem dX0_orNotFound_1 : decode cX0_orNotFound 1 = .ok (.iconst (-1), 1) := dk_2 (dk_at dksX0_orNotFound_0 1 rfl rfl)
theorem dX0_orNotFound_2 : decode cX0_orNotFound 2 = .ok (.if_icmp .ne 8, 3) := dk_160 0 8 (dk_at dksX0_orNotFound_0 2 rfl rfl)
theorem dX0_orNotFound_5 : decode cX0_orNotFound 5 = .ok (.ldc 110, 2) := dk_18 110 (dk_at dksX0_orNotFound_0 5 rfl rfl)
theorem dX0_orNotFound_7 : decode cX0_orNotFound 7 = .ok (.goto 4, 3) := dk_167 0 4 (dk_at dksX0_orNotFound_0 7 rfl rfl)
theorem dX0_orNotFound_10 : decode cX0_orNotFound 10 = .ok (.iload_n 0, 1) := dk_26 (dk_at dksX0_orNotFound_0 10 rfl rfl)
theorem dX0_orNotFound_11 : decode cX0_orNotFound 11 = .ok (.ireturn, 1) := dk_172 (dk_at dksX0_orNotFound_0 11 rfl rfl)
abbrev cX0_lambda_tellers_4 : ByteArray := prog_1_method_48_code
def yX0_lambda_tellers_4 : MethodName := ⟨RX0, "lambda$tellers$4", "(LLectureTurns$Turn;)I"⟩
def dkwX0_lambda_tellers_4_0 : List UInt8 := [42, 180, 0, 150, 182, 0, 154, 172]
abbrev dktX0_lambda_tellers_4_0 : List UInt8 := dkwX0_lambda_tellers_4_0 ++ []
theorem dksX0_lambda_tellers_4_0 : cX0_lambda_tellers_4.data.toList.drop 0 = dktX0_lambda_tellers_4_0 := by decide +kernel
theorem dX0_lambda_tellers_4_0 : decode cX0_lambda_tellers_4 0 = .ok (.aload_n 0, 1) := dk_42 (dk_at dksX0_lambda_tellers_4_0 0 rfl rfl)
theorem dX0_lambda_tellers_4_1 : decode cX0_lambda_tellers_4 1 = .ok (.getfield 150, 3) := dk_180 0 150 (dk_at dksX0_lambda_tellers_4_0 1 rfl rfl)
theorem dX0_lambda_tellers_4_4 : decode cX0_lambda_tellers_4 4 = .ok (.invokevirtual 154, 3) := dk_182 0 154 (dk_at dksX0_lambda_tellers_4_0 4 rfl rfl)
theorem dX0_lambda_tellers_4_7 : decode cX0_lambda_tellers_4 7 = .ok (.ireturn, 1) := dk_172 (dk_at dksX0_lambda_tellers_4_0 7 rfl rfl)
abbrev cX0_lambda_tellers_5 : ByteArray := prog_1_method_47_code
def yX0_lambda_tellers_5 : MethodName := ⟨RX0, "lambda$tellers$5", "(LLectureTurns$Lecture;LLectureTurns$Turn;)I"⟩
def dkwX0_lambda_tellers_5_0 : List UInt8 := [42, 43, 182, 1, 12, 172]
abbrev dktX0_lambda_tellers_5_0 : List UInt8 := dkwX0_lambda_tellers_5_0 ++ []
theorem dksX0_lambda_tellers_5_0 : cX0_lambda_tellers_5.data.toList.drop 0 = dktX0_lambda_tellers_5_0 := by decide +kernel
theorem dX0_lambda_tellers_5_0 : decode cX0_lambda_tellers_5 0 = .ok (.aload_n 0, 1) := dk_42 (dk_at dksX0_lambda_tellers_5_0 0 rfl rfl)
theorem dX0_lambda_tellers_5_1 : decode cX0_lambda_tellers_5 1 = .ok (.aload_n 1, 1) := dk_43 (dk_at dksX0_lambda_tellers_5_0 1 rfl rfl)
theorem dX0_lambda_tellers_5_2 : decode cX0_lambda_tellers_5 2 = .ok (.invokevirtual 268, 3) := dk_182 1 12 (dk_at dksX0_lambda_tellers_5_0 2 rfl rfl)
theorem dX0_lambda_tellers_5_5 : decode cX0_lambda_tellers_5 5 = .ok (.ireturn, 1) := dk_172 (dk_at dksX0_lambda_tellers_5_0 5 rfl rfl)
abbrev cX0_lambda_tellers_6 : ByteArray := prog_1_method_46_code
def yX0_lambda_tellers_6 : MethodName := ⟨RX0, "lambda$tellers$6", "(LLectureTurns$Lecture;LLectureTurns$Turn;)I"⟩
def dkwX0_lambda_tellers_6_0 : List UInt8 := [42, 43, 182, 1, 74, 172]
abbrev dktX0_lambda_tellers_6_0 : List UInt8 := dkwX0_lambda_tellers_6_0 ++ []
theorem dksX0_lambda_tellers_6_0 : cX0_lambda_tellers_6.data.toList.drop 0 = dktX0_lambda_tellers_6_0 := by decide +kernel
theorem dX0_lambda_tellers_6_0 : decode cX0_lambda_tellers_6 0 = .ok (.aload_n 0, 1) := dk_42 (dk_at dksX0_lambda_tellers_6_0 0 rfl rfl)
theorem dX0_lambda_tellers_6_1 : decode cX0_lambda_tellers_6 1 = .ok (.aload_n 1, 1) := dk_43 (dk_at dksX0_lambda_tellers_6_0 1 rfl rfl)
theorem dX0_lambda_tellers_6_2 : decode cX0_lambda_tellers_6 2 = .ok (.invokevirtual 330, 3) := dk_182 1 74 (dk_at dksX0_lambda_tellers_6_0 2 rfl rfl)
theorem dX0_lambda_tellers_6_5 : decode cX0_lambda_tellers_6 5 = .ok (.ireturn, 1) := dk_172 (dk_at dksX0_lambda_tellers_6_0 5 rfl rfl)
abbrev cX0_lambda_tellers_7 : ByteArray := prog_1_method_45_code
def yX0_lambda_tellers_7 : MethodName := ⟨RX0, "lambda$tellers$7", "(LLectureTurns$Lecture;LLectureTurns$Turn;)I"⟩
def dkwX0_lambda_tellers_7_0 : List UInt8 := [42, 43, 182, 1, 71, 172]
abbrev dktX0_lambda_tellers_7_0 : List UInt8 := dkwX0_lambda_tellers_7_0 ++ []
theorem dksX0_lambda_tellers_7_0 : cX0_lambda_tellers_7.data.toList.drop 0 = dktX0_lambda_tellers_7_0 := by decide +kernel
theorem dX0_lambda_tellers_7_0 : decode cX0_lambda_tellers_7 0 = .ok (.aload_n 0, 1) := dk_42 (dk_at dksX0_lambda_tellers_7_0 0 rfl rfl)
theorem dX0_lambda_tellers_7_1 : decode cX0_lambda_tellers_7 1 = .ok (.aload_n 1, 1) := dk_43 (dk_at dksX0_lambda_tellers_7_0 1 rfl rfl)
theorem dX0_lambda_tellers_7_2 : decode cX0_lambda_tellers_7 2 = .ok (.invokevirtual 327, 3) := dk_182 1 71 (dk_at dksX0_lambda_tellers_7_0 2 rfl rfl)
theorem dX0_lambda_tellers_7_5 : decode cX0_lambda_tellers_7 5 = .ok (.ireturn, 1) := dk_172 (dk_at dksX0_lambda_tellers_7_0 5 rfl rfl)
abbrev cX0_termAt : ByteArray := prog_1_method_22_code
def yX0_termAt : MethodName := ⟨RX0, "termAt", "(III)I"⟩
def dkwX0_termAt_4 : List UInt8 := [182, 0, 166, 172]
abbrev dktX0_termAt_4 : List UInt8 := dkwX0_termAt_4 ++ []
def dkwX0_termAt_3 : List UInt8 := [192, 0, 161, 182, 0, 163, 54, 5, 29, 154, 0, 8, 21, 5, 167, 0, 12, 42, 180, 0, 27, 21, 5]
abbrev dktX0_termAt_3 : List UInt8 := dkwX0_termAt_3 ++ dktX0_termAt_4
def dkwX0_termAt_2 : List UInt8 := [25, 4, 180, 0, 150, 182, 0, 154, 161, 0, 6, 18, 110, 172, 25, 4, 180, 0, 150, 28, 182, 0, 157]
abbrev dktX0_termAt_2 : List UInt8 := dkwX0_termAt_2 ++ dktX0_termAt_3
def dkwX0_termAt_1 : List UInt8 := [154, 0, 6, 18, 109, 172, 42, 180, 0, 27, 180, 0, 132, 27, 182, 0, 136, 192, 0, 142, 58, 4, 28]
abbrev dktX0_termAt_1 : List UInt8 := dkwX0_termAt_1 ++ dktX0_termAt_2
def dkwX0_termAt_0 : List UInt8 := [42, 180, 0, 27, 27, 182, 0, 126, 153, 0, 17, 28, 155, 0, 13, 29, 133, 9, 10, 184, 0, 5]
abbrev dktX0_termAt_0 : List UInt8 := dkwX0_termAt_0 ++ dktX0_termAt_1
theorem dksX0_termAt_0 : cX0_termAt.data.toList.drop 0 = dktX0_termAt_0 := by decide +kernel
theorem dksX0_termAt_1 : cX0_termAt.data.toList.drop 22 = dktX0_termAt_1 := dk_seg dksX0_termAt_0 22 rfl rfl
theorem dksX0_termAt_2 : cX0_termAt.data.toList.drop 45 = dktX0_termAt_2 := dk_seg dksX0_termAt_1 23 rfl rfl
theorem dksX0_termAt_3 : cX0_termAt.data.toList.drop 68 = dktX0_termAt_3 := dk_seg dksX0_termAt_2 23 rfl rfl
theorem dksX0_termAt_4 : cX0_termAt.data.toList.drop 91 = dktX0_termAt_4 := dk_seg dksX0_termAt_3 23 rfl rfl
theorem dX0_termAt_0 : decode cX0_termAt 0 = .ok (.aload_n 0, 1) := dk_42 (dk_at dksX0_termAt_0 0 rfl rfl)
theorem dX0_termAt_1 : decode cX0_termAt 1 = .ok (.getfield 27, 3) := dk_180 0 27 (dk_at dksX0_termAt_0 1 rfl rfl)
theorem dX0_termAt_4 : decode cX0_termAt 4 = .ok (.iload_n 1, 1) := dk_27 (dk_at dksX0_termAt_0 4 rfl rfl)
theorem dX0_termAt_5 : decode cX0_termAt 5 = .ok (.invokevirtual 126, 3) := dk_182 0 126 (dk_at dksX0_termAt_0 5 rfl rfl)
theorem dX0_termAt_8 : decode cX0_termAt 8 = .ok (.ifCond .eq 17, 3) := dk_153 0 17 (dk_at dksX0_termAt_0 8 rfl rfl)
theorem dX0_termAt_11 : decode cX0_termAt 11 = .ok (.iload_n 2, 1) := dk_28 (dk_at dksX0_termAt_0 11 rfl rfl)
theorem dX0_termAt_12 : decode cX0_termAt 12 = .ok (.ifCond .lt 13, 3) := dk_155 0 13 (dk_at dksX0_termAt_0 12 rfl rfl)
theorem dX0_termAt_15 : decode cX0_termAt 15 = .ok (.iload_n 3, 1) := dk_29 (dk_at dksX0_termAt_0 15 rfl rfl)
theorem dX0_termAt_16 : decode cX0_termAt 16 = .ok (.i2l, 1) := dk_133 (dk_at dksX0_termAt_0 16 rfl rfl)
theorem dX0_termAt_17 : decode cX0_termAt 17 = .ok (.lconst 0, 1) := dk_9 (dk_at dksX0_termAt_0 17 rfl rfl)
theorem dX0_termAt_18 : decode cX0_termAt 18 = .ok (.lconst 1, 1) := dk_10 (dk_at dksX0_termAt_0 18 rfl rfl)
theorem dX0_termAt_19 : decode cX0_termAt 19 = .ok (.invokestatic 5, 3) := dk_184 0 5 (dk_at dksX0_termAt_0 19 rfl rfl)
theorem dX0_termAt_22 : decode cX0_termAt 22 = .ok (.ifCond .ne 6, 3) := dk_154 0 6 (dk_at dksX0_termAt_1 0 rfl rfl)
theorem dX0_termAt_25 : decode cX0_termAt 25 = .ok (.ldc 109, 2) := dk_18 109 (dk_at dksX0_termAt_1 3 rfl rfl)
theorem dX0_termAt_27 : decode cX0_termAt 27 = .ok (.ireturn, 1) := dk_172 (dk_at dksX0_termAt_1 5 rfl rfl)
theorem dX0_termAt_28 : decode cX0_termAt 28 = .ok (.aload_n 0, 1) := dk_42 (dk_at dksX0_termAt_1 6 rfl rfl)
theorem dX0_termAt_29 : decode cX0_termAt 29 = .ok (.getfield 27, 3) := dk_180 0 27 (dk_at dksX0_termAt_1 7 rfl rfl)
theorem dX0_termAt_32 : decode cX0_termAt 32 = .ok (.getfield 132, 3) := dk_180 0 132 (dk_at dksX0_termAt_1 10 rfl rfl)
theorem dX0_termAt_35 : decode cX0_termAt 35 = .ok (.iload_n 1, 1) := dk_27 (dk_at dksX0_termAt_1 13 rfl rfl)
theorem dX0_termAt_36 : decode cX0_termAt 36 = .ok (.invokevirtual 136, 3) := dk_182 0 136 (dk_at dksX0_termAt_1 14 rfl rfl)
theorem dX0_termAt_39 : decode cX0_termAt 39 = .ok (.checkcast 142, 3) := dk_192 0 142 (dk_at dksX0_termAt_1 17 rfl rfl)
theorem dX0_termAt_42 : decode cX0_termAt 42 = .ok (.astore 4, 2) := dk_58 4 (dk_at dksX0_termAt_1 20 rfl rfl)
theorem dX0_termAt_44 : decode cX0_termAt 44 = .ok (.iload_n 2, 1) := dk_28 (dk_at dksX0_termAt_1 22 rfl rfl)
theorem dX0_termAt_45 : decode cX0_termAt 45 = .ok (.aload 4, 2) := dk_25 4 (dk_at dksX0_termAt_2 0 rfl rfl)
theorem dX0_termAt_47 : decode cX0_termAt 47 = .ok (.getfield 150, 3) := dk_180 0 150 (dk_at dksX0_termAt_2 2 rfl rfl)
theorem dX0_termAt_50 : decode cX0_termAt 50 = .ok (.invokevirtual 154, 3) := dk_182 0 154 (dk_at dksX0_termAt_2 5 rfl rfl)
theorem dX0_termAt_53 : decode cX0_termAt 53 = .ok (.if_icmp .lt 6, 3) := dk_161 0 6 (dk_at dksX0_termAt_2 8 rfl rfl)
theorem dX0_termAt_56 : decode cX0_termAt 56 = .ok (.ldc 110, 2) := dk_18 110 (dk_at dksX0_termAt_2 11 rfl rfl)
theorem dX0_termAt_58 : decode cX0_termAt 58 = .ok (.ireturn, 1) := dk_172 (dk_at dksX0_termAt_2 13 rfl rfl)
theorem dX0_termAt_59 : decode cX0_termAt 59 = .ok (.aload 4, 2) := dk_25 4 (dk_at dksX0_termAt_2 14 rfl rfl)
theorem dX0_termAt_61 : decode cX0_termAt 61 = .ok (.getfield 150, 3) := dk_180 0 150 (dk_at dksX0_termAt_2 16 rfl rfl)
theorem dX0_termAt_64 : decode cX0_termAt 64 = .ok (.iload_n 2, 1) := dk_28 (dk_at dksX0_termAt_2 19 rfl rfl)
theorem dX0_termAt_65 : decode cX0_termAt 65 = .ok (.invokevirtual 157, 3) := dk_182 0 157 (dk_at dksX0_termAt_2 20 rfl rfl)
theorem dX0_termAt_68 : decode cX0_termAt 68 = .ok (.checkcast 161, 3) := dk_192 0 161 (dk_at dksX0_termAt_3 0 rfl rfl)
theorem dX0_termAt_71 : decode cX0_termAt 71 = .ok (.invokevirtual 163, 3) := dk_182 0 163 (dk_at dksX0_termAt_3 3 rfl rfl)
theorem dX0_termAt_74 : decode cX0_termAt 74 = .ok (.istore 5, 2) := dk_54 5 (dk_at dksX0_termAt_3 6 rfl rfl)
theorem dX0_termAt_76 : decode cX0_termAt 76 = .ok (.iload_n 3, 1) := dk_29 (dk_at dksX0_termAt_3 8 rfl rfl)
theorem dX0_termAt_77 : decode cX0_termAt 77 = .ok (.ifCond .ne 8, 3) := dk_154 0 8 (dk_at dksX0_termAt_3 9 rfl rfl)
theorem dX0_termAt_80 : decode cX0_termAt 80 = .ok (.iload 5, 2) := dk_21 5 (dk_at dksX0_termAt_3 12 rfl rfl)
theorem dX0_termAt_82 : decode cX0_termAt 82 = .ok (.goto 12, 3) := dk_167 0 12 (dk_at dksX0_termAt_3 14 rfl rfl)
theorem dX0_termAt_85 : decode cX0_termAt 85 = .ok (.aload_n 0, 1) := dk_42 (dk_at dksX0_termAt_3 17 rfl rfl)
theorem dX0_termAt_86 : decode cX0_termAt 86 = .ok (.getfield 27, 3) := dk_180 0 27 (dk_at dksX0_termAt_3 18 rfl rfl)
theorem dX0_termAt_89 : decode cX0_termAt 89 = .ok (.iload 5, 2) := dk_21 5 (dk_at dksX0_termAt_3 21 rfl rfl)
theorem dX0_termAt_91 : decode cX0_termAt 91 = .ok (.invokevirtual 166, 3) := dk_182 0 166 (dk_at dksX0_termAt_4 0 rfl rfl)
theorem dX0_termAt_94 : decode cX0_termAt 94 = .ok (.ireturn, 1) := dk_172 (dk_at dksX0_termAt_4 3 rfl rfl)
abbrev cX0_termOf : ByteArray := prog_1_method_24_code
def yX0_termOf : MethodName := ⟨RX0, "termOf", "(II)I"⟩
def dkwX0_termOf_5 : List UInt8 := [172]
abbrev dktX0_termOf_5 : List UInt8 := dkwX0_termOf_5 ++ []
def dkwX0_termOf_4 : List UInt8 := [42, 27, 28, 8, 160, 0, 7, 4, 167, 0, 4, 3, 182, 0, 198, 172, 42, 180, 0, 27, 27, 182, 0, 192]
abbrev dktX0_termOf_4 : List UInt8 := dkwX0_termOf_4 ++ dktX0_termOf_5
def dkwX0_termOf_3 : List UInt8 := [180, 0, 27, 27, 182, 0, 189, 172, 42, 180, 0, 27, 42, 180, 0, 27, 27, 182, 0, 192, 182, 0, 195, 172]
abbrev dktX0_termOf_3 : List UInt8 := dkwX0_termOf_3 ++ dktX0_termOf_4
def dkwX0_termOf_2 : List UInt8 := [42, 180, 0, 27, 180, 0, 182, 27, 46, 184, 0, 186, 172, 42, 180, 0, 27, 27, 182, 0, 166, 172, 42]
abbrev dktX0_termOf_2 : List UInt8 := dkwX0_termOf_2 ++ dktX0_termOf_3
def dkwX0_termOf_1 : List UInt8 := [170, 0, 0, 0, 100, 0, 0, 0, 0, 0, 0, 0, 5, 0, 0, 0, 37, 0, 0, 0, 50, 0, 0, 0, 59, 0, 0, 0, 68, 0, 0, 0, 84, 0, 0, 0, 84]
abbrev dktX0_termOf_1 : List UInt8 := dkwX0_termOf_1 ++ dktX0_termOf_2
def dkwX0_termOf_0 : List UInt8 := [27, 184, 0, 177, 153, 0, 15, 28, 133, 9, 20, 0, 180, 184, 0, 5, 154, 0, 6, 18, 109, 172, 28]
abbrev dktX0_termOf_0 : List UInt8 := dkwX0_termOf_0 ++ dktX0_termOf_1
theorem dksX0_termOf_0 : cX0_termOf.data.toList.drop 0 = dktX0_termOf_0 := by decide +kernel
theorem dksX0_termOf_1 : cX0_termOf.data.toList.drop 23 = dktX0_termOf_1 := dk_seg dksX0_termOf_0 23 rfl rfl
theorem dksX0_termOf_2 : cX0_termOf.data.toList.drop 60 = dktX0_termOf_2 := dk_seg dksX0_termOf_1 37 rfl rfl
theorem dksX0_termOf_3 : cX0_termOf.data.toList.drop 83 = dktX0_termOf_3 := dk_seg dksX0_termOf_2 23 rfl rfl
theorem dksX0_termOf_4 : cX0_termOf.data.toList.drop 107 = dktX0_termOf_4 := dk_seg dksX0_termOf_3 24 rfl rfl
theorem dksX0_termOf_5 : cX0_termOf.data.toList.drop 131 = dktX0_termOf_5 := dk_seg dksX0_termOf_4 24 rfl rfl
theorem dX0_termOf_0 : decode cX0_termOf 0 = .ok (.iload_n 1, 1) := dk_27 (dk_at dksX0_termOf_0 0 rfl rfl)
theorem dX0_termOf_1 : decode cX0_termOf 1 = .ok (.invokestatic 177, 3) := dk_184 0 177 (dk_at dksX0_termOf_0 1 rfl rfl)
theorem dX0_termOf_4 : decode cX0_termOf 4 = .ok (.ifCond .eq 15, 3) := dk_153 0 15 (dk_at dksX0_termOf_0 4 rfl rfl)
theorem dX0_termOf_7 : decode cX0_termOf 7 = .ok (.iload_n 2, 1) := dk_28 (dk_at dksX0_termOf_0 7 rfl rfl)
theorem dX0_termOf_8 : decode cX0_termOf 8 = .ok (.i2l, 1) := dk_133 (dk_at dksX0_termOf_0 8 rfl rfl)
theorem dX0_termOf_9 : decode cX0_termOf 9 = .ok (.lconst 0, 1) := dk_9 (dk_at dksX0_termOf_0 9 rfl rfl)
theorem dX0_termOf_10 : decode cX0_termOf 10 = .ok (.ldc2_w 180, 3) := dk_20 0 180 (dk_at dksX0_termOf_0 10 rfl rfl)
theorem dX0_termOf_13 : decode cX0_termOf 13 = .ok (.invokestatic 5, 3) := dk_184 0 5 (dk_at dksX0_termOf_0 13 rfl rfl)
theorem dX0_termOf_16 : decode cX0_termOf 16 = .ok (.ifCond .ne 6, 3) := dk_154 0 6 (dk_at dksX0_termOf_0 16 rfl rfl)
theorem dX0_termOf_19 : decode cX0_termOf 19 = .ok (.ldc 109, 2) := dk_18 109 (dk_at dksX0_termOf_0 19 rfl rfl)
theorem dX0_termOf_21 : decode cX0_termOf 21 = .ok (.ireturn, 1) := dk_172 (dk_at dksX0_termOf_0 21 rfl rfl)
theorem dX0_termOf_22 : decode cX0_termOf 22 = .ok (.iload_n 2, 1) := dk_28 (dk_at dksX0_termOf_0 22 rfl rfl)
theorem dX0_termOf_23 : decode cX0_termOf 23 = .ok (.tableswitch 100 0 5 #[37, 50, 59, 68, 84, 84], 37) := by decide +kernel
theorem dX0_termOf_60 : decode cX0_termOf 60 = .ok (.aload_n 0, 1) := dk_42 (dk_at dksX0_termOf_2 0 rfl rfl)
theorem dX0_termOf_61 : decode cX0_termOf 61 = .ok (.getfield 27, 3) := dk_180 0 27 (dk_at dksX0_termOf_2 1 rfl rfl)
theorem dX0_termOf_64 : decode cX0_termOf 64 = .ok (.getfield 182, 3) := dk_180 0 182 (dk_at dksX0_termOf_2 4 rfl rfl)
theorem dX0_termOf_67 : decode cX0_termOf 67 = .ok (.iload_n 1, 1) := dk_27 (dk_at dksX0_termOf_2 7 rfl rfl)
theorem dX0_termOf_68 : decode cX0_termOf 68 = .ok (.iaload, 1) := dk_46 (dk_at dksX0_termOf_2 8 rfl rfl)
theorem dX0_termOf_69 : decode cX0_termOf 69 = .ok (.invokestatic 186, 3) := dk_184 0 186 (dk_at dksX0_termOf_2 9 rfl rfl)
theorem dX0_termOf_72 : decode cX0_termOf 72 = .ok (.ireturn, 1) := dk_172 (dk_at dksX0_termOf_2 12 rfl rfl)
theorem dX0_termOf_73 : decode cX0_termOf 73 = .ok (.aload_n 0, 1) := dk_42 (dk_at dksX0_termOf_2 13 rfl rfl)
theorem dX0_termOf_74 : decode cX0_termOf 74 = .ok (.getfield 27, 3) := dk_180 0 27 (dk_at dksX0_termOf_2 14 rfl rfl)
theorem dX0_termOf_77 : decode cX0_termOf 77 = .ok (.iload_n 1, 1) := dk_27 (dk_at dksX0_termOf_2 17 rfl rfl)
theorem dX0_termOf_78 : decode cX0_termOf 78 = .ok (.invokevirtual 166, 3) := dk_182 0 166 (dk_at dksX0_termOf_2 18 rfl rfl)
theorem dX0_termOf_81 : decode cX0_termOf 81 = .ok (.ireturn, 1) := dk_172 (dk_at dksX0_termOf_2 21 rfl rfl)
theorem dX0_termOf_82 : decode cX0_termOf 82 = .ok (.aload_n 0, 1) := dk_42 (dk_at dksX0_termOf_2 22 rfl rfl)
theorem dX0_termOf_83 : decode cX0_termOf 83 = .ok (.getfield 27, 3) := dk_180 0 27 (dk_at dksX0_termOf_3 0 rfl rfl)
theorem dX0_termOf_86 : decode cX0_termOf 86 = .ok (.iload_n 1, 1) := dk_27 (dk_at dksX0_termOf_3 3 rfl rfl)
theorem dX0_termOf_87 : decode cX0_termOf 87 = .ok (.invokevirtual 189, 3) := dk_182 0 189 (dk_at dksX0_termOf_3 4 rfl rfl)
theorem dX0_termOf_90 : decode cX0_termOf 90 = .ok (.ireturn, 1) := dk_172 (dk_at dksX0_termOf_3 7 rfl rfl)
theorem dX0_termOf_91 : decode cX0_termOf 91 = .ok (.aload_n 0, 1) := dk_42 (dk_at dksX0_termOf_3 8 rfl rfl)
theorem dX0_termOf_92 : decode cX0_termOf 92 = .ok (.getfield 27, 3) := dk_180 0 27 (dk_at dksX0_termOf_3 9 rfl rfl)
theorem dX0_termOf_95 : decode cX0_termOf 95 = .ok (.aload_n 0, 1) := dk_42 (dk_at dksX0_termOf_3 12 rfl rfl)
theorem dX0_termOf_96 : decode cX0_termOf 96 = .ok (.getfield 27, 3) := dk_180 0 27 (dk_at dksX0_termOf_3 13 rfl rfl)
theorem dX0_termOf_99 : decode cX0_termOf 99 = .ok (.iload_n 1, 1) := dk_27 (dk_at dksX0_termOf_3 16 rfl rfl)
theorem dX0_termOf_100 : decode cX0_termOf 100 = .ok (.invokevirtual 192, 3) := dk_182 0 192 (dk_at dksX0_termOf_3 17 rfl rfl)
theorem dX0_termOf_103 : decode cX0_termOf 103 = .ok (.invokevirtual 195, 3) := dk_182 0 195 (dk_at dksX0_termOf_3 20 rfl rfl)
theorem dX0_termOf_106 : decode cX0_termOf 106 = .ok (.ireturn, 1) := dk_172 (dk_at dksX0_termOf_3 23 rfl rfl)
theorem dX0_termOf_107 : decode cX0_termOf 107 = .ok (.aload_n 0, 1) := dk_42 (dk_at dksX0_termOf_4 0 rfl rfl)
theorem dX0_termOf_108 : decode cX0_termOf 108 = .ok (.iload_n 1, 1) := dk_27 (dk_at dksX0_termOf_4 1 rfl rfl)
theorem dX0_termOf_109 : decode cX0_termOf 109 = .ok (.iload_n 2, 1) := dk_28 (dk_at dksX0_termOf_4 2 rfl rfl)
theorem dX0_termOf_110 : decode cX0_termOf 110 = .ok (.iconst 5, 1) := dk_8 (dk_at dksX0_termOf_4 3 rfl rfl)
theorem dX0_termOf_111 : decode cX0_termOf 111 = .ok (.if_icmp .ne 7, 3) := dk_160 0 7 (dk_at dksX0_termOf_4 4 rfl rfl)
theorem dX0_termOf_114 : decode cX0_termOf 114 = .ok (.iconst 1, 1) := dk_4 (dk_at dksX0_termOf_4 7 rfl rfl)
theorem dX0_termOf_115 : decode cX0_termOf 115 = .ok (.goto 4, 3) := dk_167 0 4 (dk_at dksX0_termOf_4 8 rfl rfl)
theorem dX0_termOf_118 : decode cX0_termOf 118 = .ok (.iconst 0, 1) := dk_3 (dk_at dksX0_termOf_4 11 rfl rfl)
theorem dX0_termOf_119 : decode cX0_termOf 119 = .ok (.invokevirtual 198, 3) := dk_182 0 198 (dk_at dksX0_termOf_4 12 rfl rfl)
theorem dX0_termOf_122 : decode cX0_termOf 122 = .ok (.ireturn, 1) := dk_172 (dk_at dksX0_termOf_4 15 rfl rfl)
theorem dX0_termOf_123 : decode cX0_termOf 123 = .ok (.aload_n 0, 1) := dk_42 (dk_at dksX0_termOf_4 16 rfl rfl)
theorem dX0_termOf_124 : decode cX0_termOf 124 = .ok (.getfield 27, 3) := dk_180 0 27 (dk_at dksX0_termOf_4 17 rfl rfl)
theorem dX0_termOf_127 : decode cX0_termOf 127 = .ok (.iload_n 1, 1) := dk_27 (dk_at dksX0_termOf_4 20 rfl rfl)
theorem dX0_termOf_128 : decode cX0_termOf 128 = .ok (.invokevirtual 192, 3) := dk_182 0 192 (dk_at dksX0_termOf_4 21 rfl rfl)
theorem dX0_termOf_131 : decode cX0_termOf 131 = .ok (.ireturn, 1) := dk_172 (dk_at dksX0_termOf_5 0 rfl rfl)
abbrev cX0_showing : ByteArray := prog_1_method_23_code
def yX0_showing : MethodName := ⟨RX0, "showing", "(IZ)I"⟩
def dkwX0_showing_4 : List UInt8 := [3, 128, 62, 132, 4, 1, 167, 255, 159, 29, 172]
abbrev dktX0_showing_4 : List UInt8 := dkwX0_showing_4 ++ []
def dkwX0_showing_3 : List UInt8 := [180, 0, 174, 54, 7, 29, 21, 6, 153, 0, 16, 21, 7, 2, 159, 0, 10, 4, 21, 7, 120, 167, 0, 4]
abbrev dktX0_showing_3 : List UInt8 := dkwX0_showing_3 ++ dktX0_showing_4
def dkwX0_showing_2 : List UInt8 := [4, 126, 4, 160, 0, 7, 4, 167, 0, 4, 3, 54, 6, 28, 154, 0, 8, 21, 4, 167, 0, 8, 25, 5]
abbrev dktX0_showing_2 : List UInt8 := dkwX0_showing_2 ++ dktX0_showing_3
def dkwX0_showing_1 : List UInt8 := [180, 0, 132, 21, 4, 182, 0, 136, 192, 0, 142, 58, 5, 42, 180, 0, 27, 25, 5, 182, 0, 170, 27, 122]
abbrev dktX0_showing_1 : List UInt8 := dkwX0_showing_1 ++ dktX0_showing_2
def dkwX0_showing_0 : List UInt8 := [3, 62, 3, 54, 4, 21, 4, 42, 180, 0, 27, 180, 0, 132, 182, 0, 169, 162, 0, 88, 42, 180, 0, 27]
abbrev dktX0_showing_0 : List UInt8 := dkwX0_showing_0 ++ dktX0_showing_1
theorem dksX0_showing_0 : cX0_showing.data.toList.drop 0 = dktX0_showing_0 := by decide +kernel
theorem dksX0_showing_1 : cX0_showing.data.toList.drop 24 = dktX0_showing_1 := dk_seg dksX0_showing_0 24 rfl rfl
theorem dksX0_showing_2 : cX0_showing.data.toList.drop 48 = dktX0_showing_2 := dk_seg dksX0_showing_1 24 rfl rfl
theorem dksX0_showing_3 : cX0_showing.data.toList.drop 72 = dktX0_showing_3 := dk_seg dksX0_showing_2 24 rfl rfl
theorem dksX0_showing_4 : cX0_showing.data.toList.drop 96 = dktX0_showing_4 := dk_seg dksX0_showing_3 24 rfl rfl
theorem dX0_showing_0 : decode cX0_showing 0 = .ok (.iconst 0, 1) := dk_3 (dk_at dksX0_showing_0 0 rfl rfl)
theorem dX0_showing_1 : decode cX0_showing 1 = .ok (.istore_n 3, 1) := dk_62 (dk_at dksX0_showing_0 1 rfl rfl)
theorem dX0_showing_2 : decode cX0_showing 2 = .ok (.iconst 0, 1) := dk_3 (dk_at dksX0_showing_0 2 rfl rfl)
theorem dX0_showing_3 : decode cX0_showing 3 = .ok (.istore 4, 2) := dk_54 4 (dk_at dksX0_showing_0 3 rfl rfl)
theorem dX0_showing_5 : decode cX0_showing 5 = .ok (.iload 4, 2) := dk_21 4 (dk_at dksX0_showing_0 5 rfl rfl)
theorem dX0_showing_7 : decode cX0_showing 7 = .ok (.aload_n 0, 1) := dk_42 (dk_at dksX0_showing_0 7 rfl rfl)
theorem dX0_showing_8 : decode cX0_showing 8 = .ok (.getfield 27, 3) := dk_180 0 27 (dk_at dksX0_showing_0 8 rfl rfl)
theorem dX0_showing_11 : decode cX0_showing 11 = .ok (.getfield 132, 3) := dk_180 0 132 (dk_at dksX0_showing_0 11 rfl rfl)
theorem dX0_showing_14 : decode cX0_showing 14 = .ok (.invokevirtual 169, 3) := dk_182 0 169 (dk_at dksX0_showing_0 14 rfl rfl)
theorem dX0_showing_17 : decode cX0_showing 17 = .ok (.if_icmp .ge 88, 3) := dk_162 0 88 (dk_at dksX0_showing_0 17 rfl rfl)
theorem dX0_showing_20 : decode cX0_showing 20 = .ok (.aload_n 0, 1) := dk_42 (dk_at dksX0_showing_0 20 rfl rfl)
theorem dX0_showing_21 : decode cX0_showing 21 = .ok (.getfield 27, 3) := dk_180 0 27 (dk_at dksX0_showing_0 21 rfl rfl)
theorem dX0_showing_24 : decode cX0_showing 24 = .ok (.getfield 132, 3) := dk_180 0 132 (dk_at dksX0_showing_1 0 rfl rfl)
theorem dX0_showing_27 : decode cX0_showing 27 = .ok (.iload 4, 2) := dk_21 4 (dk_at dksX0_showing_1 3 rfl rfl)
theorem dX0_showing_29 : decode cX0_showing 29 = .ok (.invokevirtual 136, 3) := dk_182 0 136 (dk_at dksX0_showing_1 5 rfl rfl)
theorem dX0_showing_32 : decode cX0_showing 32 = .ok (.checkcast 142, 3) := dk_192 0 142 (dk_at dksX0_showing_1 8 rfl rfl)
theorem dX0_showing_35 : decode cX0_showing 35 = .ok (.astore 5, 2) := dk_58 5 (dk_at dksX0_showing_1 11 rfl rfl)
theorem dX0_showing_37 : decode cX0_showing 37 = .ok (.aload_n 0, 1) := dk_42 (dk_at dksX0_showing_1 13 rfl rfl)
theorem dX0_showing_38 : decode cX0_showing 38 = .ok (.getfield 27, 3) := dk_180 0 27 (dk_at dksX0_showing_1 14 rfl rfl)
theorem dX0_showing_41 : decode cX0_showing 41 = .ok (.aload 5, 2) := dk_25 5 (dk_at dksX0_showing_1 17 rfl rfl)
theorem dX0_showing_43 : decode cX0_showing 43 = .ok (.invokevirtual 170, 3) := dk_182 0 170 (dk_at dksX0_showing_1 19 rfl rfl)
theorem dX0_showing_46 : decode cX0_showing 46 = .ok (.iload_n 1, 1) := dk_27 (dk_at dksX0_showing_1 22 rfl rfl)
theorem dX0_showing_47 : decode cX0_showing 47 = .ok (.ishr, 1) := dk_122 (dk_at dksX0_showing_1 23 rfl rfl)
theorem dX0_showing_48 : decode cX0_showing 48 = .ok (.iconst 1, 1) := dk_4 (dk_at dksX0_showing_2 0 rfl rfl)
theorem dX0_showing_49 : decode cX0_showing 49 = .ok (.iand, 1) := dk_126 (dk_at dksX0_showing_2 1 rfl rfl)
theorem dX0_showing_50 : decode cX0_showing 50 = .ok (.iconst 1, 1) := dk_4 (dk_at dksX0_showing_2 2 rfl rfl)
theorem dX0_showing_51 : decode cX0_showing 51 = .ok (.if_icmp .ne 7, 3) := dk_160 0 7 (dk_at dksX0_showing_2 3 rfl rfl)
theorem dX0_showing_54 : decode cX0_showing 54 = .ok (.iconst 1, 1) := dk_4 (dk_at dksX0_showing_2 6 rfl rfl)
theorem dX0_showing_55 : decode cX0_showing 55 = .ok (.goto 4, 3) := dk_167 0 4 (dk_at dksX0_showing_2 7 rfl rfl)
theorem dX0_showing_58 : decode cX0_showing 58 = .ok (.iconst 0, 1) := dk_3 (dk_at dksX0_showing_2 10 rfl rfl)
theorem dX0_showing_59 : decode cX0_showing 59 = .ok (.istore 6, 2) := dk_54 6 (dk_at dksX0_showing_2 11 rfl rfl)
theorem dX0_showing_61 : decode cX0_showing 61 = .ok (.iload_n 2, 1) := dk_28 (dk_at dksX0_showing_2 13 rfl rfl)
theorem dX0_showing_62 : decode cX0_showing 62 = .ok (.ifCond .ne 8, 3) := dk_154 0 8 (dk_at dksX0_showing_2 14 rfl rfl)
theorem dX0_showing_65 : decode cX0_showing 65 = .ok (.iload 4, 2) := dk_21 4 (dk_at dksX0_showing_2 17 rfl rfl)
theorem dX0_showing_67 : decode cX0_showing 67 = .ok (.goto 8, 3) := dk_167 0 8 (dk_at dksX0_showing_2 19 rfl rfl)
theorem dX0_showing_70 : decode cX0_showing 70 = .ok (.aload 5, 2) := dk_25 5 (dk_at dksX0_showing_2 22 rfl rfl)
theorem dX0_showing_72 : decode cX0_showing 72 = .ok (.getfield 174, 3) := dk_180 0 174 (dk_at dksX0_showing_3 0 rfl rfl)
theorem dX0_showing_75 : decode cX0_showing 75 = .ok (.istore 7, 2) := dk_54 7 (dk_at dksX0_showing_3 3 rfl rfl)
theorem dX0_showing_77 : decode cX0_showing 77 = .ok (.iload_n 3, 1) := dk_29 (dk_at dksX0_showing_3 5 rfl rfl)
theorem dX0_showing_78 : decode cX0_showing 78 = .ok (.iload 6, 2) := dk_21 6 (dk_at dksX0_showing_3 6 rfl rfl)
theorem dX0_showing_80 : decode cX0_showing 80 = .ok (.ifCond .eq 16, 3) := dk_153 0 16 (dk_at dksX0_showing_3 8 rfl rfl)
theorem dX0_showing_83 : decode cX0_showing 83 = .ok (.iload 7, 2) := dk_21 7 (dk_at dksX0_showing_3 11 rfl rfl)
theorem dX0_showing_85 : decode cX0_showing 85 = .ok (.iconst (-1), 1) := dk_2 (dk_at dksX0_showing_3 13 rfl rfl)
theorem dX0_showing_86 : decode cX0_showing 86 = .ok (.if_icmp .eq 10, 3) := dk_159 0 10 (dk_at dksX0_showing_3 14 rfl rfl)
theorem dX0_showing_89 : decode cX0_showing 89 = .ok (.iconst 1, 1) := dk_4 (dk_at dksX0_showing_3 17 rfl rfl)
theorem dX0_showing_90 : decode cX0_showing 90 = .ok (.iload 7, 2) := dk_21 7 (dk_at dksX0_showing_3 18 rfl rfl)
theorem dX0_showing_92 : decode cX0_showing 92 = .ok (.ishl, 1) := dk_120 (dk_at dksX0_showing_3 20 rfl rfl)
theorem dX0_showing_93 : decode cX0_showing 93 = .ok (.goto 4, 3) := dk_167 0 4 (dk_at dksX0_showing_3 21 rfl rfl)
theorem dX0_showing_96 : decode cX0_showing 96 = .ok (.iconst 0, 1) := dk_3 (dk_at dksX0_showing_4 0 rfl rfl)
theorem dX0_showing_97 : decode cX0_showing 97 = .ok (.ior, 1) := dk_128 (dk_at dksX0_showing_4 1 rfl rfl)
theorem dX0_showing_98 : decode cX0_showing 98 = .ok (.istore_n 3, 1) := dk_62 (dk_at dksX0_showing_4 2 rfl rfl)
theorem dX0_showing_99 : decode cX0_showing 99 = .ok (.iinc 4 1, 3) := dk_132 4 1 (dk_at dksX0_showing_4 3 rfl rfl)
theorem dX0_showing_102 : decode cX0_showing 102 = .ok (.goto (-97), 3) := dk_167 255 159 (dk_at dksX0_showing_4 6 rfl rfl)
theorem dX0_showing_105 : decode cX0_showing 105 = .ok (.iload_n 3, 1) := dk_29 (dk_at dksX0_showing_4 9 rfl rfl)
theorem dX0_showing_106 : decode cX0_showing 106 = .ok (.ireturn, 1) := dk_172 (dk_at dksX0_showing_4 10 rfl rfl)
abbrev cX0_speakerOf : ByteArray := prog_1_method_26_code
def yX0_speakerOf : MethodName := ⟨RX0, "speakerOf", "(II)I"⟩
def dkwX0_speakerOf_6 : List UInt8 := [184, 0, 221, 172]
abbrev dktX0_speakerOf_6 : List UInt8 := dkwX0_speakerOf_6 ++ []
def dkwX0_speakerOf_5 : List UInt8 := [29, 154, 0, 8, 18, 110, 167, 0, 20, 42, 27, 16, 6, 182, 0, 208, 134, 18, 220, 106, 29, 134, 110]
abbrev dktX0_speakerOf_5 : List UInt8 := dkwX0_speakerOf_5 ++ dktX0_speakerOf_6
def dkwX0_speakerOf_4 : List UInt8 := [182, 0, 208, 172, 42, 180, 0, 27, 27, 2, 182, 0, 217, 172, 42, 180, 0, 27, 2, 27, 182, 0, 217, 172]
abbrev dktX0_speakerOf_4 : List UInt8 := dkwX0_speakerOf_4 ++ dktX0_speakerOf_5
def dkwX0_speakerOf_3 : List UInt8 := [42, 180, 0, 27, 180, 0, 211, 27, 46, 172, 42, 180, 0, 27, 27, 182, 0, 214, 172, 29, 172, 42, 27, 6]
abbrev dktX0_speakerOf_3 : List UInt8 := dkwX0_speakerOf_3 ++ dktX0_speakerOf_4
def dkwX0_speakerOf_2 : List UInt8 := [170, 0, 0, 0, 0, 86, 0, 0, 0, 0, 0, 0, 0, 5, 0, 0, 0, 38, 0, 0, 0, 48, 0, 0, 0, 57, 0, 0, 0, 59, 0, 0, 0, 66, 0, 0, 0, 76]
abbrev dktX0_speakerOf_2 : List UInt8 := dkwX0_speakerOf_2 ++ dktX0_speakerOf_3
def dkwX0_speakerOf_1 : List UInt8 := [18, 109, 172, 42, 27, 5, 182, 0, 208, 62, 28]
abbrev dktX0_speakerOf_1 : List UInt8 := dkwX0_speakerOf_1 ++ dktX0_speakerOf_2
def dkwX0_speakerOf_0 : List UInt8 := [42, 180, 0, 27, 27, 182, 0, 205, 153, 0, 15, 28, 133, 9, 20, 0, 180, 184, 0, 5, 154, 0, 6]
abbrev dktX0_speakerOf_0 : List UInt8 := dkwX0_speakerOf_0 ++ dktX0_speakerOf_1
theorem dksX0_speakerOf_0 : cX0_speakerOf.data.toList.drop 0 = dktX0_speakerOf_0 := by decide +kernel
theorem dksX0_speakerOf_1 : cX0_speakerOf.data.toList.drop 23 = dktX0_speakerOf_1 := dk_seg dksX0_speakerOf_0 23 rfl rfl
theorem dksX0_speakerOf_2 : cX0_speakerOf.data.toList.drop 34 = dktX0_speakerOf_2 := dk_seg dksX0_speakerOf_1 11 rfl rfl
theorem dksX0_speakerOf_3 : cX0_speakerOf.data.toList.drop 72 = dktX0_speakerOf_3 := dk_seg dksX0_speakerOf_2 38 rfl rfl
theorem dksX0_speakerOf_4 : cX0_speakerOf.data.toList.drop 96 = dktX0_speakerOf_4 := dk_seg dksX0_speakerOf_3 24 rfl rfl
theorem dksX0_speakerOf_5 : cX0_speakerOf.data.toList.drop 120 = dktX0_speakerOf_5 := dk_seg dksX0_speakerOf_4 24 rfl rfl
theorem dksX0_speakerOf_6 : cX0_speakerOf.data.toList.drop 143 = dktX0_speakerOf_6 := dk_seg dksX0_speakerOf_5 23 rfl rfl
theorem dX0_speakerOf_0 : decode cX0_speakerOf 0 = .ok (.aload_n 0, 1) := dk_42 (dk_at dksX0_speakerOf_0 0 rfl rfl)
theorem dX0_speakerOf_1 : decode cX0_speakerOf 1 = .ok (.getfield 27, 3) := dk_180 0 27 (dk_at dksX0_speakerOf_0 1 rfl rfl)
theorem dX0_speakerOf_4 : decode cX0_speakerOf 4 = .ok (.iload_n 1, 1) := dk_27 (dk_at dksX0_speakerOf_0 4 rfl rfl)
theorem dX0_speakerOf_5 : decode cX0_speakerOf 5 = .ok (.invokevirtual 205, 3) := dk_182 0 205 (dk_at dksX0_speakerOf_0 5 rfl rfl)
theorem dX0_speakerOf_8 : decode cX0_speakerOf 8 = .ok (.ifCond .eq 15, 3) := dk_153 0 15 (dk_at dksX0_speakerOf_0 8 rfl rfl)
theorem dX0_speakerOf_11 : decode cX0_speakerOf 11 = .ok (.iload_n 2, 1) := dk_28 (dk_at dksX0_speakerOf_0 11 rfl rfl)
theorem dX0_speakerOf_12 : decode cX0_speakerOf 12 = .ok (.i2l, 1) := dk_133 (dk_at dksX0_speakerOf_0 12 rfl rfl)
theorem dX0_speakerOf_13 : decode cX0_speakerOf 13 = .ok (.lconst 0, 1) := dk_9 (dk_at dksX0_speakerOf_0 13 rfl rfl)
theorem dX0_speakerOf_14 : decode cX0_speakerOf 14 = .ok (.ldc2_w 180, 3) := dk_20 0 180 (dk_at dksX0_speakerOf_0 14 rfl rfl)
theorem dX0_speakerOf_17 : decode cX0_speakerOf 17 = .ok (.invokestatic 5, 3) := dk_184 0 5 (dk_at dksX0_speakerOf_0 17 rfl rfl)
theorem dX0_speakerOf_20 : decode cX0_speakerOf 20 = .ok (.ifCond .ne 6, 3) := dk_154 0 6 (dk_at dksX0_speakerOf_0 20 rfl rfl)
theorem dX0_speakerOf_23 : decode cX0_speakerOf 23 = .ok (.ldc 109, 2) := dk_18 109 (dk_at dksX0_speakerOf_1 0 rfl rfl)
theorem dX0_speakerOf_25 : decode cX0_speakerOf 25 = .ok (.ireturn, 1) := dk_172 (dk_at dksX0_speakerOf_1 2 rfl rfl)
theorem dX0_speakerOf_26 : decode cX0_speakerOf 26 = .ok (.aload_n 0, 1) := dk_42 (dk_at dksX0_speakerOf_1 3 rfl rfl)
theorem dX0_speakerOf_27 : decode cX0_speakerOf 27 = .ok (.iload_n 1, 1) := dk_27 (dk_at dksX0_speakerOf_1 4 rfl rfl)
theorem dX0_speakerOf_28 : decode cX0_speakerOf 28 = .ok (.iconst 2, 1) := dk_5 (dk_at dksX0_speakerOf_1 5 rfl rfl)
theorem dX0_speakerOf_29 : decode cX0_speakerOf 29 = .ok (.invokevirtual 208, 3) := dk_182 0 208 (dk_at dksX0_speakerOf_1 6 rfl rfl)
theorem dX0_speakerOf_32 : decode cX0_speakerOf 32 = .ok (.istore_n 3, 1) := dk_62 (dk_at dksX0_speakerOf_1 9 rfl rfl)
theorem dX0_speakerOf_33 : decode cX0_speakerOf 33 = .ok (.iload_n 2, 1) := dk_28 (dk_at dksX0_speakerOf_1 10 rfl rfl)
theorem dX0_speakerOf_34 : decode cX0_speakerOf 34 = .ok (.tableswitch 86 0 5 #[38, 48, 57, 59, 66, 76], 38) := by decide +kernel
theorem dX0_speakerOf_72 : decode cX0_speakerOf 72 = .ok (.aload_n 0, 1) := dk_42 (dk_at dksX0_speakerOf_3 0 rfl rfl)
theorem dX0_speakerOf_73 : decode cX0_speakerOf 73 = .ok (.getfield 27, 3) := dk_180 0 27 (dk_at dksX0_speakerOf_3 1 rfl rfl)
theorem dX0_speakerOf_76 : decode cX0_speakerOf 76 = .ok (.getfield 211, 3) := dk_180 0 211 (dk_at dksX0_speakerOf_3 4 rfl rfl)
theorem dX0_speakerOf_79 : decode cX0_speakerOf 79 = .ok (.iload_n 1, 1) := dk_27 (dk_at dksX0_speakerOf_3 7 rfl rfl)
theorem dX0_speakerOf_80 : decode cX0_speakerOf 80 = .ok (.iaload, 1) := dk_46 (dk_at dksX0_speakerOf_3 8 rfl rfl)
theorem dX0_speakerOf_81 : decode cX0_speakerOf 81 = .ok (.ireturn, 1) := dk_172 (dk_at dksX0_speakerOf_3 9 rfl rfl)
theorem dX0_speakerOf_82 : decode cX0_speakerOf 82 = .ok (.aload_n 0, 1) := dk_42 (dk_at dksX0_speakerOf_3 10 rfl rfl)
theorem dX0_speakerOf_83 : decode cX0_speakerOf 83 = .ok (.getfield 27, 3) := dk_180 0 27 (dk_at dksX0_speakerOf_3 11 rfl rfl)
theorem dX0_speakerOf_86 : decode cX0_speakerOf 86 = .ok (.iload_n 1, 1) := dk_27 (dk_at dksX0_speakerOf_3 14 rfl rfl)
theorem dX0_speakerOf_87 : decode cX0_speakerOf 87 = .ok (.invokevirtual 214, 3) := dk_182 0 214 (dk_at dksX0_speakerOf_3 15 rfl rfl)
theorem dX0_speakerOf_90 : decode cX0_speakerOf 90 = .ok (.ireturn, 1) := dk_172 (dk_at dksX0_speakerOf_3 18 rfl rfl)
theorem dX0_speakerOf_91 : decode cX0_speakerOf 91 = .ok (.iload_n 3, 1) := dk_29 (dk_at dksX0_speakerOf_3 19 rfl rfl)
theorem dX0_speakerOf_92 : decode cX0_speakerOf 92 = .ok (.ireturn, 1) := dk_172 (dk_at dksX0_speakerOf_3 20 rfl rfl)
theorem dX0_speakerOf_93 : decode cX0_speakerOf 93 = .ok (.aload_n 0, 1) := dk_42 (dk_at dksX0_speakerOf_3 21 rfl rfl)
theorem dX0_speakerOf_94 : decode cX0_speakerOf 94 = .ok (.iload_n 1, 1) := dk_27 (dk_at dksX0_speakerOf_3 22 rfl rfl)
theorem dX0_speakerOf_95 : decode cX0_speakerOf 95 = .ok (.iconst 3, 1) := dk_6 (dk_at dksX0_speakerOf_3 23 rfl rfl)
theorem dX0_speakerOf_96 : decode cX0_speakerOf 96 = .ok (.invokevirtual 208, 3) := dk_182 0 208 (dk_at dksX0_speakerOf_4 0 rfl rfl)
theorem dX0_speakerOf_99 : decode cX0_speakerOf 99 = .ok (.ireturn, 1) := dk_172 (dk_at dksX0_speakerOf_4 3 rfl rfl)
theorem dX0_speakerOf_100 : decode cX0_speakerOf 100 = .ok (.aload_n 0, 1) := dk_42 (dk_at dksX0_speakerOf_4 4 rfl rfl)
theorem dX0_speakerOf_101 : decode cX0_speakerOf 101 = .ok (.getfield 27, 3) := dk_180 0 27 (dk_at dksX0_speakerOf_4 5 rfl rfl)
theorem dX0_speakerOf_104 : decode cX0_speakerOf 104 = .ok (.iload_n 1, 1) := dk_27 (dk_at dksX0_speakerOf_4 8 rfl rfl)
theorem dX0_speakerOf_105 : decode cX0_speakerOf 105 = .ok (.iconst (-1), 1) := dk_2 (dk_at dksX0_speakerOf_4 9 rfl rfl)
theorem dX0_speakerOf_106 : decode cX0_speakerOf 106 = .ok (.invokevirtual 217, 3) := dk_182 0 217 (dk_at dksX0_speakerOf_4 10 rfl rfl)
theorem dX0_speakerOf_109 : decode cX0_speakerOf 109 = .ok (.ireturn, 1) := dk_172 (dk_at dksX0_speakerOf_4 13 rfl rfl)
theorem dX0_speakerOf_110 : decode cX0_speakerOf 110 = .ok (.aload_n 0, 1) := dk_42 (dk_at dksX0_speakerOf_4 14 rfl rfl)
theorem dX0_speakerOf_111 : decode cX0_speakerOf 111 = .ok (.getfield 27, 3) := dk_180 0 27 (dk_at dksX0_speakerOf_4 15 rfl rfl)
theorem dX0_speakerOf_114 : decode cX0_speakerOf 114 = .ok (.iconst (-1), 1) := dk_2 (dk_at dksX0_speakerOf_4 18 rfl rfl)
theorem dX0_speakerOf_115 : decode cX0_speakerOf 115 = .ok (.iload_n 1, 1) := dk_27 (dk_at dksX0_speakerOf_4 19 rfl rfl)
theorem dX0_speakerOf_116 : decode cX0_speakerOf 116 = .ok (.invokevirtual 217, 3) := dk_182 0 217 (dk_at dksX0_speakerOf_4 20 rfl rfl)
theorem dX0_speakerOf_119 : decode cX0_speakerOf 119 = .ok (.ireturn, 1) := dk_172 (dk_at dksX0_speakerOf_4 23 rfl rfl)
theorem dX0_speakerOf_120 : decode cX0_speakerOf 120 = .ok (.iload_n 3, 1) := dk_29 (dk_at dksX0_speakerOf_5 0 rfl rfl)
theorem dX0_speakerOf_121 : decode cX0_speakerOf 121 = .ok (.ifCond .ne 8, 3) := dk_154 0 8 (dk_at dksX0_speakerOf_5 1 rfl rfl)
theorem dX0_speakerOf_124 : decode cX0_speakerOf 124 = .ok (.ldc 110, 2) := dk_18 110 (dk_at dksX0_speakerOf_5 4 rfl rfl)
theorem dX0_speakerOf_126 : decode cX0_speakerOf 126 = .ok (.goto 20, 3) := dk_167 0 20 (dk_at dksX0_speakerOf_5 6 rfl rfl)
theorem dX0_speakerOf_129 : decode cX0_speakerOf 129 = .ok (.aload_n 0, 1) := dk_42 (dk_at dksX0_speakerOf_5 9 rfl rfl)
theorem dX0_speakerOf_130 : decode cX0_speakerOf 130 = .ok (.iload_n 1, 1) := dk_27 (dk_at dksX0_speakerOf_5 10 rfl rfl)
theorem dX0_speakerOf_131 : decode cX0_speakerOf 131 = .ok (.bipush 6, 2) := dk_16 6 (dk_at dksX0_speakerOf_5 11 rfl rfl)
theorem dX0_speakerOf_133 : decode cX0_speakerOf 133 = .ok (.invokevirtual 208, 3) := dk_182 0 208 (dk_at dksX0_speakerOf_5 13 rfl rfl)
theorem dX0_speakerOf_136 : decode cX0_speakerOf 136 = .ok (.i2f, 1) := dk_134 (dk_at dksX0_speakerOf_5 16 rfl rfl)
theorem dX0_speakerOf_137 : decode cX0_speakerOf 137 = .ok (.ldc 220, 2) := dk_18 220 (dk_at dksX0_speakerOf_5 17 rfl rfl)
theorem dX0_speakerOf_139 : decode cX0_speakerOf 139 = .ok (.fmul, 1) := dk_106 (dk_at dksX0_speakerOf_5 19 rfl rfl)
theorem dX0_speakerOf_140 : decode cX0_speakerOf 140 = .ok (.iload_n 3, 1) := dk_29 (dk_at dksX0_speakerOf_5 20 rfl rfl)
theorem dX0_speakerOf_141 : decode cX0_speakerOf 141 = .ok (.i2f, 1) := dk_134 (dk_at dksX0_speakerOf_5 21 rfl rfl)
theorem dX0_speakerOf_142 : decode cX0_speakerOf 142 = .ok (.fdiv, 1) := dk_110 (dk_at dksX0_speakerOf_5 22 rfl rfl)
theorem dX0_speakerOf_143 : decode cX0_speakerOf 143 = .ok (.invokestatic 221, 3) := dk_184 0 221 (dk_at dksX0_speakerOf_6 0 rfl rfl)
theorem dX0_speakerOf_146 : decode cX0_speakerOf 146 = .ok (.ireturn, 1) := dk_172 (dk_at dksX0_speakerOf_6 3 rfl rfl)
abbrev cX0_ofTurns : ByteArray := prog_1_method_25_code
def yX0_ofTurns : MethodName := ⟨RX0, "ofTurns", "(II)I"⟩
def dkwX0_ofTurns_5 : List UInt8 := [167, 255, 149, 28, 6, 160, 0, 8, 21, 4, 167, 0, 4, 29, 172]
abbrev dktX0_ofTurns_5 : List UInt8 := dkwX0_ofTurns_5 ++ []
def dkwX0_ofTurns_4 : List UInt8 := [21, 7, 153, 0, 15, 42, 180, 0, 27, 25, 6, 182, 0, 170, 167, 0, 4, 3, 128, 54, 4, 132, 5, 1]
abbrev dktX0_ofTurns_4 : List UInt8 := dkwX0_ofTurns_4 ++ dktX0_ofTurns_5
def dkwX0_ofTurns_3 : List UInt8 := [160, 0, 11, 25, 6, 182, 0, 202, 167, 0, 11, 25, 6, 180, 0, 150, 182, 0, 154, 96, 62, 21, 4]
abbrev dktX0_ofTurns_3 : List UInt8 := dkwX0_ofTurns_3 ++ dktX0_ofTurns_4
def dkwX0_ofTurns_2 : List UInt8 := [160, 0, 7, 4, 167, 0, 4, 3, 54, 7, 29, 21, 7, 154, 0, 7, 3, 167, 0, 24, 28, 5]
abbrev dktX0_ofTurns_2 : List UInt8 := dkwX0_ofTurns_2 ++ dktX0_ofTurns_3
def dkwX0_ofTurns_1 : List UInt8 := [180, 0, 27, 180, 0, 132, 21, 5, 182, 0, 136, 192, 0, 142, 58, 6, 25, 6, 180, 0, 174, 27]
abbrev dktX0_ofTurns_1 : List UInt8 := dkwX0_ofTurns_1 ++ dktX0_ofTurns_2
def dkwX0_ofTurns_0 : List UInt8 := [3, 62, 3, 54, 4, 3, 54, 5, 21, 5, 42, 180, 0, 27, 180, 0, 132, 182, 0, 169, 162, 0, 98, 42]
abbrev dktX0_ofTurns_0 : List UInt8 := dkwX0_ofTurns_0 ++ dktX0_ofTurns_1
theorem dksX0_ofTurns_0 : cX0_ofTurns.data.toList.drop 0 = dktX0_ofTurns_0 := by decide +kernel
theorem dksX0_ofTurns_1 : cX0_ofTurns.data.toList.drop 24 = dktX0_ofTurns_1 := dk_seg dksX0_ofTurns_0 24 rfl rfl
theorem dksX0_ofTurns_2 : cX0_ofTurns.data.toList.drop 46 = dktX0_ofTurns_2 := dk_seg dksX0_ofTurns_1 22 rfl rfl
theorem dksX0_ofTurns_3 : cX0_ofTurns.data.toList.drop 68 = dktX0_ofTurns_3 := dk_seg dksX0_ofTurns_2 22 rfl rfl
theorem dksX0_ofTurns_4 : cX0_ofTurns.data.toList.drop 91 = dktX0_ofTurns_4 := dk_seg dksX0_ofTurns_3 23 rfl rfl
theorem dksX0_ofTurns_5 : cX0_ofTurns.data.toList.drop 115 = dktX0_ofTurns_5 := dk_seg dksX0_ofTurns_4 24 rfl rfl
theorem dX0_ofTurns_0 : decode cX0_ofTurns 0 = .ok (.iconst 0, 1) := dk_3 (dk_at dksX0_ofTurns_0 0 rfl rfl)
theorem dX0_ofTurns_1 : decode cX0_ofTurns 1 = .ok (.istore_n 3, 1) := dk_62 (dk_at dksX0_ofTurns_0 1 rfl rfl)
theorem dX0_ofTurns_2 : decode cX0_ofTurns 2 = .ok (.iconst 0, 1) := dk_3 (dk_at dksX0_ofTurns_0 2 rfl rfl)
theorem dX0_ofTurns_3 : decode cX0_ofTurns 3 = .ok (.istore 4, 2) := dk_54 4 (dk_at dksX0_ofTurns_0 3 rfl rfl)
theorem dX0_ofTurns_5 : decode cX0_ofTurns 5 = .ok (.iconst 0, 1) := dk_3 (dk_at dksX0_ofTurns_0 5 rfl rfl)
theorem dX0_ofTurns_6 : decode cX0_ofTurns 6 = .ok (.istore 5, 2) := dk_54 5 (dk_at dksX0_ofTurns_0 6 rfl rfl)
theorem dX0_ofTurns_8 : decode cX0_ofTurns 8 = .ok (.iload 5, 2) := dk_21 5 (dk_at dksX0_ofTurns_0 8 rfl rfl)
theorem dX0_ofTurns_10 : decode cX0_ofTurns 10 = .ok (.aload_n 0, 1) := dk_42 (dk_at dksX0_ofTurns_0 10 rfl rfl)
theorem dX0_ofTurns_11 : decode cX0_ofTurns 11 = .ok (.getfield 27, 3) := dk_180 0 27 (dk_at dksX0_ofTurns_0 11 rfl rfl)
theorem dX0_ofTurns_14 : decode cX0_ofTurns 14 = .ok (.getfield 132, 3) := dk_180 0 132 (dk_at dksX0_ofTurns_0 14 rfl rfl)
theorem dX0_ofTurns_17 : decode cX0_ofTurns 17 = .ok (.invokevirtual 169, 3) := dk_182 0 169 (dk_at dksX0_ofTurns_0 17 rfl rfl)
theorem dX0_ofTurns_20 : decode cX0_ofTurns 20 = .ok (.if_icmp .ge 98, 3) := dk_162 0 98 (dk_at dksX0_ofTurns_0 20 rfl rfl)
theorem dX0_ofTurns_23 : decode cX0_ofTurns 23 = .ok (.aload_n 0, 1) := dk_42 (dk_at dksX0_ofTurns_0 23 rfl rfl)
theorem dX0_ofTurns_24 : decode cX0_ofTurns 24 = .ok (.getfield 27, 3) := dk_180 0 27 (dk_at dksX0_ofTurns_1 0 rfl rfl)
theorem dX0_ofTurns_27 : decode cX0_ofTurns 27 = .ok (.getfield 132, 3) := dk_180 0 132 (dk_at dksX0_ofTurns_1 3 rfl rfl)
theorem dX0_ofTurns_30 : decode cX0_ofTurns 30 = .ok (.iload 5, 2) := dk_21 5 (dk_at dksX0_ofTurns_1 6 rfl rfl)
theorem dX0_ofTurns_32 : decode cX0_ofTurns 32 = .ok (.invokevirtual 136, 3) := dk_182 0 136 (dk_at dksX0_ofTurns_1 8 rfl rfl)
theorem dX0_ofTurns_35 : decode cX0_ofTurns 35 = .ok (.checkcast 142, 3) := dk_192 0 142 (dk_at dksX0_ofTurns_1 11 rfl rfl)
theorem dX0_ofTurns_38 : decode cX0_ofTurns 38 = .ok (.astore 6, 2) := dk_58 6 (dk_at dksX0_ofTurns_1 14 rfl rfl)
theorem dX0_ofTurns_40 : decode cX0_ofTurns 40 = .ok (.aload 6, 2) := dk_25 6 (dk_at dksX0_ofTurns_1 16 rfl rfl)
theorem dX0_ofTurns_42 : decode cX0_ofTurns 42 = .ok (.getfield 174, 3) := dk_180 0 174 (dk_at dksX0_ofTurns_1 18 rfl rfl)
theorem dX0_ofTurns_45 : decode cX0_ofTurns 45 = .ok (.iload_n 1, 1) := dk_27 (dk_at dksX0_ofTurns_1 21 rfl rfl)
theorem dX0_ofTurns_46 : decode cX0_ofTurns 46 = .ok (.if_icmp .ne 7, 3) := dk_160 0 7 (dk_at dksX0_ofTurns_2 0 rfl rfl)
theorem dX0_ofTurns_49 : decode cX0_ofTurns 49 = .ok (.iconst 1, 1) := dk_4 (dk_at dksX0_ofTurns_2 3 rfl rfl)
theorem dX0_ofTurns_50 : decode cX0_ofTurns 50 = .ok (.goto 4, 3) := dk_167 0 4 (dk_at dksX0_ofTurns_2 4 rfl rfl)
theorem dX0_ofTurns_53 : decode cX0_ofTurns 53 = .ok (.iconst 0, 1) := dk_3 (dk_at dksX0_ofTurns_2 7 rfl rfl)
theorem dX0_ofTurns_54 : decode cX0_ofTurns 54 = .ok (.istore 7, 2) := dk_54 7 (dk_at dksX0_ofTurns_2 8 rfl rfl)
theorem dX0_ofTurns_56 : decode cX0_ofTurns 56 = .ok (.iload_n 3, 1) := dk_29 (dk_at dksX0_ofTurns_2 10 rfl rfl)
theorem dX0_ofTurns_57 : decode cX0_ofTurns 57 = .ok (.iload 7, 2) := dk_21 7 (dk_at dksX0_ofTurns_2 11 rfl rfl)
theorem dX0_ofTurns_59 : decode cX0_ofTurns 59 = .ok (.ifCond .ne 7, 3) := dk_154 0 7 (dk_at dksX0_ofTurns_2 13 rfl rfl)
theorem dX0_ofTurns_62 : decode cX0_ofTurns 62 = .ok (.iconst 0, 1) := dk_3 (dk_at dksX0_ofTurns_2 16 rfl rfl)
theorem dX0_ofTurns_63 : decode cX0_ofTurns 63 = .ok (.goto 24, 3) := dk_167 0 24 (dk_at dksX0_ofTurns_2 17 rfl rfl)
theorem dX0_ofTurns_66 : decode cX0_ofTurns 66 = .ok (.iload_n 2, 1) := dk_28 (dk_at dksX0_ofTurns_2 20 rfl rfl)
theorem dX0_ofTurns_67 : decode cX0_ofTurns 67 = .ok (.iconst 2, 1) := dk_5 (dk_at dksX0_ofTurns_2 21 rfl rfl)
theorem dX0_ofTurns_68 : decode cX0_ofTurns 68 = .ok (.if_icmp .ne 11, 3) := dk_160 0 11 (dk_at dksX0_ofTurns_3 0 rfl rfl)
theorem dX0_ofTurns_71 : decode cX0_ofTurns 71 = .ok (.aload 6, 2) := dk_25 6 (dk_at dksX0_ofTurns_3 3 rfl rfl)
theorem dX0_ofTurns_73 : decode cX0_ofTurns 73 = .ok (.invokevirtual 202, 3) := dk_182 0 202 (dk_at dksX0_ofTurns_3 5 rfl rfl)
theorem dX0_ofTurns_76 : decode cX0_ofTurns 76 = .ok (.goto 11, 3) := dk_167 0 11 (dk_at dksX0_ofTurns_3 8 rfl rfl)
theorem dX0_ofTurns_79 : decode cX0_ofTurns 79 = .ok (.aload 6, 2) := dk_25 6 (dk_at dksX0_ofTurns_3 11 rfl rfl)
theorem dX0_ofTurns_81 : decode cX0_ofTurns 81 = .ok (.getfield 150, 3) := dk_180 0 150 (dk_at dksX0_ofTurns_3 13 rfl rfl)
theorem dX0_ofTurns_84 : decode cX0_ofTurns 84 = .ok (.invokevirtual 154, 3) := dk_182 0 154 (dk_at dksX0_ofTurns_3 16 rfl rfl)
theorem dX0_ofTurns_87 : decode cX0_ofTurns 87 = .ok (.iadd, 1) := dk_96 (dk_at dksX0_ofTurns_3 19 rfl rfl)
theorem dX0_ofTurns_88 : decode cX0_ofTurns 88 = .ok (.istore_n 3, 1) := dk_62 (dk_at dksX0_ofTurns_3 20 rfl rfl)
theorem dX0_ofTurns_89 : decode cX0_ofTurns 89 = .ok (.iload 4, 2) := dk_21 4 (dk_at dksX0_ofTurns_3 21 rfl rfl)
theorem dX0_ofTurns_91 : decode cX0_ofTurns 91 = .ok (.iload 7, 2) := dk_21 7 (dk_at dksX0_ofTurns_4 0 rfl rfl)
theorem dX0_ofTurns_93 : decode cX0_ofTurns 93 = .ok (.ifCond .eq 15, 3) := dk_153 0 15 (dk_at dksX0_ofTurns_4 2 rfl rfl)
theorem dX0_ofTurns_96 : decode cX0_ofTurns 96 = .ok (.aload_n 0, 1) := dk_42 (dk_at dksX0_ofTurns_4 5 rfl rfl)
theorem dX0_ofTurns_97 : decode cX0_ofTurns 97 = .ok (.getfield 27, 3) := dk_180 0 27 (dk_at dksX0_ofTurns_4 6 rfl rfl)
theorem dX0_ofTurns_100 : decode cX0_ofTurns 100 = .ok (.aload 6, 2) := dk_25 6 (dk_at dksX0_ofTurns_4 9 rfl rfl)
theorem dX0_ofTurns_102 : decode cX0_ofTurns 102 = .ok (.invokevirtual 170, 3) := dk_182 0 170 (dk_at dksX0_ofTurns_4 11 rfl rfl)
theorem dX0_ofTurns_105 : decode cX0_ofTurns 105 = .ok (.goto 4, 3) := dk_167 0 4 (dk_at dksX0_ofTurns_4 14 rfl rfl)
theorem dX0_ofTurns_108 : decode cX0_ofTurns 108 = .ok (.iconst 0, 1) := dk_3 (dk_at dksX0_ofTurns_4 17 rfl rfl)
theorem dX0_ofTurns_109 : decode cX0_ofTurns 109 = .ok (.ior, 1) := dk_128 (dk_at dksX0_ofTurns_4 18 rfl rfl)
theorem dX0_ofTurns_110 : decode cX0_ofTurns 110 = .ok (.istore 4, 2) := dk_54 4 (dk_at dksX0_ofTurns_4 19 rfl rfl)
theorem dX0_ofTurns_112 : decode cX0_ofTurns 112 = .ok (.iinc 5 1, 3) := dk_132 5 1 (dk_at dksX0_ofTurns_4 21 rfl rfl)
theorem dX0_ofTurns_115 : decode cX0_ofTurns 115 = .ok (.goto (-107), 3) := dk_167 255 149 (dk_at dksX0_ofTurns_5 0 rfl rfl)
theorem dX0_ofTurns_118 : decode cX0_ofTurns 118 = .ok (.iload_n 2, 1) := dk_28 (dk_at dksX0_ofTurns_5 3 rfl rfl)
theorem dX0_ofTurns_119 : decode cX0_ofTurns 119 = .ok (.iconst 3, 1) := dk_6 (dk_at dksX0_ofTurns_5 4 rfl rfl)
theorem dX0_ofTurns_120 : decode cX0_ofTurns 120 = .ok (.if_icmp .ne 8, 3) := dk_160 0 8 (dk_at dksX0_ofTurns_5 5 rfl rfl)
theorem dX0_ofTurns_123 : decode cX0_ofTurns 123 = .ok (.iload 4, 2) := dk_21 4 (dk_at dksX0_ofTurns_5 8 rfl rfl)
theorem dX0_ofTurns_125 : decode cX0_ofTurns 125 = .ok (.goto 4, 3) := dk_167 0 4 (dk_at dksX0_ofTurns_5 10 rfl rfl)
theorem dX0_ofTurns_128 : decode cX0_ofTurns 128 = .ok (.iload_n 3, 1) := dk_29 (dk_at dksX0_ofTurns_5 13 rfl rfl)
theorem dX0_ofTurns_129 : decode cX0_ofTurns 129 = .ok (.ireturn, 1) := dk_172 (dk_at dksX0_ofTurns_5 14 rfl rfl)
abbrev cX0_during : ByteArray := prog_1_method_27_code
def yX0_during : MethodName := ⟨RX0, "during", "(II)I"⟩
def dkwX0_during_4 : List UInt8 := [159, 0, 10, 4, 21, 6, 120, 167, 0, 4, 3, 128, 62, 132, 4, 1, 167, 255, 179, 29, 172]
abbrev dktX0_during_4 : List UInt8 := dkwX0_during_4 ++ []
def dkwX0_during_3 : List UInt8 := [167, 0, 8, 25, 5, 180, 0, 174, 54, 6, 29, 25, 5, 27, 182, 0, 229, 153, 0, 16, 21, 6, 2]
abbrev dktX0_during_3 : List UInt8 := dkwX0_during_3 ++ dktX0_during_4
def dkwX0_during_2 : List UInt8 := [180, 0, 27, 180, 0, 132, 21, 4, 182, 0, 136, 192, 0, 142, 58, 5, 28, 154, 0, 8, 21, 4]
abbrev dktX0_during_2 : List UInt8 := dkwX0_during_2 ++ dktX0_during_3
def dkwX0_during_1 : List UInt8 := [172, 3, 62, 3, 54, 4, 21, 4, 42, 180, 0, 27, 180, 0, 132, 182, 0, 169, 162, 0, 68, 42]
abbrev dktX0_during_1 : List UInt8 := dkwX0_during_1 ++ dktX0_during_2
def dkwX0_during_0 : List UInt8 := [27, 133, 9, 20, 0, 227, 184, 0, 5, 153, 0, 13, 28, 133, 9, 10, 184, 0, 5, 154, 0, 6, 18, 109]
abbrev dktX0_during_0 : List UInt8 := dkwX0_during_0 ++ dktX0_during_1
theorem dksX0_during_0 : cX0_during.data.toList.drop 0 = dktX0_during_0 := by decide +kernel
theorem dksX0_during_1 : cX0_during.data.toList.drop 24 = dktX0_during_1 := dk_seg dksX0_during_0 24 rfl rfl
theorem dksX0_during_2 : cX0_during.data.toList.drop 46 = dktX0_during_2 := dk_seg dksX0_during_1 22 rfl rfl
theorem dksX0_during_3 : cX0_during.data.toList.drop 68 = dktX0_during_3 := dk_seg dksX0_during_2 22 rfl rfl
theorem dksX0_during_4 : cX0_during.data.toList.drop 91 = dktX0_during_4 := dk_seg dksX0_during_3 23 rfl rfl
theorem dX0_during_0 : decode cX0_during 0 = .ok (.iload_n 1, 1) := dk_27 (dk_at dksX0_during_0 0 rfl rfl)
theorem dX0_during_1 : decode cX0_during 1 = .ok (.i2l, 1) := dk_133 (dk_at dksX0_during_0 1 rfl rfl)
theorem dX0_during_2 : decode cX0_during 2 = .ok (.lconst 0, 1) := dk_9 (dk_at dksX0_during_0 2 rfl rfl)
theorem dX0_during_3 : decode cX0_during 3 = .ok (.ldc2_w 227, 3) := dk_20 0 227 (dk_at dksX0_during_0 3 rfl rfl)
theorem dX0_during_6 : decode cX0_during 6 = .ok (.invokestatic 5, 3) := dk_184 0 5 (dk_at dksX0_during_0 6 rfl rfl)
theorem dX0_during_9 : decode cX0_during 9 = .ok (.ifCond .eq 13, 3) := dk_153 0 13 (dk_at dksX0_during_0 9 rfl rfl)
theorem dX0_during_12 : decode cX0_during 12 = .ok (.iload_n 2, 1) := dk_28 (dk_at dksX0_during_0 12 rfl rfl)
theorem dX0_during_13 : decode cX0_during 13 = .ok (.i2l, 1) := dk_133 (dk_at dksX0_during_0 13 rfl rfl)
theorem dX0_during_14 : decode cX0_during 14 = .ok (.lconst 0, 1) := dk_9 (dk_at dksX0_during_0 14 rfl rfl)
theorem dX0_during_15 : decode cX0_during 15 = .ok (.lconst 1, 1) := dk_10 (dk_at dksX0_during_0 15 rfl rfl)
theorem dX0_during_16 : decode cX0_during 16 = .ok (.invokestatic 5, 3) := dk_184 0 5 (dk_at dksX0_during_0 16 rfl rfl)
theorem dX0_during_19 : decode cX0_during 19 = .ok (.ifCond .ne 6, 3) := dk_154 0 6 (dk_at dksX0_during_0 19 rfl rfl)
theorem dX0_during_22 : decode cX0_during 22 = .ok (.ldc 109, 2) := dk_18 109 (dk_at dksX0_during_0 22 rfl rfl)
theorem dX0_during_24 : decode cX0_during 24 = .ok (.ireturn, 1) := dk_172 (dk_at dksX0_during_1 0 rfl rfl)
theorem dX0_during_25 : decode cX0_during 25 = .ok (.iconst 0, 1) := dk_3 (dk_at dksX0_during_1 1 rfl rfl)
theorem dX0_during_26 : decode cX0_during 26 = .ok (.istore_n 3, 1) := dk_62 (dk_at dksX0_during_1 2 rfl rfl)
theorem dX0_during_27 : decode cX0_during 27 = .ok (.iconst 0, 1) := dk_3 (dk_at dksX0_during_1 3 rfl rfl)
theorem dX0_during_28 : decode cX0_during 28 = .ok (.istore 4, 2) := dk_54 4 (dk_at dksX0_during_1 4 rfl rfl)
theorem dX0_during_30 : decode cX0_during 30 = .ok (.iload 4, 2) := dk_21 4 (dk_at dksX0_during_1 6 rfl rfl)
theorem dX0_during_32 : decode cX0_during 32 = .ok (.aload_n 0, 1) := dk_42 (dk_at dksX0_during_1 8 rfl rfl)
theorem dX0_during_33 : decode cX0_during 33 = .ok (.getfield 27, 3) := dk_180 0 27 (dk_at dksX0_during_1 9 rfl rfl)
theorem dX0_during_36 : decode cX0_during 36 = .ok (.getfield 132, 3) := dk_180 0 132 (dk_at dksX0_during_1 12 rfl rfl)
theorem dX0_during_39 : decode cX0_during 39 = .ok (.invokevirtual 169, 3) := dk_182 0 169 (dk_at dksX0_during_1 15 rfl rfl)
theorem dX0_during_42 : decode cX0_during 42 = .ok (.if_icmp .ge 68, 3) := dk_162 0 68 (dk_at dksX0_during_1 18 rfl rfl)
theorem dX0_during_45 : decode cX0_during 45 = .ok (.aload_n 0, 1) := dk_42 (dk_at dksX0_during_1 21 rfl rfl)
theorem dX0_during_46 : decode cX0_during 46 = .ok (.getfield 27, 3) := dk_180 0 27 (dk_at dksX0_during_2 0 rfl rfl)
theorem dX0_during_49 : decode cX0_during 49 = .ok (.getfield 132, 3) := dk_180 0 132 (dk_at dksX0_during_2 3 rfl rfl)
theorem dX0_during_52 : decode cX0_during 52 = .ok (.iload 4, 2) := dk_21 4 (dk_at dksX0_during_2 6 rfl rfl)
theorem dX0_during_54 : decode cX0_during 54 = .ok (.invokevirtual 136, 3) := dk_182 0 136 (dk_at dksX0_during_2 8 rfl rfl)
theorem dX0_during_57 : decode cX0_during 57 = .ok (.checkcast 142, 3) := dk_192 0 142 (dk_at dksX0_during_2 11 rfl rfl)
theorem dX0_during_60 : decode cX0_during 60 = .ok (.astore 5, 2) := dk_58 5 (dk_at dksX0_during_2 14 rfl rfl)
theorem dX0_during_62 : decode cX0_during 62 = .ok (.iload_n 2, 1) := dk_28 (dk_at dksX0_during_2 16 rfl rfl)
theorem dX0_during_63 : decode cX0_during 63 = .ok (.ifCond .ne 8, 3) := dk_154 0 8 (dk_at dksX0_during_2 17 rfl rfl)
theorem dX0_during_66 : decode cX0_during 66 = .ok (.iload 4, 2) := dk_21 4 (dk_at dksX0_during_2 20 rfl rfl)
theorem dX0_during_68 : decode cX0_during 68 = .ok (.goto 8, 3) := dk_167 0 8 (dk_at dksX0_during_3 0 rfl rfl)
theorem dX0_during_71 : decode cX0_during 71 = .ok (.aload 5, 2) := dk_25 5 (dk_at dksX0_during_3 3 rfl rfl)
theorem dX0_during_73 : decode cX0_during 73 = .ok (.getfield 174, 3) := dk_180 0 174 (dk_at dksX0_during_3 5 rfl rfl)
theorem dX0_during_76 : decode cX0_during 76 = .ok (.istore 6, 2) := dk_54 6 (dk_at dksX0_during_3 8 rfl rfl)
theorem dX0_during_78 : decode cX0_during 78 = .ok (.iload_n 3, 1) := dk_29 (dk_at dksX0_during_3 10 rfl rfl)
theorem dX0_during_79 : decode cX0_during 79 = .ok (.aload 5, 2) := dk_25 5 (dk_at dksX0_during_3 11 rfl rfl)
theorem dX0_during_81 : decode cX0_during 81 = .ok (.iload_n 1, 1) := dk_27 (dk_at dksX0_during_3 13 rfl rfl)
theorem dX0_during_82 : decode cX0_during 82 = .ok (.invokevirtual 229, 3) := dk_182 0 229 (dk_at dksX0_during_3 14 rfl rfl)
theorem dX0_during_85 : decode cX0_during 85 = .ok (.ifCond .eq 16, 3) := dk_153 0 16 (dk_at dksX0_during_3 17 rfl rfl)
theorem dX0_during_88 : decode cX0_during 88 = .ok (.iload 6, 2) := dk_21 6 (dk_at dksX0_during_3 20 rfl rfl)
theorem dX0_during_90 : decode cX0_during 90 = .ok (.iconst (-1), 1) := dk_2 (dk_at dksX0_during_3 22 rfl rfl)
theorem dX0_during_91 : decode cX0_during 91 = .ok (.if_icmp .eq 10, 3) := dk_159 0 10 (dk_at dksX0_during_4 0 rfl rfl)
theorem dX0_during_94 : decode cX0_during 94 = .ok (.iconst 1, 1) := dk_4 (dk_at dksX0_during_4 3 rfl rfl)
theorem dX0_during_95 : decode cX0_during 95 = .ok (.iload 6, 2) := dk_21 6 (dk_at dksX0_during_4 4 rfl rfl)
theorem dX0_during_97 : decode cX0_during 97 = .ok (.ishl, 1) := dk_120 (dk_at dksX0_during_4 6 rfl rfl)
theorem dX0_during_98 : decode cX0_during 98 = .ok (.goto 4, 3) := dk_167 0 4 (dk_at dksX0_during_4 7 rfl rfl)
theorem dX0_during_101 : decode cX0_during 101 = .ok (.iconst 0, 1) := dk_3 (dk_at dksX0_during_4 10 rfl rfl)
theorem dX0_during_102 : decode cX0_during 102 = .ok (.ior, 1) := dk_128 (dk_at dksX0_during_4 11 rfl rfl)
theorem dX0_during_103 : decode cX0_during 103 = .ok (.istore_n 3, 1) := dk_62 (dk_at dksX0_during_4 12 rfl rfl)
theorem dX0_during_104 : decode cX0_during 104 = .ok (.iinc 4 1, 3) := dk_132 4 1 (dk_at dksX0_during_4 13 rfl rfl)
theorem dX0_during_107 : decode cX0_during 107 = .ok (.goto (-77), 3) := dk_167 255 179 (dk_at dksX0_during_4 16 rfl rfl)
theorem dX0_during_110 : decode cX0_during 110 = .ok (.iload_n 3, 1) := dk_29 (dk_at dksX0_during_4 19 rfl rfl)
theorem dX0_during_111 : decode cX0_during 111 = .ok (.ireturn, 1) := dk_172 (dk_at dksX0_during_4 20 rfl rfl)
abbrev cX0_interrupts : ByteArray := prog_1_method_28_code
def yX0_interrupts : MethodName := ⟨RX0, "interrupts", "(II)I"⟩
def dkwX0_interrupts_2 : List UInt8 := [167, 0, 5, 18, 109, 172]
abbrev dktX0_interrupts_2 : List UInt8 := dkwX0_interrupts_2 ++ []
def dkwX0_interrupts_1 : List UInt8 := [159, 0, 7, 4, 167, 0, 4, 3, 62, 29, 153, 0, 15, 42, 180, 0, 27, 27, 28, 182, 0, 217]
abbrev dktX0_interrupts_1 : List UInt8 := dkwX0_interrupts_1 ++ dktX0_interrupts_2
def dkwX0_interrupts_0 : List UInt8 := [42, 180, 0, 27, 27, 182, 0, 205, 153, 0, 23, 42, 180, 0, 27, 28, 182, 0, 205, 153, 0, 12, 27, 28]
abbrev dktX0_interrupts_0 : List UInt8 := dkwX0_interrupts_0 ++ dktX0_interrupts_1
theorem dksX0_interrupts_0 : cX0_interrupts.data.toList.drop 0 = dktX0_interrupts_0 := by decide +kernel
theorem dksX0_interrupts_1 : cX0_interrupts.data.toList.drop 24 = dktX0_interrupts_1 := dk_seg dksX0_interrupts_0 24 rfl rfl
theorem dksX0_interrupts_2 : cX0_interrupts.data.toList.drop 46 = dktX0_interrupts_2 := dk_seg dksX0_interrupts_1 22 rfl rfl
theorem dX0_interrupts_0 : decode cX0_interrupts 0 = .ok (.aload_n 0, 1) := dk_42 (dk_at dksX0_interrupts_0 0 rfl rfl)
theorem dX0_interrupts_1 : decode cX0_interrupts 1 = .ok (.getfield 27, 3) := dk_180 0 27 (dk_at dksX0_interrupts_0 1 rfl rfl)
theorem dX0_interrupts_4 : decode cX0_interrupts 4 = .ok (.iload_n 1, 1) := dk_27 (dk_at dksX0_interrupts_0 4 rfl rfl)
theorem dX0_interrupts_5 : decode cX0_interrupts 5 = .ok (.invokevirtual 205, 3) := dk_182 0 205 (dk_at dksX0_interrupts_0 5 rfl rfl)
theorem dX0_interrupts_8 : decode cX0_interrupts 8 = .ok (.ifCond .eq 23, 3) := dk_153 0 23 (dk_at dksX0_interrupts_0 8 rfl rfl)
theorem dX0_interrupts_11 : decode cX0_interrupts 11 = .ok (.aload_n 0, 1) := dk_42 (dk_at dksX0_interrupts_0 11 rfl rfl)
theorem dX0_interrupts_12 : decode cX0_interrupts 12 = .ok (.getfield 27, 3) := dk_180 0 27 (dk_at dksX0_interrupts_0 12 rfl rfl)
theorem dX0_interrupts_15 : decode cX0_interrupts 15 = .ok (.iload_n 2, 1) := dk_28 (dk_at dksX0_interrupts_0 15 rfl rfl)
theorem dX0_interrupts_16 : decode cX0_interrupts 16 = .ok (.invokevirtual 205, 3) := dk_182 0 205 (dk_at dksX0_interrupts_0 16 rfl rfl)
theorem dX0_interrupts_19 : decode cX0_interrupts 19 = .ok (.ifCond .eq 12, 3) := dk_153 0 12 (dk_at dksX0_interrupts_0 19 rfl rfl)
theorem dX0_interrupts_22 : decode cX0_interrupts 22 = .ok (.iload_n 1, 1) := dk_27 (dk_at dksX0_interrupts_0 22 rfl rfl)
theorem dX0_interrupts_23 : decode cX0_interrupts 23 = .ok (.iload_n 2, 1) := dk_28 (dk_at dksX0_interrupts_0 23 rfl rfl)
theorem dX0_interrupts_24 : decode cX0_interrupts 24 = .ok (.if_icmp .eq 7, 3) := dk_159 0 7 (dk_at dksX0_interrupts_1 0 rfl rfl)
theorem dX0_interrupts_27 : decode cX0_interrupts 27 = .ok (.iconst 1, 1) := dk_4 (dk_at dksX0_interrupts_1 3 rfl rfl)
theorem dX0_interrupts_28 : decode cX0_interrupts 28 = .ok (.goto 4, 3) := dk_167 0 4 (dk_at dksX0_interrupts_1 4 rfl rfl)
theorem dX0_interrupts_31 : decode cX0_interrupts 31 = .ok (.iconst 0, 1) := dk_3 (dk_at dksX0_interrupts_1 7 rfl rfl)
theorem dX0_interrupts_32 : decode cX0_interrupts 32 = .ok (.istore_n 3, 1) := dk_62 (dk_at dksX0_interrupts_1 8 rfl rfl)
theorem dX0_interrupts_33 : decode cX0_interrupts 33 = .ok (.iload_n 3, 1) := dk_29 (dk_at dksX0_interrupts_1 9 rfl rfl)
theorem dX0_interrupts_34 : decode cX0_interrupts 34 = .ok (.ifCond .eq 15, 3) := dk_153 0 15 (dk_at dksX0_interrupts_1 10 rfl rfl)
theorem dX0_interrupts_37 : decode cX0_interrupts 37 = .ok (.aload_n 0, 1) := dk_42 (dk_at dksX0_interrupts_1 13 rfl rfl)
theorem dX0_interrupts_38 : decode cX0_interrupts 38 = .ok (.getfield 27, 3) := dk_180 0 27 (dk_at dksX0_interrupts_1 14 rfl rfl)
theorem dX0_interrupts_41 : decode cX0_interrupts 41 = .ok (.iload_n 1, 1) := dk_27 (dk_at dksX0_interrupts_1 17 rfl rfl)
theorem dX0_interrupts_42 : decode cX0_interrupts 42 = .ok (.iload_n 2, 1) := dk_28 (dk_at dksX0_interrupts_1 18 rfl rfl)
theorem dX0_interrupts_43 : decode cX0_interrupts 43 = .ok (.invokevirtual 217, 3) := dk_182 0 217 (dk_at dksX0_interrupts_1 19 rfl rfl)
theorem dX0_interrupts_46 : decode cX0_interrupts 46 = .ok (.goto 5, 3) := dk_167 0 5 (dk_at dksX0_interrupts_2 0 rfl rfl)
theorem dX0_interrupts_49 : decode cX0_interrupts 49 = .ok (.ldc 109, 2) := dk_18 109 (dk_at dksX0_interrupts_2 3 rfl rfl)
theorem dX0_interrupts_51 : decode cX0_interrupts 51 = .ok (.ireturn, 1) := dk_172 (dk_at dksX0_interrupts_2 5 rfl rfl)
abbrev cX0_nearest : ByteArray := prog_1_method_29_code
def yX0_nearest : MethodName := ⟨RX0, "nearest", "(I)I"⟩
def dkwX0_nearest_0 : List UInt8 := [27, 184, 0, 232, 153, 0, 17, 42, 180, 0, 27, 27, 182, 0, 235, 184, 0, 186, 167, 0, 5, 18, 109, 172]
abbrev dktX0_nearest_0 : List UInt8 := dkwX0_nearest_0 ++ []
theorem dksX0_nearest_0 : cX0_nearest.data.toList.drop 0 = dktX0_nearest_0 := by decide +kernel
theorem dX0_nearest_0 : decode cX0_nearest 0 = .ok (.iload_n 1, 1) := dk_27 (dk_at dksX0_nearest_0 0 rfl rfl)
theorem dX0_nearest_1 : decode cX0_nearest 1 = .ok (.invokestatic 232, 3) := dk_184 0 232 (dk_at dksX0_nearest_0 1 rfl rfl)
theorem dX0_nearest_4 : decode cX0_nearest 4 = .ok (.ifCond .eq 17, 3) := dk_153 0 17 (dk_at dksX0_nearest_0 4 rfl rfl)
theorem dX0_nearest_7 : decode cX0_nearest 7 = .ok (.aload_n 0, 1) := dk_42 (dk_at dksX0_nearest_0 7 rfl rfl)
theorem dX0_nearest_8 : decode cX0_nearest 8 = .ok (.getfield 27, 3) := dk_180 0 27 (dk_at dksX0_nearest_0 8 rfl rfl)
theorem dX0_nearest_11 : decode cX0_nearest 11 = .ok (.iload_n 1, 1) := dk_27 (dk_at dksX0_nearest_0 11 rfl rfl)
theorem dX0_nearest_12 : decode cX0_nearest 12 = .ok (.invokevirtual 235, 3) := dk_182 0 235 (dk_at dksX0_nearest_0 12 rfl rfl)
theorem dX0_nearest_15 : decode cX0_nearest 15 = .ok (.invokestatic 186, 3) := dk_184 0 186 (dk_at dksX0_nearest_0 15 rfl rfl)
theorem dX0_nearest_18 : decode cX0_nearest 18 = .ok (.goto 5, 3) := dk_167 0 5 (dk_at dksX0_nearest_0 18 rfl rfl)
theorem dX0_nearest_21 : decode cX0_nearest 21 = .ok (.ldc 109, 2) := dk_18 109 (dk_at dksX0_nearest_0 21 rfl rfl)
theorem dX0_nearest_23 : decode cX0_nearest 23 = .ok (.ireturn, 1) := dk_172 (dk_at dksX0_nearest_0 23 rfl rfl)
abbrev cX0_would : ByteArray := prog_1_method_30_code
def yX0_would : MethodName := ⟨RX0, "would", "(II)I"⟩
def dkwX0_would_0 : List UInt8 := [187, 0, 24, 89, 42, 180, 0, 27, 183, 0, 90, 27, 28, 182, 0, 72, 172, 78, 45, 180, 0, 101, 172]
abbrev dktX0_would_0 : List UInt8 := dkwX0_would_0 ++ []
theorem dksX0_would_0 : cX0_would.data.toList.drop 0 = dktX0_would_0 := by decide +kernel
theorem dX0_would_0 : decode cX0_would 0 = .ok (.new 24, 3) := dk_187 0 24 (dk_at dksX0_would_0 0 rfl rfl)
theorem dX0_would_3 : decode cX0_would 3 = .ok (.dup, 1) := dk_89 (dk_at dksX0_would_0 3 rfl rfl)
theorem dX0_would_4 : decode cX0_would 4 = .ok (.aload_n 0, 1) := dk_42 (dk_at dksX0_would_0 4 rfl rfl)
theorem dX0_would_5 : decode cX0_would 5 = .ok (.getfield 27, 3) := dk_180 0 27 (dk_at dksX0_would_0 5 rfl rfl)
theorem dX0_would_8 : decode cX0_would 8 = .ok (.invokespecial 90, 3) := dk_183 0 90 (dk_at dksX0_would_0 8 rfl rfl)
theorem dX0_would_11 : decode cX0_would 11 = .ok (.iload_n 1, 1) := dk_27 (dk_at dksX0_would_0 11 rfl rfl)
theorem dX0_would_12 : decode cX0_would 12 = .ok (.iload_n 2, 1) := dk_28 (dk_at dksX0_would_0 12 rfl rfl)
theorem dX0_would_13 : decode cX0_would 13 = .ok (.invokevirtual 72, 3) := dk_182 0 72 (dk_at dksX0_would_0 13 rfl rfl)
theorem dX0_would_16 : decode cX0_would 16 = .ok (.ireturn, 1) := dk_172 (dk_at dksX0_would_0 16 rfl rfl)
theorem dX0_would_17 : decode cX0_would 17 = .ok (.astore_n 3, 1) := dk_78 (dk_at dksX0_would_0 17 rfl rfl)
theorem dX0_would_18 : decode cX0_would 18 = .ok (.aload_n 3, 1) := dk_45 (dk_at dksX0_would_0 18 rfl rfl)
theorem dX0_would_19 : decode cX0_would 19 = .ok (.getfield 101, 3) := dk_180 0 101 (dk_at dksX0_would_0 19 rfl rfl)
theorem dX0_would_22 : decode cX0_would 22 = .ok (.ireturn, 1) := dk_172 (dk_at dksX0_would_0 22 rfl rfl)
abbrev cX0_together : ByteArray := prog_1_method_33_code
def yX0_together : MethodName := ⟨RX0, "together", "(I)I"⟩
def dkwX0_together_6 : List UInt8 := [21, 5, 172]
abbrev dktX0_together_6 : List UInt8 := dkwX0_together_6 ++ []
def dkwX0_together_5 : List UInt8 := [18, 110, 167, 0, 23, 27, 154, 0, 7, 29, 167, 0, 15, 27, 4, 160, 0, 8, 21, 4, 167, 0, 5]
abbrev dktX0_together_5 : List UInt8 := dkwX0_together_5 ++ dktX0_together_6
def dkwX0_together_4 : List UInt8 := [21, 8, 184, 0, 248, 54, 5, 132, 7, 1, 167, 255, 197, 132, 6, 1, 167, 255, 178, 21, 5, 154, 0, 8]
abbrev dktX0_together_4 : List UInt8 := dkwX0_together_4 ++ dktX0_together_5
def dkwX0_together_3 : List UInt8 := [167, 0, 4, 29, 62, 21, 8, 21, 5, 164, 0, 8, 21, 7, 167, 0, 5, 21, 4, 54, 4, 21, 5]
abbrev dktX0_together_3 : List UInt8 := dkwX0_together_3 ++ dktX0_together_4
def dkwX0_together_2 : List UInt8 := [16, 16, 162, 0, 58, 21, 6, 21, 7, 44, 184, 0, 244, 54, 8, 21, 8, 21, 5, 164, 0, 8, 21, 6]
abbrev dktX0_together_2 : List UInt8 := dkwX0_together_2 ++ dktX0_together_3
def dkwX0_together_1 : List UInt8 := [54, 4, 3, 54, 5, 3, 54, 6, 21, 6, 16, 16, 162, 0, 77, 21, 6, 4, 96, 54, 7, 21, 7]
abbrev dktX0_together_1 : List UInt8 := dkwX0_together_1 ++ dktX0_together_2
def dkwX0_together_0 : List UInt8 := [27, 133, 9, 20, 0, 238, 184, 0, 5, 154, 0, 6, 18, 109, 172, 42, 182, 0, 240, 77, 3, 62, 3]
abbrev dktX0_together_0 : List UInt8 := dkwX0_together_0 ++ dktX0_together_1
theorem dksX0_together_0 : cX0_together.data.toList.drop 0 = dktX0_together_0 := by decide +kernel
theorem dksX0_together_1 : cX0_together.data.toList.drop 23 = dktX0_together_1 := dk_seg dksX0_together_0 23 rfl rfl
theorem dksX0_together_2 : cX0_together.data.toList.drop 46 = dktX0_together_2 := dk_seg dksX0_together_1 23 rfl rfl
theorem dksX0_together_3 : cX0_together.data.toList.drop 70 = dktX0_together_3 := dk_seg dksX0_together_2 24 rfl rfl
theorem dksX0_together_4 : cX0_together.data.toList.drop 93 = dktX0_together_4 := dk_seg dksX0_together_3 23 rfl rfl
theorem dksX0_together_5 : cX0_together.data.toList.drop 117 = dktX0_together_5 := dk_seg dksX0_together_4 24 rfl rfl
theorem dksX0_together_6 : cX0_together.data.toList.drop 140 = dktX0_together_6 := dk_seg dksX0_together_5 23 rfl rfl
theorem dX0_together_0 : decode cX0_together 0 = .ok (.iload_n 1, 1) := dk_27 (dk_at dksX0_together_0 0 rfl rfl)
theorem dX0_together_1 : decode cX0_together 1 = .ok (.i2l, 1) := dk_133 (dk_at dksX0_together_0 1 rfl rfl)
theorem dX0_together_2 : decode cX0_together 2 = .ok (.lconst 0, 1) := dk_9 (dk_at dksX0_together_0 2 rfl rfl)
theorem dX0_together_3 : decode cX0_together 3 = .ok (.ldc2_w 238, 3) := dk_20 0 238 (dk_at dksX0_together_0 3 rfl rfl)
theorem dX0_together_6 : decode cX0_together 6 = .ok (.invokestatic 5, 3) := dk_184 0 5 (dk_at dksX0_together_0 6 rfl rfl)
theorem dX0_together_9 : decode cX0_together 9 = .ok (.ifCond .ne 6, 3) := dk_154 0 6 (dk_at dksX0_together_0 9 rfl rfl)
theorem dX0_together_12 : decode cX0_together 12 = .ok (.ldc 109, 2) := dk_18 109 (dk_at dksX0_together_0 12 rfl rfl)
theorem dX0_together_14 : decode cX0_together 14 = .ok (.ireturn, 1) := dk_172 (dk_at dksX0_together_0 14 rfl rfl)
theorem dX0_together_15 : decode cX0_together 15 = .ok (.aload_n 0, 1) := dk_42 (dk_at dksX0_together_0 15 rfl rfl)
theorem dX0_together_16 : decode cX0_together 16 = .ok (.invokevirtual 240, 3) := dk_182 0 240 (dk_at dksX0_together_0 16 rfl rfl)
theorem dX0_together_19 : decode cX0_together 19 = .ok (.astore_n 2, 1) := dk_77 (dk_at dksX0_together_0 19 rfl rfl)
theorem dX0_together_20 : decode cX0_together 20 = .ok (.iconst 0, 1) := dk_3 (dk_at dksX0_together_0 20 rfl rfl)
theorem dX0_together_21 : decode cX0_together 21 = .ok (.istore_n 3, 1) := dk_62 (dk_at dksX0_together_0 21 rfl rfl)
theorem dX0_together_22 : decode cX0_together 22 = .ok (.iconst 0, 1) := dk_3 (dk_at dksX0_together_0 22 rfl rfl)
theorem dX0_together_23 : decode cX0_together 23 = .ok (.istore 4, 2) := dk_54 4 (dk_at dksX0_together_1 0 rfl rfl)
theorem dX0_together_25 : decode cX0_together 25 = .ok (.iconst 0, 1) := dk_3 (dk_at dksX0_together_1 2 rfl rfl)
theorem dX0_together_26 : decode cX0_together 26 = .ok (.istore 5, 2) := dk_54 5 (dk_at dksX0_together_1 3 rfl rfl)
theorem dX0_together_28 : decode cX0_together 28 = .ok (.iconst 0, 1) := dk_3 (dk_at dksX0_together_1 5 rfl rfl)
theorem dX0_together_29 : decode cX0_together 29 = .ok (.istore 6, 2) := dk_54 6 (dk_at dksX0_together_1 6 rfl rfl)
theorem dX0_together_31 : decode cX0_together 31 = .ok (.iload 6, 2) := dk_21 6 (dk_at dksX0_together_1 8 rfl rfl)
theorem dX0_together_33 : decode cX0_together 33 = .ok (.bipush 16, 2) := dk_16 16 (dk_at dksX0_together_1 10 rfl rfl)
theorem dX0_together_35 : decode cX0_together 35 = .ok (.if_icmp .ge 77, 3) := dk_162 0 77 (dk_at dksX0_together_1 12 rfl rfl)
theorem dX0_together_38 : decode cX0_together 38 = .ok (.iload 6, 2) := dk_21 6 (dk_at dksX0_together_1 15 rfl rfl)
theorem dX0_together_40 : decode cX0_together 40 = .ok (.iconst 1, 1) := dk_4 (dk_at dksX0_together_1 17 rfl rfl)
theorem dX0_together_41 : decode cX0_together 41 = .ok (.iadd, 1) := dk_96 (dk_at dksX0_together_1 18 rfl rfl)
theorem dX0_together_42 : decode cX0_together 42 = .ok (.istore 7, 2) := dk_54 7 (dk_at dksX0_together_1 19 rfl rfl)
theorem dX0_together_44 : decode cX0_together 44 = .ok (.iload 7, 2) := dk_21 7 (dk_at dksX0_together_1 21 rfl rfl)
theorem dX0_together_46 : decode cX0_together 46 = .ok (.bipush 16, 2) := dk_16 16 (dk_at dksX0_together_2 0 rfl rfl)
theorem dX0_together_48 : decode cX0_together 48 = .ok (.if_icmp .ge 58, 3) := dk_162 0 58 (dk_at dksX0_together_2 2 rfl rfl)
theorem dX0_together_51 : decode cX0_together 51 = .ok (.iload 6, 2) := dk_21 6 (dk_at dksX0_together_2 5 rfl rfl)
theorem dX0_together_53 : decode cX0_together 53 = .ok (.iload 7, 2) := dk_21 7 (dk_at dksX0_together_2 7 rfl rfl)
theorem dX0_together_55 : decode cX0_together 55 = .ok (.aload_n 2, 1) := dk_44 (dk_at dksX0_together_2 9 rfl rfl)
theorem dX0_together_56 : decode cX0_together 56 = .ok (.invokestatic 244, 3) := dk_184 0 244 (dk_at dksX0_together_2 10 rfl rfl)
theorem dX0_together_59 : decode cX0_together 59 = .ok (.istore 8, 2) := dk_54 8 (dk_at dksX0_together_2 13 rfl rfl)
theorem dX0_together_61 : decode cX0_together 61 = .ok (.iload 8, 2) := dk_21 8 (dk_at dksX0_together_2 15 rfl rfl)
theorem dX0_together_63 : decode cX0_together 63 = .ok (.iload 5, 2) := dk_21 5 (dk_at dksX0_together_2 17 rfl rfl)
theorem dX0_together_65 : decode cX0_together 65 = .ok (.if_icmp .le 8, 3) := dk_164 0 8 (dk_at dksX0_together_2 19 rfl rfl)
theorem dX0_together_68 : decode cX0_together 68 = .ok (.iload 6, 2) := dk_21 6 (dk_at dksX0_together_2 22 rfl rfl)
theorem dX0_together_70 : decode cX0_together 70 = .ok (.goto 4, 3) := dk_167 0 4 (dk_at dksX0_together_3 0 rfl rfl)
theorem dX0_together_73 : decode cX0_together 73 = .ok (.iload_n 3, 1) := dk_29 (dk_at dksX0_together_3 3 rfl rfl)
theorem dX0_together_74 : decode cX0_together 74 = .ok (.istore_n 3, 1) := dk_62 (dk_at dksX0_together_3 4 rfl rfl)
theorem dX0_together_75 : decode cX0_together 75 = .ok (.iload 8, 2) := dk_21 8 (dk_at dksX0_together_3 5 rfl rfl)
theorem dX0_together_77 : decode cX0_together 77 = .ok (.iload 5, 2) := dk_21 5 (dk_at dksX0_together_3 7 rfl rfl)
theorem dX0_together_79 : decode cX0_together 79 = .ok (.if_icmp .le 8, 3) := dk_164 0 8 (dk_at dksX0_together_3 9 rfl rfl)
theorem dX0_together_82 : decode cX0_together 82 = .ok (.iload 7, 2) := dk_21 7 (dk_at dksX0_together_3 12 rfl rfl)
theorem dX0_together_84 : decode cX0_together 84 = .ok (.goto 5, 3) := dk_167 0 5 (dk_at dksX0_together_3 14 rfl rfl)
theorem dX0_together_87 : decode cX0_together 87 = .ok (.iload 4, 2) := dk_21 4 (dk_at dksX0_together_3 17 rfl rfl)
theorem dX0_together_89 : decode cX0_together 89 = .ok (.istore 4, 2) := dk_54 4 (dk_at dksX0_together_3 19 rfl rfl)
theorem dX0_together_91 : decode cX0_together 91 = .ok (.iload 5, 2) := dk_21 5 (dk_at dksX0_together_3 21 rfl rfl)
theorem dX0_together_93 : decode cX0_together 93 = .ok (.iload 8, 2) := dk_21 8 (dk_at dksX0_together_4 0 rfl rfl)
theorem dX0_together_95 : decode cX0_together 95 = .ok (.invokestatic 248, 3) := dk_184 0 248 (dk_at dksX0_together_4 2 rfl rfl)
theorem dX0_together_98 : decode cX0_together 98 = .ok (.istore 5, 2) := dk_54 5 (dk_at dksX0_together_4 5 rfl rfl)
theorem dX0_together_100 : decode cX0_together 100 = .ok (.iinc 7 1, 3) := dk_132 7 1 (dk_at dksX0_together_4 7 rfl rfl)
theorem dX0_together_103 : decode cX0_together 103 = .ok (.goto (-59), 3) := dk_167 255 197 (dk_at dksX0_together_4 10 rfl rfl)
theorem dX0_together_106 : decode cX0_together 106 = .ok (.iinc 6 1, 3) := dk_132 6 1 (dk_at dksX0_together_4 13 rfl rfl)
theorem dX0_together_109 : decode cX0_together 109 = .ok (.goto (-78), 3) := dk_167 255 178 (dk_at dksX0_together_4 16 rfl rfl)
theorem dX0_together_112 : decode cX0_together 112 = .ok (.iload 5, 2) := dk_21 5 (dk_at dksX0_together_4 19 rfl rfl)
theorem dX0_together_114 : decode cX0_together 114 = .ok (.ifCond .ne 8, 3) := dk_154 0 8 (dk_at dksX0_together_4 21 rfl rfl)
theorem dX0_together_117 : decode cX0_together 117 = .ok (.ldc 110, 2) := dk_18 110 (dk_at dksX0_together_5 0 rfl rfl)
theorem dX0_together_119 : decode cX0_together 119 = .ok (.goto 23, 3) := dk_167 0 23 (dk_at dksX0_together_5 2 rfl rfl)
theorem dX0_together_122 : decode cX0_together 122 = .ok (.iload_n 1, 1) := dk_27 (dk_at dksX0_together_5 5 rfl rfl)
theorem dX0_together_123 : decode cX0_together 123 = .ok (.ifCond .ne 7, 3) := dk_154 0 7 (dk_at dksX0_together_5 6 rfl rfl)
theorem dX0_together_126 : decode cX0_together 126 = .ok (.iload_n 3, 1) := dk_29 (dk_at dksX0_together_5 9 rfl rfl)
theorem dX0_together_127 : decode cX0_together 127 = .ok (.goto 15, 3) := dk_167 0 15 (dk_at dksX0_together_5 10 rfl rfl)
theorem dX0_together_130 : decode cX0_together 130 = .ok (.iload_n 1, 1) := dk_27 (dk_at dksX0_together_5 13 rfl rfl)
theorem dX0_together_131 : decode cX0_together 131 = .ok (.iconst 1, 1) := dk_4 (dk_at dksX0_together_5 14 rfl rfl)
theorem dX0_together_132 : decode cX0_together 132 = .ok (.if_icmp .ne 8, 3) := dk_160 0 8 (dk_at dksX0_together_5 15 rfl rfl)
theorem dX0_together_135 : decode cX0_together 135 = .ok (.iload 4, 2) := dk_21 4 (dk_at dksX0_together_5 18 rfl rfl)
theorem dX0_together_137 : decode cX0_together 137 = .ok (.goto 5, 3) := dk_167 0 5 (dk_at dksX0_together_5 20 rfl rfl)
theorem dX0_together_140 : decode cX0_together 140 = .ok (.iload 5, 2) := dk_21 5 (dk_at dksX0_together_6 0 rfl rfl)
theorem dX0_together_142 : decode cX0_together 142 = .ok (.ireturn, 1) := dk_172 (dk_at dksX0_together_6 2 rfl rfl)
abbrev cX0_shownSets : ByteArray := prog_1_method_32_code
def yX0_shownSets : MethodName := ⟨RX0, "shownSets", "()[I"⟩
def dkwX0_shownSets_2 : List UInt8 := [167, 255, 223, 43, 176]
abbrev dktX0_shownSets_2 : List UInt8 := dkwX0_shownSets_2 ++ []
def dkwX0_shownSets_1 : List UInt8 := [180, 0, 27, 42, 180, 0, 27, 180, 0, 132, 28, 182, 0, 136, 192, 0, 142, 182, 0, 170, 79, 132, 2, 1]
abbrev dktX0_shownSets_1 : List UInt8 := dkwX0_shownSets_1 ++ dktX0_shownSets_2
def dkwX0_shownSets_0 : List UInt8 := [42, 180, 0, 27, 180, 0, 132, 182, 0, 169, 188, 10, 76, 3, 61, 28, 43, 190, 162, 0, 33, 43, 28, 42]
abbrev dktX0_shownSets_0 : List UInt8 := dkwX0_shownSets_0 ++ dktX0_shownSets_1
theorem dksX0_shownSets_0 : cX0_shownSets.data.toList.drop 0 = dktX0_shownSets_0 := by decide +kernel
theorem dksX0_shownSets_1 : cX0_shownSets.data.toList.drop 24 = dktX0_shownSets_1 := dk_seg dksX0_shownSets_0 24 rfl rfl
theorem dksX0_shownSets_2 : cX0_shownSets.data.toList.drop 48 = dktX0_shownSets_2 := dk_seg dksX0_shownSets_1 24 rfl rfl
theorem dX0_shownSets_0 : decode cX0_shownSets 0 = .ok (.aload_n 0, 1) := dk_42 (dk_at dksX0_shownSets_0 0 rfl rfl)
theorem dX0_shownSets_1 : decode cX0_shownSets 1 = .ok (.getfield 27, 3) := dk_180 0 27 (dk_at dksX0_shownSets_0 1 rfl rfl)
theorem dX0_shownSets_4 : decode cX0_shownSets 4 = .ok (.getfield 132, 3) := dk_180 0 132 (dk_at dksX0_shownSets_0 4 rfl rfl)
theorem dX0_shownSets_7 : decode cX0_shownSets 7 = .ok (.invokevirtual 169, 3) := dk_182 0 169 (dk_at dksX0_shownSets_0 7 rfl rfl)
theorem dX0_shownSets_10 : decode cX0_shownSets 10 = .ok (.newarray .int, 2) := dk_188_10 (dk_at dksX0_shownSets_0 10 rfl rfl)
theorem dX0_shownSets_12 : decode cX0_shownSets 12 = .ok (.astore_n 1, 1) := dk_76 (dk_at dksX0_shownSets_0 12 rfl rfl)
theorem dX0_shownSets_13 : decode cX0_shownSets 13 = .ok (.iconst 0, 1) := dk_3 (dk_at dksX0_shownSets_0 13 rfl rfl)
theorem dX0_shownSets_14 : decode cX0_shownSets 14 = .ok (.istore_n 2, 1) := dk_61 (dk_at dksX0_shownSets_0 14 rfl rfl)
theorem dX0_shownSets_15 : decode cX0_shownSets 15 = .ok (.iload_n 2, 1) := dk_28 (dk_at dksX0_shownSets_0 15 rfl rfl)
theorem dX0_shownSets_16 : decode cX0_shownSets 16 = .ok (.aload_n 1, 1) := dk_43 (dk_at dksX0_shownSets_0 16 rfl rfl)
theorem dX0_shownSets_17 : decode cX0_shownSets 17 = .ok (.arraylength, 1) := dk_190 (dk_at dksX0_shownSets_0 17 rfl rfl)
theorem dX0_shownSets_18 : decode cX0_shownSets 18 = .ok (.if_icmp .ge 33, 3) := dk_162 0 33 (dk_at dksX0_shownSets_0 18 rfl rfl)
theorem dX0_shownSets_21 : decode cX0_shownSets 21 = .ok (.aload_n 1, 1) := dk_43 (dk_at dksX0_shownSets_0 21 rfl rfl)
theorem dX0_shownSets_22 : decode cX0_shownSets 22 = .ok (.iload_n 2, 1) := dk_28 (dk_at dksX0_shownSets_0 22 rfl rfl)
theorem dX0_shownSets_23 : decode cX0_shownSets 23 = .ok (.aload_n 0, 1) := dk_42 (dk_at dksX0_shownSets_0 23 rfl rfl)
theorem dX0_shownSets_24 : decode cX0_shownSets 24 = .ok (.getfield 27, 3) := dk_180 0 27 (dk_at dksX0_shownSets_1 0 rfl rfl)
theorem dX0_shownSets_27 : decode cX0_shownSets 27 = .ok (.aload_n 0, 1) := dk_42 (dk_at dksX0_shownSets_1 3 rfl rfl)
theorem dX0_shownSets_28 : decode cX0_shownSets 28 = .ok (.getfield 27, 3) := dk_180 0 27 (dk_at dksX0_shownSets_1 4 rfl rfl)
theorem dX0_shownSets_31 : decode cX0_shownSets 31 = .ok (.getfield 132, 3) := dk_180 0 132 (dk_at dksX0_shownSets_1 7 rfl rfl)
theorem dX0_shownSets_34 : decode cX0_shownSets 34 = .ok (.iload_n 2, 1) := dk_28 (dk_at dksX0_shownSets_1 10 rfl rfl)
theorem dX0_shownSets_35 : decode cX0_shownSets 35 = .ok (.invokevirtual 136, 3) := dk_182 0 136 (dk_at dksX0_shownSets_1 11 rfl rfl)
theorem dX0_shownSets_38 : decode cX0_shownSets 38 = .ok (.checkcast 142, 3) := dk_192 0 142 (dk_at dksX0_shownSets_1 14 rfl rfl)
theorem dX0_shownSets_41 : decode cX0_shownSets 41 = .ok (.invokevirtual 170, 3) := dk_182 0 170 (dk_at dksX0_shownSets_1 17 rfl rfl)
theorem dX0_shownSets_44 : decode cX0_shownSets 44 = .ok (.iastore, 1) := dk_79 (dk_at dksX0_shownSets_1 20 rfl rfl)
theorem dX0_shownSets_45 : decode cX0_shownSets 45 = .ok (.iinc 2 1, 3) := dk_132 2 1 (dk_at dksX0_shownSets_1 21 rfl rfl)
theorem dX0_shownSets_48 : decode cX0_shownSets 48 = .ok (.goto (-33), 3) := dk_167 255 223 (dk_at dksX0_shownSets_2 0 rfl rfl)
theorem dX0_shownSets_51 : decode cX0_shownSets 51 = .ok (.aload_n 1, 1) := dk_43 (dk_at dksX0_shownSets_2 3 rfl rfl)
theorem dX0_shownSets_52 : decode cX0_shownSets 52 = .ok (.areturn, 1) := dk_176 (dk_at dksX0_shownSets_2 4 rfl rfl)
abbrev cX0_both : ByteArray := prog_1_method_31_code
def yX0_both : MethodName := ⟨RX0, "both", "(II[I)I"⟩
def dkwX0_both_2 : List UInt8 := [4, 167, 0, 4, 3, 96, 62, 132, 6, 1, 167, 255, 211, 29, 172]
abbrev dktX0_both_2 : List UInt8 := dkwX0_both_2 ++ []
def dkwX0_both_1 : List UInt8 := [46, 54, 7, 29, 21, 7, 26, 122, 4, 126, 4, 160, 0, 17, 21, 7, 27, 122, 4, 126, 4, 160, 0, 7]
abbrev dktX0_both_1 : List UInt8 := dkwX0_both_1 ++ dktX0_both_2
def dkwX0_both_0 : List UInt8 := [3, 62, 44, 58, 4, 25, 4, 190, 54, 5, 3, 54, 6, 21, 6, 21, 5, 162, 0, 44, 25, 4, 21, 6]
abbrev dktX0_both_0 : List UInt8 := dkwX0_both_0 ++ dktX0_both_1
theorem dksX0_both_0 : cX0_both.data.toList.drop 0 = dktX0_both_0 := by decide +kernel
theorem dksX0_both_1 : cX0_both.data.toList.drop 24 = dktX0_both_1 := dk_seg dksX0_both_0 24 rfl rfl
theorem dksX0_both_2 : cX0_both.data.toList.drop 48 = dktX0_both_2 := dk_seg dksX0_both_1 24 rfl rfl
theorem dX0_both_0 : decode cX0_both 0 = .ok (.iconst 0, 1) := dk_3 (dk_at dksX0_both_0 0 rfl rfl)
theorem dX0_both_1 : decode cX0_both 1 = .ok (.istore_n 3, 1) := dk_62 (dk_at dksX0_both_0 1 rfl rfl)
theorem dX0_both_2 : decode cX0_both 2 = .ok (.aload_n 2, 1) := dk_44 (dk_at dksX0_both_0 2 rfl rfl)
theorem dX0_both_3 : decode cX0_both 3 = .ok (.astore 4, 2) := dk_58 4 (dk_at dksX0_both_0 3 rfl rfl)
theorem dX0_both_5 : decode cX0_both 5 = .ok (.aload 4, 2) := dk_25 4 (dk_at dksX0_both_0 5 rfl rfl)
theorem dX0_both_7 : decode cX0_both 7 = .ok (.arraylength, 1) := dk_190 (dk_at dksX0_both_0 7 rfl rfl)
theorem dX0_both_8 : decode cX0_both 8 = .ok (.istore 5, 2) := dk_54 5 (dk_at dksX0_both_0 8 rfl rfl)
theorem dX0_both_10 : decode cX0_both 10 = .ok (.iconst 0, 1) := dk_3 (dk_at dksX0_both_0 10 rfl rfl)
theorem dX0_both_11 : decode cX0_both 11 = .ok (.istore 6, 2) := dk_54 6 (dk_at dksX0_both_0 11 rfl rfl)
theorem dX0_both_13 : decode cX0_both 13 = .ok (.iload 6, 2) := dk_21 6 (dk_at dksX0_both_0 13 rfl rfl)
theorem dX0_both_15 : decode cX0_both 15 = .ok (.iload 5, 2) := dk_21 5 (dk_at dksX0_both_0 15 rfl rfl)
theorem dX0_both_17 : decode cX0_both 17 = .ok (.if_icmp .ge 44, 3) := dk_162 0 44 (dk_at dksX0_both_0 17 rfl rfl)
theorem dX0_both_20 : decode cX0_both 20 = .ok (.aload 4, 2) := dk_25 4 (dk_at dksX0_both_0 20 rfl rfl)
theorem dX0_both_22 : decode cX0_both 22 = .ok (.iload 6, 2) := dk_21 6 (dk_at dksX0_both_0 22 rfl rfl)
theorem dX0_both_24 : decode cX0_both 24 = .ok (.iaload, 1) := dk_46 (dk_at dksX0_both_1 0 rfl rfl)
theorem dX0_both_25 : decode cX0_both 25 = .ok (.istore 7, 2) := dk_54 7 (dk_at dksX0_both_1 1 rfl rfl)
theorem dX0_both_27 : decode cX0_both 27 = .ok (.iload_n 3, 1) := dk_29 (dk_at dksX0_both_1 3 rfl rfl)
theorem dX0_both_28 : decode cX0_both 28 = .ok (.iload 7, 2) := dk_21 7 (dk_at dksX0_both_1 4 rfl rfl)
theorem dX0_both_30 : decode cX0_both 30 = .ok (.iload_n 0, 1) := dk_26 (dk_at dksX0_both_1 6 rfl rfl)
theorem dX0_both_31 : decode cX0_both 31 = .ok (.ishr, 1) := dk_122 (dk_at dksX0_both_1 7 rfl rfl)
theorem dX0_both_32 : decode cX0_both 32 = .ok (.iconst 1, 1) := dk_4 (dk_at dksX0_both_1 8 rfl rfl)
theorem dX0_both_33 : decode cX0_both 33 = .ok (.iand, 1) := dk_126 (dk_at dksX0_both_1 9 rfl rfl)
theorem dX0_both_34 : decode cX0_both 34 = .ok (.iconst 1, 1) := dk_4 (dk_at dksX0_both_1 10 rfl rfl)
theorem dX0_both_35 : decode cX0_both 35 = .ok (.if_icmp .ne 17, 3) := dk_160 0 17 (dk_at dksX0_both_1 11 rfl rfl)
theorem dX0_both_38 : decode cX0_both 38 = .ok (.iload 7, 2) := dk_21 7 (dk_at dksX0_both_1 14 rfl rfl)
theorem dX0_both_40 : decode cX0_both 40 = .ok (.iload_n 1, 1) := dk_27 (dk_at dksX0_both_1 16 rfl rfl)
theorem dX0_both_41 : decode cX0_both 41 = .ok (.ishr, 1) := dk_122 (dk_at dksX0_both_1 17 rfl rfl)
theorem dX0_both_42 : decode cX0_both 42 = .ok (.iconst 1, 1) := dk_4 (dk_at dksX0_both_1 18 rfl rfl)
theorem dX0_both_43 : decode cX0_both 43 = .ok (.iand, 1) := dk_126 (dk_at dksX0_both_1 19 rfl rfl)
theorem dX0_both_44 : decode cX0_both 44 = .ok (.iconst 1, 1) := dk_4 (dk_at dksX0_both_1 20 rfl rfl)
theorem dX0_both_45 : decode cX0_both 45 = .ok (.if_icmp .ne 7, 3) := dk_160 0 7 (dk_at dksX0_both_1 21 rfl rfl)
theorem dX0_both_48 : decode cX0_both 48 = .ok (.iconst 1, 1) := dk_4 (dk_at dksX0_both_2 0 rfl rfl)
theorem dX0_both_49 : decode cX0_both 49 = .ok (.goto 4, 3) := dk_167 0 4 (dk_at dksX0_both_2 1 rfl rfl)
theorem dX0_both_52 : decode cX0_both 52 = .ok (.iconst 0, 1) := dk_3 (dk_at dksX0_both_2 4 rfl rfl)
theorem dX0_both_53 : decode cX0_both 53 = .ok (.iadd, 1) := dk_96 (dk_at dksX0_both_2 5 rfl rfl)
theorem dX0_both_54 : decode cX0_both 54 = .ok (.istore_n 3, 1) := dk_62 (dk_at dksX0_both_2 6 rfl rfl)
theorem dX0_both_55 : decode cX0_both 55 = .ok (.iinc 6 1, 3) := dk_132 6 1 (dk_at dksX0_both_2 7 rfl rfl)
theorem dX0_both_58 : decode cX0_both 58 = .ok (.goto (-45), 3) := dk_167 255 211 (dk_at dksX0_both_2 10 rfl rfl)
theorem dX0_both_61 : decode cX0_both 61 = .ok (.iload_n 3, 1) := dk_29 (dk_at dksX0_both_2 13 rfl rfl)
theorem dX0_both_62 : decode cX0_both 62 = .ok (.ireturn, 1) := dk_172 (dk_at dksX0_both_2 14 rfl rfl)
abbrev cX0_silence : ByteArray := prog_1_method_34_code
def yX0_silence : MethodName := ⟨RX0, "silence", "(I)I"⟩
def dkwX0_silence_6 : List UInt8 := [172]
abbrev dktX0_silence_6 : List UInt8 := dkwX0_silence_6 ++ []
def dkwX0_silence_5 : List UInt8 := [132, 6, 1, 167, 255, 194, 29, 154, 0, 8, 18, 110, 167, 0, 12, 27, 154, 0, 7, 28, 167, 0, 4, 29]
abbrev dktX0_silence_5 : List UInt8 := dkwX0_silence_5 ++ dktX0_silence_6
def dkwX0_silence_4 : List UInt8 := [29, 164, 0, 13, 21, 6, 21, 4, 100, 4, 96, 167, 0, 4, 28, 61, 29, 21, 4, 184, 0, 248, 62]
abbrev dktX0_silence_4 : List UInt8 := dkwX0_silence_4 ++ dktX0_silence_5
def dkwX0_silence_3 : List UInt8 := [42, 180, 0, 27, 21, 6, 182, 1, 3, 154, 0, 10, 21, 4, 4, 96, 167, 0, 4, 3, 54, 4, 21, 4]
abbrev dktX0_silence_3 : List UInt8 := dkwX0_silence_3 ++ dktX0_silence_4
def dkwX0_silence_2 : List UInt8 := [192, 0, 142, 180, 0, 253, 54, 5, 21, 5, 54, 6, 21, 6, 42, 180, 0, 27, 182, 1, 0, 162, 0, 56]
abbrev dktX0_silence_2 : List UInt8 := dkwX0_silence_2 ++ dktX0_silence_3
def dkwX0_silence_1 : List UInt8 := [180, 0, 132, 182, 0, 169, 154, 0, 7, 3, 167, 0, 20, 42, 180, 0, 27, 180, 0, 132, 3, 182, 0, 136]
abbrev dktX0_silence_1 : List UInt8 := dkwX0_silence_1 ++ dktX0_silence_2
def dkwX0_silence_0 : List UInt8 := [27, 133, 9, 10, 184, 0, 5, 154, 0, 6, 18, 109, 172, 3, 61, 3, 62, 3, 54, 4, 42, 180, 0, 27]
abbrev dktX0_silence_0 : List UInt8 := dkwX0_silence_0 ++ dktX0_silence_1
theorem dksX0_silence_0 : cX0_silence.data.toList.drop 0 = dktX0_silence_0 := by decide +kernel
theorem dksX0_silence_1 : cX0_silence.data.toList.drop 24 = dktX0_silence_1 := dk_seg dksX0_silence_0 24 rfl rfl
theorem dksX0_silence_2 : cX0_silence.data.toList.drop 48 = dktX0_silence_2 := dk_seg dksX0_silence_1 24 rfl rfl
theorem dksX0_silence_3 : cX0_silence.data.toList.drop 72 = dktX0_silence_3 := dk_seg dksX0_silence_2 24 rfl rfl
theorem dksX0_silence_4 : cX0_silence.data.toList.drop 96 = dktX0_silence_4 := dk_seg dksX0_silence_3 24 rfl rfl
theorem dksX0_silence_5 : cX0_silence.data.toList.drop 119 = dktX0_silence_5 := dk_seg dksX0_silence_4 23 rfl rfl
theorem dksX0_silence_6 : cX0_silence.data.toList.drop 143 = dktX0_silence_6 := dk_seg dksX0_silence_5 24 rfl rfl
theorem dX0_silence_0 : decode cX0_silence 0 = .ok (.iload_n 1, 1) := dk_27 (dk_at dksX0_silence_0 0 rfl rfl)
theorem dX0_silence_1 : decode cX0_silence 1 = .ok (.i2l, 1) := dk_133 (dk_at dksX0_silence_0 1 rfl rfl)
theorem dX0_silence_2 : decode cX0_silence 2 = .ok (.lconst 0, 1) := dk_9 (dk_at dksX0_silence_0 2 rfl rfl)
theorem dX0_silence_3 : decode cX0_silence 3 = .ok (.lconst 1, 1) := dk_10 (dk_at dksX0_silence_0 3 rfl rfl)
theorem dX0_silence_4 : decode cX0_silence 4 = .ok (.invokestatic 5, 3) := dk_184 0 5 (dk_at dksX0_silence_0 4 rfl rfl)
theorem dX0_silence_7 : decode cX0_silence 7 = .ok (.ifCond .ne 6, 3) := dk_154 0 6 (dk_at dksX0_silence_0 7 rfl rfl)
theorem dX0_silence_10 : decode cX0_silence 10 = .ok (.ldc 109, 2) := dk_18 109 (dk_at dksX0_silence_0 10 rfl rfl)
theorem dX0_silence_12 : decode cX0_silence 12 = .ok (.ireturn, 1) := dk_172 (dk_at dksX0_silence_0 12 rfl rfl)
theorem dX0_silence_13 : decode cX0_silence 13 = .ok (.iconst 0, 1) := dk_3 (dk_at dksX0_silence_0 13 rfl rfl)
theorem dX0_silence_14 : decode cX0_silence 14 = .ok (.istore_n 2, 1) := dk_61 (dk_at dksX0_silence_0 14 rfl rfl)
theorem dX0_silence_15 : decode cX0_silence 15 = .ok (.iconst 0, 1) := dk_3 (dk_at dksX0_silence_0 15 rfl rfl)
theorem dX0_silence_16 : decode cX0_silence 16 = .ok (.istore_n 3, 1) := dk_62 (dk_at dksX0_silence_0 16 rfl rfl)
theorem dX0_silence_17 : decode cX0_silence 17 = .ok (.iconst 0, 1) := dk_3 (dk_at dksX0_silence_0 17 rfl rfl)
theorem dX0_silence_18 : decode cX0_silence 18 = .ok (.istore 4, 2) := dk_54 4 (dk_at dksX0_silence_0 18 rfl rfl)
theorem dX0_silence_20 : decode cX0_silence 20 = .ok (.aload_n 0, 1) := dk_42 (dk_at dksX0_silence_0 20 rfl rfl)
theorem dX0_silence_21 : decode cX0_silence 21 = .ok (.getfield 27, 3) := dk_180 0 27 (dk_at dksX0_silence_0 21 rfl rfl)
theorem dX0_silence_24 : decode cX0_silence 24 = .ok (.getfield 132, 3) := dk_180 0 132 (dk_at dksX0_silence_1 0 rfl rfl)
theorem dX0_silence_27 : decode cX0_silence 27 = .ok (.invokevirtual 169, 3) := dk_182 0 169 (dk_at dksX0_silence_1 3 rfl rfl)
theorem dX0_silence_30 : decode cX0_silence 30 = .ok (.ifCond .ne 7, 3) := dk_154 0 7 (dk_at dksX0_silence_1 6 rfl rfl)
theorem dX0_silence_33 : decode cX0_silence 33 = .ok (.iconst 0, 1) := dk_3 (dk_at dksX0_silence_1 9 rfl rfl)
theorem dX0_silence_34 : decode cX0_silence 34 = .ok (.goto 20, 3) := dk_167 0 20 (dk_at dksX0_silence_1 10 rfl rfl)
theorem dX0_silence_37 : decode cX0_silence 37 = .ok (.aload_n 0, 1) := dk_42 (dk_at dksX0_silence_1 13 rfl rfl)
theorem dX0_silence_38 : decode cX0_silence 38 = .ok (.getfield 27, 3) := dk_180 0 27 (dk_at dksX0_silence_1 14 rfl rfl)
theorem dX0_silence_41 : decode cX0_silence 41 = .ok (.getfield 132, 3) := dk_180 0 132 (dk_at dksX0_silence_1 17 rfl rfl)
theorem dX0_silence_44 : decode cX0_silence 44 = .ok (.iconst 0, 1) := dk_3 (dk_at dksX0_silence_1 20 rfl rfl)
theorem dX0_silence_45 : decode cX0_silence 45 = .ok (.invokevirtual 136, 3) := dk_182 0 136 (dk_at dksX0_silence_1 21 rfl rfl)
theorem dX0_silence_48 : decode cX0_silence 48 = .ok (.checkcast 142, 3) := dk_192 0 142 (dk_at dksX0_silence_2 0 rfl rfl)
theorem dX0_silence_51 : decode cX0_silence 51 = .ok (.getfield 253, 3) := dk_180 0 253 (dk_at dksX0_silence_2 3 rfl rfl)
theorem dX0_silence_54 : decode cX0_silence 54 = .ok (.istore 5, 2) := dk_54 5 (dk_at dksX0_silence_2 6 rfl rfl)
theorem dX0_silence_56 : decode cX0_silence 56 = .ok (.iload 5, 2) := dk_21 5 (dk_at dksX0_silence_2 8 rfl rfl)
theorem dX0_silence_58 : decode cX0_silence 58 = .ok (.istore 6, 2) := dk_54 6 (dk_at dksX0_silence_2 10 rfl rfl)
theorem dX0_silence_60 : decode cX0_silence 60 = .ok (.iload 6, 2) := dk_21 6 (dk_at dksX0_silence_2 12 rfl rfl)
theorem dX0_silence_62 : decode cX0_silence 62 = .ok (.aload_n 0, 1) := dk_42 (dk_at dksX0_silence_2 14 rfl rfl)
theorem dX0_silence_63 : decode cX0_silence 63 = .ok (.getfield 27, 3) := dk_180 0 27 (dk_at dksX0_silence_2 15 rfl rfl)
theorem dX0_silence_66 : decode cX0_silence 66 = .ok (.invokevirtual 256, 3) := dk_182 1 0 (dk_at dksX0_silence_2 18 rfl rfl)
theorem dX0_silence_69 : decode cX0_silence 69 = .ok (.if_icmp .ge 56, 3) := dk_162 0 56 (dk_at dksX0_silence_2 21 rfl rfl)
theorem dX0_silence_72 : decode cX0_silence 72 = .ok (.aload_n 0, 1) := dk_42 (dk_at dksX0_silence_3 0 rfl rfl)
theorem dX0_silence_73 : decode cX0_silence 73 = .ok (.getfield 27, 3) := dk_180 0 27 (dk_at dksX0_silence_3 1 rfl rfl)
theorem dX0_silence_76 : decode cX0_silence 76 = .ok (.iload 6, 2) := dk_21 6 (dk_at dksX0_silence_3 4 rfl rfl)
theorem dX0_silence_78 : decode cX0_silence 78 = .ok (.invokevirtual 259, 3) := dk_182 1 3 (dk_at dksX0_silence_3 6 rfl rfl)
theorem dX0_silence_81 : decode cX0_silence 81 = .ok (.ifCond .ne 10, 3) := dk_154 0 10 (dk_at dksX0_silence_3 9 rfl rfl)
theorem dX0_silence_84 : decode cX0_silence 84 = .ok (.iload 4, 2) := dk_21 4 (dk_at dksX0_silence_3 12 rfl rfl)
theorem dX0_silence_86 : decode cX0_silence 86 = .ok (.iconst 1, 1) := dk_4 (dk_at dksX0_silence_3 14 rfl rfl)
theorem dX0_silence_87 : decode cX0_silence 87 = .ok (.iadd, 1) := dk_96 (dk_at dksX0_silence_3 15 rfl rfl)
theorem dX0_silence_88 : decode cX0_silence 88 = .ok (.goto 4, 3) := dk_167 0 4 (dk_at dksX0_silence_3 16 rfl rfl)
theorem dX0_silence_91 : decode cX0_silence 91 = .ok (.iconst 0, 1) := dk_3 (dk_at dksX0_silence_3 19 rfl rfl)
theorem dX0_silence_92 : decode cX0_silence 92 = .ok (.istore 4, 2) := dk_54 4 (dk_at dksX0_silence_3 20 rfl rfl)
theorem dX0_silence_94 : decode cX0_silence 94 = .ok (.iload 4, 2) := dk_21 4 (dk_at dksX0_silence_3 22 rfl rfl)
theorem dX0_silence_96 : decode cX0_silence 96 = .ok (.iload_n 3, 1) := dk_29 (dk_at dksX0_silence_4 0 rfl rfl)
theorem dX0_silence_97 : decode cX0_silence 97 = .ok (.if_icmp .le 13, 3) := dk_164 0 13 (dk_at dksX0_silence_4 1 rfl rfl)
theorem dX0_silence_100 : decode cX0_silence 100 = .ok (.iload 6, 2) := dk_21 6 (dk_at dksX0_silence_4 4 rfl rfl)
theorem dX0_silence_102 : decode cX0_silence 102 = .ok (.iload 4, 2) := dk_21 4 (dk_at dksX0_silence_4 6 rfl rfl)
theorem dX0_silence_104 : decode cX0_silence 104 = .ok (.isub, 1) := dk_100 (dk_at dksX0_silence_4 8 rfl rfl)
theorem dX0_silence_105 : decode cX0_silence 105 = .ok (.iconst 1, 1) := dk_4 (dk_at dksX0_silence_4 9 rfl rfl)
theorem dX0_silence_106 : decode cX0_silence 106 = .ok (.iadd, 1) := dk_96 (dk_at dksX0_silence_4 10 rfl rfl)
theorem dX0_silence_107 : decode cX0_silence 107 = .ok (.goto 4, 3) := dk_167 0 4 (dk_at dksX0_silence_4 11 rfl rfl)
theorem dX0_silence_110 : decode cX0_silence 110 = .ok (.iload_n 2, 1) := dk_28 (dk_at dksX0_silence_4 14 rfl rfl)
theorem dX0_silence_111 : decode cX0_silence 111 = .ok (.istore_n 2, 1) := dk_61 (dk_at dksX0_silence_4 15 rfl rfl)
theorem dX0_silence_112 : decode cX0_silence 112 = .ok (.iload_n 3, 1) := dk_29 (dk_at dksX0_silence_4 16 rfl rfl)
theorem dX0_silence_113 : decode cX0_silence 113 = .ok (.iload 4, 2) := dk_21 4 (dk_at dksX0_silence_4 17 rfl rfl)
theorem dX0_silence_115 : decode cX0_silence 115 = .ok (.invokestatic 248, 3) := dk_184 0 248 (dk_at dksX0_silence_4 19 rfl rfl)
theorem dX0_silence_118 : decode cX0_silence 118 = .ok (.istore_n 3, 1) := dk_62 (dk_at dksX0_silence_4 22 rfl rfl)
theorem dX0_silence_119 : decode cX0_silence 119 = .ok (.iinc 6 1, 3) := dk_132 6 1 (dk_at dksX0_silence_5 0 rfl rfl)
theorem dX0_silence_122 : decode cX0_silence 122 = .ok (.goto (-62), 3) := dk_167 255 194 (dk_at dksX0_silence_5 3 rfl rfl)
theorem dX0_silence_125 : decode cX0_silence 125 = .ok (.iload_n 3, 1) := dk_29 (dk_at dksX0_silence_5 6 rfl rfl)
theorem dX0_silence_126 : decode cX0_silence 126 = .ok (.ifCond .ne 8, 3) := dk_154 0 8 (dk_at dksX0_silence_5 7 rfl rfl)
theorem dX0_silence_129 : decode cX0_silence 129 = .ok (.ldc 110, 2) := dk_18 110 (dk_at dksX0_silence_5 10 rfl rfl)
theorem dX0_silence_131 : decode cX0_silence 131 = .ok (.goto 12, 3) := dk_167 0 12 (dk_at dksX0_silence_5 12 rfl rfl)
theorem dX0_silence_134 : decode cX0_silence 134 = .ok (.iload_n 1, 1) := dk_27 (dk_at dksX0_silence_5 15 rfl rfl)
theorem dX0_silence_135 : decode cX0_silence 135 = .ok (.ifCond .ne 7, 3) := dk_154 0 7 (dk_at dksX0_silence_5 16 rfl rfl)
theorem dX0_silence_138 : decode cX0_silence 138 = .ok (.iload_n 2, 1) := dk_28 (dk_at dksX0_silence_5 19 rfl rfl)
theorem dX0_silence_139 : decode cX0_silence 139 = .ok (.goto 4, 3) := dk_167 0 4 (dk_at dksX0_silence_5 20 rfl rfl)
theorem dX0_silence_142 : decode cX0_silence 142 = .ok (.iload_n 3, 1) := dk_29 (dk_at dksX0_silence_5 23 rfl rfl)
theorem dX0_silence_143 : decode cX0_silence 143 = .ok (.ireturn, 1) := dk_172 (dk_at dksX0_silence_6 0 rfl rfl)
abbrev cX0_doubtful : ByteArray := prog_1_method_35_code
def yX0_doubtful : MethodName := ⟨RX0, "doubtful", "(I)I"⟩
def dkwX0_doubtful_5 : List UInt8 := [28, 167, 0, 4, 29, 184, 0, 186, 172]
abbrev dktX0_doubtful_5 : List UInt8 := dkwX0_doubtful_5 ++ []
def dkwX0_doubtful_4 : List UInt8 := [21, 4, 167, 0, 4, 28, 61, 29, 21, 6, 184, 0, 248, 62, 132, 4, 1, 167, 255, 164, 27, 154, 0, 7]
abbrev dktX0_doubtful_4 : List UInt8 := dkwX0_doubtful_4 ++ dktX0_doubtful_5
def dkwX0_doubtful_3 : List UInt8 := [180, 0, 27, 180, 0, 211, 25, 5, 180, 0, 174, 46, 100, 184, 1, 9, 54, 6, 21, 6, 29, 164, 0, 8]
abbrev dktX0_doubtful_3 : List UInt8 := dkwX0_doubtful_3 ++ dktX0_doubtful_4
def dkwX0_doubtful_2 : List UInt8 := [192, 0, 142, 58, 5, 25, 5, 180, 0, 174, 2, 160, 0, 7, 2, 167, 0, 25, 25, 5, 180, 1, 6, 42]
abbrev dktX0_doubtful_2 : List UInt8 := dkwX0_doubtful_2 ++ dktX0_doubtful_3
def dkwX0_doubtful_1 : List UInt8 := [180, 0, 27, 180, 0, 132, 182, 0, 169, 162, 0, 83, 42, 180, 0, 27, 180, 0, 132, 21, 4, 182, 0, 136]
abbrev dktX0_doubtful_1 : List UInt8 := dkwX0_doubtful_1 ++ dktX0_doubtful_2
def dkwX0_doubtful_0 : List UInt8 := [27, 133, 9, 10, 184, 0, 5, 154, 0, 6, 18, 109, 172, 2, 61, 2, 62, 3, 54, 4, 21, 4, 42]
abbrev dktX0_doubtful_0 : List UInt8 := dkwX0_doubtful_0 ++ dktX0_doubtful_1
theorem dksX0_doubtful_0 : cX0_doubtful.data.toList.drop 0 = dktX0_doubtful_0 := by decide +kernel
theorem dksX0_doubtful_1 : cX0_doubtful.data.toList.drop 23 = dktX0_doubtful_1 := dk_seg dksX0_doubtful_0 23 rfl rfl
theorem dksX0_doubtful_2 : cX0_doubtful.data.toList.drop 47 = dktX0_doubtful_2 := dk_seg dksX0_doubtful_1 24 rfl rfl
theorem dksX0_doubtful_3 : cX0_doubtful.data.toList.drop 71 = dktX0_doubtful_3 := dk_seg dksX0_doubtful_2 24 rfl rfl
theorem dksX0_doubtful_4 : cX0_doubtful.data.toList.drop 95 = dktX0_doubtful_4 := dk_seg dksX0_doubtful_3 24 rfl rfl
theorem dksX0_doubtful_5 : cX0_doubtful.data.toList.drop 119 = dktX0_doubtful_5 := dk_seg dksX0_doubtful_4 24 rfl rfl
theorem dX0_doubtful_0 : decode cX0_doubtful 0 = .ok (.iload_n 1, 1) := dk_27 (dk_at dksX0_doubtful_0 0 rfl rfl)
theorem dX0_doubtful_1 : decode cX0_doubtful 1 = .ok (.i2l, 1) := dk_133 (dk_at dksX0_doubtful_0 1 rfl rfl)
theorem dX0_doubtful_2 : decode cX0_doubtful 2 = .ok (.lconst 0, 1) := dk_9 (dk_at dksX0_doubtful_0 2 rfl rfl)
theorem dX0_doubtful_3 : decode cX0_doubtful 3 = .ok (.lconst 1, 1) := dk_10 (dk_at dksX0_doubtful_0 3 rfl rfl)
theorem dX0_doubtful_4 : decode cX0_doubtful 4 = .ok (.invokestatic 5, 3) := dk_184 0 5 (dk_at dksX0_doubtful_0 4 rfl rfl)
theorem dX0_doubtful_7 : decode cX0_doubtful 7 = .ok (.ifCond .ne 6, 3) := dk_154 0 6 (dk_at dksX0_doubtful_0 7 rfl rfl)
theorem dX0_doubtful_10 : decode cX0_doubtful 10 = .ok (.ldc 109, 2) := dk_18 109 (dk_at dksX0_doubtful_0 10 rfl rfl)
theorem dX0_doubtful_12 : decode cX0_doubtful 12 = .ok (.ireturn, 1) := dk_172 (dk_at dksX0_doubtful_0 12 rfl rfl)
theorem dX0_doubtful_13 : decode cX0_doubtful 13 = .ok (.iconst (-1), 1) := dk_2 (dk_at dksX0_doubtful_0 13 rfl rfl)
theorem dX0_doubtful_14 : decode cX0_doubtful 14 = .ok (.istore_n 2, 1) := dk_61 (dk_at dksX0_doubtful_0 14 rfl rfl)
theorem dX0_doubtful_15 : decode cX0_doubtful 15 = .ok (.iconst (-1), 1) := dk_2 (dk_at dksX0_doubtful_0 15 rfl rfl)
theorem dX0_doubtful_16 : decode cX0_doubtful 16 = .ok (.istore_n 3, 1) := dk_62 (dk_at dksX0_doubtful_0 16 rfl rfl)
theorem dX0_doubtful_17 : decode cX0_doubtful 17 = .ok (.iconst 0, 1) := dk_3 (dk_at dksX0_doubtful_0 17 rfl rfl)
theorem dX0_doubtful_18 : decode cX0_doubtful 18 = .ok (.istore 4, 2) := dk_54 4 (dk_at dksX0_doubtful_0 18 rfl rfl)
theorem dX0_doubtful_20 : decode cX0_doubtful 20 = .ok (.iload 4, 2) := dk_21 4 (dk_at dksX0_doubtful_0 20 rfl rfl)
theorem dX0_doubtful_22 : decode cX0_doubtful 22 = .ok (.aload_n 0, 1) := dk_42 (dk_at dksX0_doubtful_0 22 rfl rfl)
theorem dX0_doubtful_23 : decode cX0_doubtful 23 = .ok (.getfield 27, 3) := dk_180 0 27 (dk_at dksX0_doubtful_1 0 rfl rfl)
theorem dX0_doubtful_26 : decode cX0_doubtful 26 = .ok (.getfield 132, 3) := dk_180 0 132 (dk_at dksX0_doubtful_1 3 rfl rfl)
theorem dX0_doubtful_29 : decode cX0_doubtful 29 = .ok (.invokevirtual 169, 3) := dk_182 0 169 (dk_at dksX0_doubtful_1 6 rfl rfl)
theorem dX0_doubtful_32 : decode cX0_doubtful 32 = .ok (.if_icmp .ge 83, 3) := dk_162 0 83 (dk_at dksX0_doubtful_1 9 rfl rfl)
theorem dX0_doubtful_35 : decode cX0_doubtful 35 = .ok (.aload_n 0, 1) := dk_42 (dk_at dksX0_doubtful_1 12 rfl rfl)
theorem dX0_doubtful_36 : decode cX0_doubtful 36 = .ok (.getfield 27, 3) := dk_180 0 27 (dk_at dksX0_doubtful_1 13 rfl rfl)
theorem dX0_doubtful_39 : decode cX0_doubtful 39 = .ok (.getfield 132, 3) := dk_180 0 132 (dk_at dksX0_doubtful_1 16 rfl rfl)
theorem dX0_doubtful_42 : decode cX0_doubtful 42 = .ok (.iload 4, 2) := dk_21 4 (dk_at dksX0_doubtful_1 19 rfl rfl)
theorem dX0_doubtful_44 : decode cX0_doubtful 44 = .ok (.invokevirtual 136, 3) := dk_182 0 136 (dk_at dksX0_doubtful_1 21 rfl rfl)
theorem dX0_doubtful_47 : decode cX0_doubtful 47 = .ok (.checkcast 142, 3) := dk_192 0 142 (dk_at dksX0_doubtful_2 0 rfl rfl)
theorem dX0_doubtful_50 : decode cX0_doubtful 50 = .ok (.astore 5, 2) := dk_58 5 (dk_at dksX0_doubtful_2 3 rfl rfl)
theorem dX0_doubtful_52 : decode cX0_doubtful 52 = .ok (.aload 5, 2) := dk_25 5 (dk_at dksX0_doubtful_2 5 rfl rfl)
theorem dX0_doubtful_54 : decode cX0_doubtful 54 = .ok (.getfield 174, 3) := dk_180 0 174 (dk_at dksX0_doubtful_2 7 rfl rfl)
theorem dX0_doubtful_57 : decode cX0_doubtful 57 = .ok (.iconst (-1), 1) := dk_2 (dk_at dksX0_doubtful_2 10 rfl rfl)
theorem dX0_doubtful_58 : decode cX0_doubtful 58 = .ok (.if_icmp .ne 7, 3) := dk_160 0 7 (dk_at dksX0_doubtful_2 11 rfl rfl)
theorem dX0_doubtful_61 : decode cX0_doubtful 61 = .ok (.iconst (-1), 1) := dk_2 (dk_at dksX0_doubtful_2 14 rfl rfl)
theorem dX0_doubtful_62 : decode cX0_doubtful 62 = .ok (.goto 25, 3) := dk_167 0 25 (dk_at dksX0_doubtful_2 15 rfl rfl)
theorem dX0_doubtful_65 : decode cX0_doubtful 65 = .ok (.aload 5, 2) := dk_25 5 (dk_at dksX0_doubtful_2 18 rfl rfl)
theorem dX0_doubtful_67 : decode cX0_doubtful 67 = .ok (.getfield 262, 3) := dk_180 1 6 (dk_at dksX0_doubtful_2 20 rfl rfl)
theorem dX0_doubtful_70 : decode cX0_doubtful 70 = .ok (.aload_n 0, 1) := dk_42 (dk_at dksX0_doubtful_2 23 rfl rfl)
theorem dX0_doubtful_71 : decode cX0_doubtful 71 = .ok (.getfield 27, 3) := dk_180 0 27 (dk_at dksX0_doubtful_3 0 rfl rfl)
theorem dX0_doubtful_74 : decode cX0_doubtful 74 = .ok (.getfield 211, 3) := dk_180 0 211 (dk_at dksX0_doubtful_3 3 rfl rfl)
theorem dX0_doubtful_77 : decode cX0_doubtful 77 = .ok (.aload 5, 2) := dk_25 5 (dk_at dksX0_doubtful_3 6 rfl rfl)
theorem dX0_doubtful_79 : decode cX0_doubtful 79 = .ok (.getfield 174, 3) := dk_180 0 174 (dk_at dksX0_doubtful_3 8 rfl rfl)
theorem dX0_doubtful_82 : decode cX0_doubtful 82 = .ok (.iaload, 1) := dk_46 (dk_at dksX0_doubtful_3 11 rfl rfl)
theorem dX0_doubtful_83 : decode cX0_doubtful 83 = .ok (.isub, 1) := dk_100 (dk_at dksX0_doubtful_3 12 rfl rfl)
theorem dX0_doubtful_84 : decode cX0_doubtful 84 = .ok (.invokestatic 265, 3) := dk_184 1 9 (dk_at dksX0_doubtful_3 13 rfl rfl)
theorem dX0_doubtful_87 : decode cX0_doubtful 87 = .ok (.istore 6, 2) := dk_54 6 (dk_at dksX0_doubtful_3 16 rfl rfl)
theorem dX0_doubtful_89 : decode cX0_doubtful 89 = .ok (.iload 6, 2) := dk_21 6 (dk_at dksX0_doubtful_3 18 rfl rfl)
theorem dX0_doubtful_91 : decode cX0_doubtful 91 = .ok (.iload_n 3, 1) := dk_29 (dk_at dksX0_doubtful_3 20 rfl rfl)
theorem dX0_doubtful_92 : decode cX0_doubtful 92 = .ok (.if_icmp .le 8, 3) := dk_164 0 8 (dk_at dksX0_doubtful_3 21 rfl rfl)
theorem dX0_doubtful_95 : decode cX0_doubtful 95 = .ok (.iload 4, 2) := dk_21 4 (dk_at dksX0_doubtful_4 0 rfl rfl)
theorem dX0_doubtful_97 : decode cX0_doubtful 97 = .ok (.goto 4, 3) := dk_167 0 4 (dk_at dksX0_doubtful_4 2 rfl rfl)
theorem dX0_doubtful_100 : decode cX0_doubtful 100 = .ok (.iload_n 2, 1) := dk_28 (dk_at dksX0_doubtful_4 5 rfl rfl)
theorem dX0_doubtful_101 : decode cX0_doubtful 101 = .ok (.istore_n 2, 1) := dk_61 (dk_at dksX0_doubtful_4 6 rfl rfl)
theorem dX0_doubtful_102 : decode cX0_doubtful 102 = .ok (.iload_n 3, 1) := dk_29 (dk_at dksX0_doubtful_4 7 rfl rfl)
theorem dX0_doubtful_103 : decode cX0_doubtful 103 = .ok (.iload 6, 2) := dk_21 6 (dk_at dksX0_doubtful_4 8 rfl rfl)
theorem dX0_doubtful_105 : decode cX0_doubtful 105 = .ok (.invokestatic 248, 3) := dk_184 0 248 (dk_at dksX0_doubtful_4 10 rfl rfl)
theorem dX0_doubtful_108 : decode cX0_doubtful 108 = .ok (.istore_n 3, 1) := dk_62 (dk_at dksX0_doubtful_4 13 rfl rfl)
theorem dX0_doubtful_109 : decode cX0_doubtful 109 = .ok (.iinc 4 1, 3) := dk_132 4 1 (dk_at dksX0_doubtful_4 14 rfl rfl)
theorem dX0_doubtful_112 : decode cX0_doubtful 112 = .ok (.goto (-92), 3) := dk_167 255 164 (dk_at dksX0_doubtful_4 17 rfl rfl)
theorem dX0_doubtful_115 : decode cX0_doubtful 115 = .ok (.iload_n 1, 1) := dk_27 (dk_at dksX0_doubtful_4 20 rfl rfl)
theorem dX0_doubtful_116 : decode cX0_doubtful 116 = .ok (.ifCond .ne 7, 3) := dk_154 0 7 (dk_at dksX0_doubtful_4 21 rfl rfl)
theorem dX0_doubtful_119 : decode cX0_doubtful 119 = .ok (.iload_n 2, 1) := dk_28 (dk_at dksX0_doubtful_5 0 rfl rfl)
theorem dX0_doubtful_120 : decode cX0_doubtful 120 = .ok (.goto 4, 3) := dk_167 0 4 (dk_at dksX0_doubtful_5 1 rfl rfl)
theorem dX0_doubtful_123 : decode cX0_doubtful 123 = .ok (.iload_n 3, 1) := dk_29 (dk_at dksX0_doubtful_5 4 rfl rfl)
theorem dX0_doubtful_124 : decode cX0_doubtful 124 = .ok (.invokestatic 186, 3) := dk_184 0 186 (dk_at dksX0_doubtful_5 5 rfl rfl)
theorem dX0_doubtful_127 : decode cX0_doubtful 127 = .ok (.ireturn, 1) := dk_172 (dk_at dksX0_doubtful_5 8 rfl rfl)
abbrev cX0_count : ByteArray := prog_1_method_39_code
def yX0_count : MethodName := ⟨RX0, "count", "(I)I"⟩
def dkwX0_count_5 : List UInt8 := [180, 0, 27, 180, 1, 31, 172, 18, 109, 172]
abbrev dktX0_count_5 : List UInt8 := dkwX0_count_5 ++ []
def dkwX0_count_4 : List UInt8 := [180, 0, 34, 182, 0, 49, 172, 42, 180, 0, 41, 182, 1, 28, 172, 42, 4, 182, 1, 18, 172, 42]
abbrev dktX0_count_4 : List UInt8 := dkwX0_count_4 ++ dktX0_count_5
def dkwX0_count_3 : List UInt8 := [182, 1, 22, 172, 42, 3, 182, 1, 18, 184, 1, 15, 172, 42, 27, 8, 100, 182, 1, 25, 172, 42]
abbrev dktX0_count_3 : List UInt8 := dkwX0_count_3 ++ dktX0_count_4
def dkwX0_count_2 : List UInt8 := [42, 180, 0, 27, 180, 0, 132, 182, 0, 169, 172, 42, 4, 182, 1, 18, 184, 1, 15, 172, 42, 27]
abbrev dktX0_count_2 : List UInt8 := dkwX0_count_2 ++ dktX0_count_3
def dkwX0_count_1 : List UInt8 := [170, 0, 0, 0, 0, 0, 172, 0, 0, 0, 0, 0, 0, 0, 20, 0, 0, 0, 99, 0, 0, 0, 110, 0, 0, 0, 119, 0, 0, 0, 125, 0, 0, 0, 119, 0, 0, 0, 119, 0, 0, 0, 134, 0, 0, 0, 134, 0, 0, 0, 142, 0, 0, 0, 150, 0, 0, 0, 158, 0, 0, 0, 172, 0, 0, 0, 172, 0, 0, 0, 172, 0, 0, 0, 172, 0, 0, 0, 172, 0, 0, 0, 172, 0, 0, 0, 172, 0, 0, 0, 172, 0, 0, 0, 172, 0, 0, 0, 164]
abbrev dktX0_count_1 : List UInt8 := dkwX0_count_1 ++ dktX0_count_2
def dkwX0_count_0 : List UInt8 := [27]
abbrev dktX0_count_0 : List UInt8 := dkwX0_count_0 ++ dktX0_count_1
theorem dksX0_count_0 : cX0_count.data.toList.drop 0 = dktX0_count_0 := by decide +kernel
theorem dksX0_count_1 : cX0_count.data.toList.drop 1 = dktX0_count_1 := dk_seg dksX0_count_0 1 rfl rfl
theorem dksX0_count_2 : cX0_count.data.toList.drop 100 = dktX0_count_2 := dk_seg dksX0_count_1 99 rfl rfl
theorem dksX0_count_3 : cX0_count.data.toList.drop 122 = dktX0_count_3 := dk_seg dksX0_count_2 22 rfl rfl
theorem dksX0_count_4 : cX0_count.data.toList.drop 144 = dktX0_count_4 := dk_seg dksX0_count_3 22 rfl rfl
theorem dksX0_count_5 : cX0_count.data.toList.drop 166 = dktX0_count_5 := dk_seg dksX0_count_4 22 rfl rfl
theorem dX0_count_0 : decode cX0_count 0 = .ok (.iload_n 1, 1) := dk_27 (dk_at dksX0_count_0 0 rfl rfl)
theorem dX0_count_1 : decode cX0_count 1 = .ok (.tableswitch 172 0 20 #[99, 110, 119, 125, 119, 119, 134, 134, 142, 150, 158, 172, 172, 172, 172, 172, 172, 172, 172, 172, 164], 99) := by decide +kernel
theorem dX0_count_100 : decode cX0_count 100 = .ok (.aload_n 0, 1) := dk_42 (dk_at dksX0_count_2 0 rfl rfl)
theorem dX0_count_101 : decode cX0_count 101 = .ok (.getfield 27, 3) := dk_180 0 27 (dk_at dksX0_count_2 1 rfl rfl)
theorem dX0_count_104 : decode cX0_count 104 = .ok (.getfield 132, 3) := dk_180 0 132 (dk_at dksX0_count_2 4 rfl rfl)
theorem dX0_count_107 : decode cX0_count 107 = .ok (.invokevirtual 169, 3) := dk_182 0 169 (dk_at dksX0_count_2 7 rfl rfl)
theorem dX0_count_110 : decode cX0_count 110 = .ok (.ireturn, 1) := dk_172 (dk_at dksX0_count_2 10 rfl rfl)
theorem dX0_count_111 : decode cX0_count 111 = .ok (.aload_n 0, 1) := dk_42 (dk_at dksX0_count_2 11 rfl rfl)
theorem dX0_count_112 : decode cX0_count 112 = .ok (.iconst 1, 1) := dk_4 (dk_at dksX0_count_2 12 rfl rfl)
theorem dX0_count_113 : decode cX0_count 113 = .ok (.invokevirtual 274, 3) := dk_182 1 18 (dk_at dksX0_count_2 13 rfl rfl)
theorem dX0_count_116 : decode cX0_count 116 = .ok (.invokestatic 271, 3) := dk_184 1 15 (dk_at dksX0_count_2 16 rfl rfl)
theorem dX0_count_119 : decode cX0_count 119 = .ok (.ireturn, 1) := dk_172 (dk_at dksX0_count_2 19 rfl rfl)
theorem dX0_count_120 : decode cX0_count 120 = .ok (.aload_n 0, 1) := dk_42 (dk_at dksX0_count_2 20 rfl rfl)
theorem dX0_count_121 : decode cX0_count 121 = .ok (.iload_n 1, 1) := dk_27 (dk_at dksX0_count_2 21 rfl rfl)
theorem dX0_count_122 : decode cX0_count 122 = .ok (.invokevirtual 278, 3) := dk_182 1 22 (dk_at dksX0_count_3 0 rfl rfl)
theorem dX0_count_125 : decode cX0_count 125 = .ok (.ireturn, 1) := dk_172 (dk_at dksX0_count_3 3 rfl rfl)
theorem dX0_count_126 : decode cX0_count 126 = .ok (.aload_n 0, 1) := dk_42 (dk_at dksX0_count_3 4 rfl rfl)
theorem dX0_count_127 : decode cX0_count 127 = .ok (.iconst 0, 1) := dk_3 (dk_at dksX0_count_3 5 rfl rfl)
theorem dX0_count_128 : decode cX0_count 128 = .ok (.invokevirtual 274, 3) := dk_182 1 18 (dk_at dksX0_count_3 6 rfl rfl)
theorem dX0_count_131 : decode cX0_count 131 = .ok (.invokestatic 271, 3) := dk_184 1 15 (dk_at dksX0_count_3 9 rfl rfl)
theorem dX0_count_134 : decode cX0_count 134 = .ok (.ireturn, 1) := dk_172 (dk_at dksX0_count_3 12 rfl rfl)
theorem dX0_count_135 : decode cX0_count 135 = .ok (.aload_n 0, 1) := dk_42 (dk_at dksX0_count_3 13 rfl rfl)
theorem dX0_count_136 : decode cX0_count 136 = .ok (.iload_n 1, 1) := dk_27 (dk_at dksX0_count_3 14 rfl rfl)
theorem dX0_count_137 : decode cX0_count 137 = .ok (.iconst 5, 1) := dk_8 (dk_at dksX0_count_3 15 rfl rfl)
theorem dX0_count_138 : decode cX0_count 138 = .ok (.isub, 1) := dk_100 (dk_at dksX0_count_3 16 rfl rfl)
theorem dX0_count_139 : decode cX0_count 139 = .ok (.invokevirtual 281, 3) := dk_182 1 25 (dk_at dksX0_count_3 17 rfl rfl)
theorem dX0_count_142 : decode cX0_count 142 = .ok (.ireturn, 1) := dk_172 (dk_at dksX0_count_3 20 rfl rfl)
theorem dX0_count_143 : decode cX0_count 143 = .ok (.aload_n 0, 1) := dk_42 (dk_at dksX0_count_3 21 rfl rfl)
theorem dX0_count_144 : decode cX0_count 144 = .ok (.getfield 34, 3) := dk_180 0 34 (dk_at dksX0_count_4 0 rfl rfl)
theorem dX0_count_147 : decode cX0_count 147 = .ok (.invokevirtual 49, 3) := dk_182 0 49 (dk_at dksX0_count_4 3 rfl rfl)
theorem dX0_count_150 : decode cX0_count 150 = .ok (.ireturn, 1) := dk_172 (dk_at dksX0_count_4 6 rfl rfl)
theorem dX0_count_151 : decode cX0_count 151 = .ok (.aload_n 0, 1) := dk_42 (dk_at dksX0_count_4 7 rfl rfl)
theorem dX0_count_152 : decode cX0_count 152 = .ok (.getfield 41, 3) := dk_180 0 41 (dk_at dksX0_count_4 8 rfl rfl)
theorem dX0_count_155 : decode cX0_count 155 = .ok (.invokevirtual 284, 3) := dk_182 1 28 (dk_at dksX0_count_4 11 rfl rfl)
theorem dX0_count_158 : decode cX0_count 158 = .ok (.ireturn, 1) := dk_172 (dk_at dksX0_count_4 14 rfl rfl)
theorem dX0_count_159 : decode cX0_count 159 = .ok (.aload_n 0, 1) := dk_42 (dk_at dksX0_count_4 15 rfl rfl)
theorem dX0_count_160 : decode cX0_count 160 = .ok (.iconst 1, 1) := dk_4 (dk_at dksX0_count_4 16 rfl rfl)
theorem dX0_count_161 : decode cX0_count 161 = .ok (.invokevirtual 274, 3) := dk_182 1 18 (dk_at dksX0_count_4 17 rfl rfl)
theorem dX0_count_164 : decode cX0_count 164 = .ok (.ireturn, 1) := dk_172 (dk_at dksX0_count_4 20 rfl rfl)
theorem dX0_count_165 : decode cX0_count 165 = .ok (.aload_n 0, 1) := dk_42 (dk_at dksX0_count_4 21 rfl rfl)
theorem dX0_count_166 : decode cX0_count 166 = .ok (.getfield 27, 3) := dk_180 0 27 (dk_at dksX0_count_5 0 rfl rfl)
theorem dX0_count_169 : decode cX0_count 169 = .ok (.getfield 287, 3) := dk_180 1 31 (dk_at dksX0_count_5 3 rfl rfl)
theorem dX0_count_172 : decode cX0_count 172 = .ok (.ireturn, 1) := dk_172 (dk_at dksX0_count_5 6 rfl rfl)
theorem dX0_count_173 : decode cX0_count 173 = .ok (.ldc 109, 2) := dk_18 109 (dk_at dksX0_count_5 7 rfl rfl)
theorem dX0_count_175 : decode cX0_count 175 = .ok (.ireturn, 1) := dk_172 (dk_at dksX0_count_5 9 rfl rfl)
abbrev cX0_there : ByteArray := prog_1_method_38_code
def yX0_there : MethodName := ⟨RX0, "there", "(Z)I"⟩
def dkwX0_there_2 : List UInt8 := [21, 4, 153, 0, 9, 4, 29, 120, 167, 0, 4, 3, 128, 61, 132, 3, 1, 167, 255, 197, 28, 172]
abbrev dktX0_there_2 : List UInt8 := dkwX0_there_2 ++ []
def dkwX0_there_1 : List UInt8 := [167, 0, 21, 42, 180, 0, 27, 180, 0, 182, 29, 46, 2, 159, 0, 7, 4, 167, 0, 4, 3, 54, 4, 28]
abbrev dktX0_there_1 : List UInt8 := dkwX0_there_1 ++ dktX0_there_2
def dkwX0_there_0 : List UInt8 := [3, 61, 3, 62, 29, 16, 16, 162, 0, 59, 27, 153, 0, 14, 42, 180, 0, 27, 29, 182, 0, 205]
abbrev dktX0_there_0 : List UInt8 := dkwX0_there_0 ++ dktX0_there_1
theorem dksX0_there_0 : cX0_there.data.toList.drop 0 = dktX0_there_0 := by decide +kernel
theorem dksX0_there_1 : cX0_there.data.toList.drop 22 = dktX0_there_1 := dk_seg dksX0_there_0 22 rfl rfl
theorem dksX0_there_2 : cX0_there.data.toList.drop 46 = dktX0_there_2 := dk_seg dksX0_there_1 24 rfl rfl
theorem dX0_there_0 : decode cX0_there 0 = .ok (.iconst 0, 1) := dk_3 (dk_at dksX0_there_0 0 rfl rfl)
theorem dX0_there_1 : decode cX0_there 1 = .ok (.istore_n 2, 1) := dk_61 (dk_at dksX0_there_0 1 rfl rfl)
theorem dX0_there_2 : decode cX0_there 2 = .ok (.iconst 0, 1) := dk_3 (dk_at dksX0_there_0 2 rfl rfl)
theorem dX0_there_3 : decode cX0_there 3 = .ok (.istore_n 3, 1) := dk_62 (dk_at dksX0_there_0 3 rfl rfl)
theorem dX0_there_4 : decode cX0_there 4 = .ok (.iload_n 3, 1) := dk_29 (dk_at dksX0_there_0 4 rfl rfl)
theorem dX0_there_5 : decode cX0_there 5 = .ok (.bipush 16, 2) := dk_16 16 (dk_at dksX0_there_0 5 rfl rfl)
theorem dX0_there_7 : decode cX0_there 7 = .ok (.if_icmp .ge 59, 3) := dk_162 0 59 (dk_at dksX0_there_0 7 rfl rfl)
theorem dX0_there_10 : decode cX0_there 10 = .ok (.iload_n 1, 1) := dk_27 (dk_at dksX0_there_0 10 rfl rfl)
theorem dX0_there_11 : decode cX0_there 11 = .ok (.ifCond .eq 14, 3) := dk_153 0 14 (dk_at dksX0_there_0 11 rfl rfl)
theorem dX0_there_14 : decode cX0_there 14 = .ok (.aload_n 0, 1) := dk_42 (dk_at dksX0_there_0 14 rfl rfl)
theorem dX0_there_15 : decode cX0_there 15 = .ok (.getfield 27, 3) := dk_180 0 27 (dk_at dksX0_there_0 15 rfl rfl)
theorem dX0_there_18 : decode cX0_there 18 = .ok (.iload_n 3, 1) := dk_29 (dk_at dksX0_there_0 18 rfl rfl)
theorem dX0_there_19 : decode cX0_there 19 = .ok (.invokevirtual 205, 3) := dk_182 0 205 (dk_at dksX0_there_0 19 rfl rfl)
theorem dX0_there_22 : decode cX0_there 22 = .ok (.goto 21, 3) := dk_167 0 21 (dk_at dksX0_there_1 0 rfl rfl)
theorem dX0_there_25 : decode cX0_there 25 = .ok (.aload_n 0, 1) := dk_42 (dk_at dksX0_there_1 3 rfl rfl)
theorem dX0_there_26 : decode cX0_there 26 = .ok (.getfield 27, 3) := dk_180 0 27 (dk_at dksX0_there_1 4 rfl rfl)
theorem dX0_there_29 : decode cX0_there 29 = .ok (.getfield 182, 3) := dk_180 0 182 (dk_at dksX0_there_1 7 rfl rfl)
theorem dX0_there_32 : decode cX0_there 32 = .ok (.iload_n 3, 1) := dk_29 (dk_at dksX0_there_1 10 rfl rfl)
theorem dX0_there_33 : decode cX0_there 33 = .ok (.iaload, 1) := dk_46 (dk_at dksX0_there_1 11 rfl rfl)
theorem dX0_there_34 : decode cX0_there 34 = .ok (.iconst (-1), 1) := dk_2 (dk_at dksX0_there_1 12 rfl rfl)
theorem dX0_there_35 : decode cX0_there 35 = .ok (.if_icmp .eq 7, 3) := dk_159 0 7 (dk_at dksX0_there_1 13 rfl rfl)
theorem dX0_there_38 : decode cX0_there 38 = .ok (.iconst 1, 1) := dk_4 (dk_at dksX0_there_1 16 rfl rfl)
theorem dX0_there_39 : decode cX0_there 39 = .ok (.goto 4, 3) := dk_167 0 4 (dk_at dksX0_there_1 17 rfl rfl)
theorem dX0_there_42 : decode cX0_there 42 = .ok (.iconst 0, 1) := dk_3 (dk_at dksX0_there_1 20 rfl rfl)
theorem dX0_there_43 : decode cX0_there 43 = .ok (.istore 4, 2) := dk_54 4 (dk_at dksX0_there_1 21 rfl rfl)
theorem dX0_there_45 : decode cX0_there 45 = .ok (.iload_n 2, 1) := dk_28 (dk_at dksX0_there_1 23 rfl rfl)
theorem dX0_there_46 : decode cX0_there 46 = .ok (.iload 4, 2) := dk_21 4 (dk_at dksX0_there_2 0 rfl rfl)
theorem dX0_there_48 : decode cX0_there 48 = .ok (.ifCond .eq 9, 3) := dk_153 0 9 (dk_at dksX0_there_2 2 rfl rfl)
theorem dX0_there_51 : decode cX0_there 51 = .ok (.iconst 1, 1) := dk_4 (dk_at dksX0_there_2 5 rfl rfl)
theorem dX0_there_52 : decode cX0_there 52 = .ok (.iload_n 3, 1) := dk_29 (dk_at dksX0_there_2 6 rfl rfl)
theorem dX0_there_53 : decode cX0_there 53 = .ok (.ishl, 1) := dk_120 (dk_at dksX0_there_2 7 rfl rfl)
theorem dX0_there_54 : decode cX0_there 54 = .ok (.goto 4, 3) := dk_167 0 4 (dk_at dksX0_there_2 8 rfl rfl)
theorem dX0_there_57 : decode cX0_there 57 = .ok (.iconst 0, 1) := dk_3 (dk_at dksX0_there_2 11 rfl rfl)
theorem dX0_there_58 : decode cX0_there 58 = .ok (.ior, 1) := dk_128 (dk_at dksX0_there_2 12 rfl rfl)
theorem dX0_there_59 : decode cX0_there 59 = .ok (.istore_n 2, 1) := dk_61 (dk_at dksX0_there_2 13 rfl rfl)
theorem dX0_there_60 : decode cX0_there 60 = .ok (.iinc 3 1, 3) := dk_132 3 1 (dk_at dksX0_there_2 14 rfl rfl)
theorem dX0_there_63 : decode cX0_there 63 = .ok (.goto (-59), 3) := dk_167 255 197 (dk_at dksX0_there_2 17 rfl rfl)
theorem dX0_there_66 : decode cX0_there 66 = .ok (.iload_n 2, 1) := dk_28 (dk_at dksX0_there_2 20 rfl rfl)
theorem dX0_there_67 : decode cX0_there 67 = .ok (.ireturn, 1) := dk_172 (dk_at dksX0_there_2 21 rfl rfl)
abbrev cX0_sum : ByteArray := prog_1_method_37_code
def yX0_sum : MethodName := ⟨RX0, "sum", "(I)I"⟩
def dkwX0_sum_4 : List UInt8 := [27, 8, 160, 0, 9, 28, 5, 108, 167, 0, 4, 28, 172]
abbrev dktX0_sum_4 : List UInt8 := dkwX0_sum_4 ++ []
def dkwX0_sum_3 : List UInt8 := [3, 167, 0, 15, 42, 180, 0, 27, 25, 4, 182, 1, 12, 184, 1, 15, 96, 61, 132, 3, 1, 167, 255, 170]
abbrev dktX0_sum_3 : List UInt8 := dkwX0_sum_3 ++ dktX0_sum_4
def dkwX0_sum_2 : List UInt8 := [182, 0, 154, 167, 0, 37, 27, 7, 160, 0, 20, 25, 4, 180, 0, 174, 2, 160, 0, 7, 4, 167, 0, 19]
abbrev dktX0_sum_2 : List UInt8 := dkwX0_sum_2 ++ dktX0_sum_3
def dkwX0_sum_1 : List UInt8 := [180, 0, 132, 29, 182, 0, 136, 192, 0, 142, 58, 4, 28, 27, 5, 160, 0, 14, 25, 4, 180, 0, 150]
abbrev dktX0_sum_1 : List UInt8 := dkwX0_sum_1 ++ dktX0_sum_2
def dkwX0_sum_0 : List UInt8 := [3, 61, 3, 62, 29, 42, 180, 0, 27, 180, 0, 132, 182, 0, 169, 162, 0, 78, 42, 180, 0, 27]
abbrev dktX0_sum_0 : List UInt8 := dkwX0_sum_0 ++ dktX0_sum_1
theorem dksX0_sum_0 : cX0_sum.data.toList.drop 0 = dktX0_sum_0 := by decide +kernel
theorem dksX0_sum_1 : cX0_sum.data.toList.drop 22 = dktX0_sum_1 := dk_seg dksX0_sum_0 22 rfl rfl
theorem dksX0_sum_2 : cX0_sum.data.toList.drop 45 = dktX0_sum_2 := dk_seg dksX0_sum_1 23 rfl rfl
theorem dksX0_sum_3 : cX0_sum.data.toList.drop 69 = dktX0_sum_3 := dk_seg dksX0_sum_2 24 rfl rfl
theorem dksX0_sum_4 : cX0_sum.data.toList.drop 93 = dktX0_sum_4 := dk_seg dksX0_sum_3 24 rfl rfl
theorem dX0_sum_0 : decode cX0_sum 0 = .ok (.iconst 0, 1) := dk_3 (dk_at dksX0_sum_0 0 rfl rfl)
theorem dX0_sum_1 : decode cX0_sum 1 = .ok (.istore_n 2, 1) := dk_61 (dk_at dksX0_sum_0 1 rfl rfl)
theorem dX0_sum_2 : decode cX0_sum 2 = .ok (.iconst 0, 1) := dk_3 (dk_at dksX0_sum_0 2 rfl rfl)
theorem dX0_sum_3 : decode cX0_sum 3 = .ok (.istore_n 3, 1) := dk_62 (dk_at dksX0_sum_0 3 rfl rfl)
theorem dX0_sum_4 : decode cX0_sum 4 = .ok (.iload_n 3, 1) := dk_29 (dk_at dksX0_sum_0 4 rfl rfl)
theorem dX0_sum_5 : decode cX0_sum 5 = .ok (.aload_n 0, 1) := dk_42 (dk_at dksX0_sum_0 5 rfl rfl)
theorem dX0_sum_6 : decode cX0_sum 6 = .ok (.getfield 27, 3) := dk_180 0 27 (dk_at dksX0_sum_0 6 rfl rfl)
theorem dX0_sum_9 : decode cX0_sum 9 = .ok (.getfield 132, 3) := dk_180 0 132 (dk_at dksX0_sum_0 9 rfl rfl)
theorem dX0_sum_12 : decode cX0_sum 12 = .ok (.invokevirtual 169, 3) := dk_182 0 169 (dk_at dksX0_sum_0 12 rfl rfl)
theorem dX0_sum_15 : decode cX0_sum 15 = .ok (.if_icmp .ge 78, 3) := dk_162 0 78 (dk_at dksX0_sum_0 15 rfl rfl)
theorem dX0_sum_18 : decode cX0_sum 18 = .ok (.aload_n 0, 1) := dk_42 (dk_at dksX0_sum_0 18 rfl rfl)
theorem dX0_sum_19 : decode cX0_sum 19 = .ok (.getfield 27, 3) := dk_180 0 27 (dk_at dksX0_sum_0 19 rfl rfl)
theorem dX0_sum_22 : decode cX0_sum 22 = .ok (.getfield 132, 3) := dk_180 0 132 (dk_at dksX0_sum_1 0 rfl rfl)
theorem dX0_sum_25 : decode cX0_sum 25 = .ok (.iload_n 3, 1) := dk_29 (dk_at dksX0_sum_1 3 rfl rfl)
theorem dX0_sum_26 : decode cX0_sum 26 = .ok (.invokevirtual 136, 3) := dk_182 0 136 (dk_at dksX0_sum_1 4 rfl rfl)
theorem dX0_sum_29 : decode cX0_sum 29 = .ok (.checkcast 142, 3) := dk_192 0 142 (dk_at dksX0_sum_1 7 rfl rfl)
theorem dX0_sum_32 : decode cX0_sum 32 = .ok (.astore 4, 2) := dk_58 4 (dk_at dksX0_sum_1 10 rfl rfl)
theorem dX0_sum_34 : decode cX0_sum 34 = .ok (.iload_n 2, 1) := dk_28 (dk_at dksX0_sum_1 12 rfl rfl)
theorem dX0_sum_35 : decode cX0_sum 35 = .ok (.iload_n 1, 1) := dk_27 (dk_at dksX0_sum_1 13 rfl rfl)
theorem dX0_sum_36 : decode cX0_sum 36 = .ok (.iconst 2, 1) := dk_5 (dk_at dksX0_sum_1 14 rfl rfl)
theorem dX0_sum_37 : decode cX0_sum 37 = .ok (.if_icmp .ne 14, 3) := dk_160 0 14 (dk_at dksX0_sum_1 15 rfl rfl)
theorem dX0_sum_40 : decode cX0_sum 40 = .ok (.aload 4, 2) := dk_25 4 (dk_at dksX0_sum_1 18 rfl rfl)
theorem dX0_sum_42 : decode cX0_sum 42 = .ok (.getfield 150, 3) := dk_180 0 150 (dk_at dksX0_sum_1 20 rfl rfl)
theorem dX0_sum_45 : decode cX0_sum 45 = .ok (.invokevirtual 154, 3) := dk_182 0 154 (dk_at dksX0_sum_2 0 rfl rfl)
theorem dX0_sum_48 : decode cX0_sum 48 = .ok (.goto 37, 3) := dk_167 0 37 (dk_at dksX0_sum_2 3 rfl rfl)
theorem dX0_sum_51 : decode cX0_sum 51 = .ok (.iload_n 1, 1) := dk_27 (dk_at dksX0_sum_2 6 rfl rfl)
theorem dX0_sum_52 : decode cX0_sum 52 = .ok (.iconst 4, 1) := dk_7 (dk_at dksX0_sum_2 7 rfl rfl)
theorem dX0_sum_53 : decode cX0_sum 53 = .ok (.if_icmp .ne 20, 3) := dk_160 0 20 (dk_at dksX0_sum_2 8 rfl rfl)
theorem dX0_sum_56 : decode cX0_sum 56 = .ok (.aload 4, 2) := dk_25 4 (dk_at dksX0_sum_2 11 rfl rfl)
theorem dX0_sum_58 : decode cX0_sum 58 = .ok (.getfield 174, 3) := dk_180 0 174 (dk_at dksX0_sum_2 13 rfl rfl)
theorem dX0_sum_61 : decode cX0_sum 61 = .ok (.iconst (-1), 1) := dk_2 (dk_at dksX0_sum_2 16 rfl rfl)
theorem dX0_sum_62 : decode cX0_sum 62 = .ok (.if_icmp .ne 7, 3) := dk_160 0 7 (dk_at dksX0_sum_2 17 rfl rfl)
theorem dX0_sum_65 : decode cX0_sum 65 = .ok (.iconst 1, 1) := dk_4 (dk_at dksX0_sum_2 20 rfl rfl)
theorem dX0_sum_66 : decode cX0_sum 66 = .ok (.goto 19, 3) := dk_167 0 19 (dk_at dksX0_sum_2 21 rfl rfl)
theorem dX0_sum_69 : decode cX0_sum 69 = .ok (.iconst 0, 1) := dk_3 (dk_at dksX0_sum_3 0 rfl rfl)
theorem dX0_sum_70 : decode cX0_sum 70 = .ok (.goto 15, 3) := dk_167 0 15 (dk_at dksX0_sum_3 1 rfl rfl)
theorem dX0_sum_73 : decode cX0_sum 73 = .ok (.aload_n 0, 1) := dk_42 (dk_at dksX0_sum_3 4 rfl rfl)
theorem dX0_sum_74 : decode cX0_sum 74 = .ok (.getfield 27, 3) := dk_180 0 27 (dk_at dksX0_sum_3 5 rfl rfl)
theorem dX0_sum_77 : decode cX0_sum 77 = .ok (.aload 4, 2) := dk_25 4 (dk_at dksX0_sum_3 8 rfl rfl)
theorem dX0_sum_79 : decode cX0_sum 79 = .ok (.invokevirtual 268, 3) := dk_182 1 12 (dk_at dksX0_sum_3 10 rfl rfl)
theorem dX0_sum_82 : decode cX0_sum 82 = .ok (.invokestatic 271, 3) := dk_184 1 15 (dk_at dksX0_sum_3 13 rfl rfl)
theorem dX0_sum_85 : decode cX0_sum 85 = .ok (.iadd, 1) := dk_96 (dk_at dksX0_sum_3 16 rfl rfl)
theorem dX0_sum_86 : decode cX0_sum 86 = .ok (.istore_n 2, 1) := dk_61 (dk_at dksX0_sum_3 17 rfl rfl)
theorem dX0_sum_87 : decode cX0_sum 87 = .ok (.iinc 3 1, 3) := dk_132 3 1 (dk_at dksX0_sum_3 18 rfl rfl)
theorem dX0_sum_90 : decode cX0_sum 90 = .ok (.goto (-86), 3) := dk_167 255 170 (dk_at dksX0_sum_3 21 rfl rfl)
theorem dX0_sum_93 : decode cX0_sum 93 = .ok (.iload_n 1, 1) := dk_27 (dk_at dksX0_sum_4 0 rfl rfl)
theorem dX0_sum_94 : decode cX0_sum 94 = .ok (.iconst 5, 1) := dk_8 (dk_at dksX0_sum_4 1 rfl rfl)
theorem dX0_sum_95 : decode cX0_sum 95 = .ok (.if_icmp .ne 9, 3) := dk_160 0 9 (dk_at dksX0_sum_4 2 rfl rfl)
theorem dX0_sum_98 : decode cX0_sum 98 = .ok (.iload_n 2, 1) := dk_28 (dk_at dksX0_sum_4 5 rfl rfl)
theorem dX0_sum_99 : decode cX0_sum 99 = .ok (.iconst 2, 1) := dk_5 (dk_at dksX0_sum_4 6 rfl rfl)
theorem dX0_sum_100 : decode cX0_sum 100 = .ok (.idiv, 1) := dk_108 (dk_at dksX0_sum_4 7 rfl rfl)
theorem dX0_sum_101 : decode cX0_sum 101 = .ok (.goto 4, 3) := dk_167 0 4 (dk_at dksX0_sum_4 8 rfl rfl)
theorem dX0_sum_104 : decode cX0_sum 104 = .ok (.iload_n 2, 1) := dk_28 (dk_at dksX0_sum_4 11 rfl rfl)
theorem dX0_sum_105 : decode cX0_sum 105 = .ok (.ireturn, 1) := dk_172 (dk_at dksX0_sum_4 12 rfl rfl)
abbrev cX0_secondsWith : ByteArray := prog_1_method_36_code
def yX0_secondsWith : MethodName := ⟨RX0, "secondsWith", "(I)I"⟩
def dkwX0_secondsWith_1 : List UInt8 := [27, 161, 0, 7, 4, 167, 0, 4, 3, 96, 61, 132, 3, 1, 167, 255, 222, 28, 172]
abbrev dktX0_secondsWith_1 : List UInt8 := dkwX0_secondsWith_1 ++ []
def dkwX0_secondsWith_0 : List UInt8 := [3, 61, 3, 62, 29, 42, 180, 0, 27, 182, 1, 0, 162, 0, 29, 28, 42, 180, 0, 27, 29, 182, 1, 3]
abbrev dktX0_secondsWith_0 : List UInt8 := dkwX0_secondsWith_0 ++ dktX0_secondsWith_1
theorem dksX0_secondsWith_0 : cX0_secondsWith.data.toList.drop 0 = dktX0_secondsWith_0 := by decide +kernel
theorem dksX0_secondsWith_1 : cX0_secondsWith.data.toList.drop 24 = dktX0_secondsWith_1 := dk_seg dksX0_secondsWith_0 24 rfl rfl
theorem dX0_secondsWith_0 : decode cX0_secondsWith 0 = .ok (.iconst 0, 1) := dk_3 (dk_at dksX0_secondsWith_0 0 rfl rfl)
theorem dX0_secondsWith_1 : decode cX0_secondsWith 1 = .ok (.istore_n 2, 1) := dk_61 (dk_at dksX0_secondsWith_0 1 rfl rfl)
theorem dX0_secondsWith_2 : decode cX0_secondsWith 2 = .ok (.iconst 0, 1) := dk_3 (dk_at dksX0_secondsWith_0 2 rfl rfl)
theorem dX0_secondsWith_3 : decode cX0_secondsWith 3 = .ok (.istore_n 3, 1) := dk_62 (dk_at dksX0_secondsWith_0 3 rfl rfl)
theorem dX0_secondsWith_4 : decode cX0_secondsWith 4 = .ok (.iload_n 3, 1) := dk_29 (dk_at dksX0_secondsWith_0 4 rfl rfl)
theorem dX0_secondsWith_5 : decode cX0_secondsWith 5 = .ok (.aload_n 0, 1) := dk_42 (dk_at dksX0_secondsWith_0 5 rfl rfl)
theorem dX0_secondsWith_6 : decode cX0_secondsWith 6 = .ok (.getfield 27, 3) := dk_180 0 27 (dk_at dksX0_secondsWith_0 6 rfl rfl)
theorem dX0_secondsWith_9 : decode cX0_secondsWith 9 = .ok (.invokevirtual 256, 3) := dk_182 1 0 (dk_at dksX0_secondsWith_0 9 rfl rfl)
theorem dX0_secondsWith_12 : decode cX0_secondsWith 12 = .ok (.if_icmp .ge 29, 3) := dk_162 0 29 (dk_at dksX0_secondsWith_0 12 rfl rfl)
theorem dX0_secondsWith_15 : decode cX0_secondsWith 15 = .ok (.iload_n 2, 1) := dk_28 (dk_at dksX0_secondsWith_0 15 rfl rfl)
theorem dX0_secondsWith_16 : decode cX0_secondsWith 16 = .ok (.aload_n 0, 1) := dk_42 (dk_at dksX0_secondsWith_0 16 rfl rfl)
theorem dX0_secondsWith_17 : decode cX0_secondsWith 17 = .ok (.getfield 27, 3) := dk_180 0 27 (dk_at dksX0_secondsWith_0 17 rfl rfl)
theorem dX0_secondsWith_20 : decode cX0_secondsWith 20 = .ok (.iload_n 3, 1) := dk_29 (dk_at dksX0_secondsWith_0 20 rfl rfl)
theorem dX0_secondsWith_21 : decode cX0_secondsWith 21 = .ok (.invokevirtual 259, 3) := dk_182 1 3 (dk_at dksX0_secondsWith_0 21 rfl rfl)
theorem dX0_secondsWith_24 : decode cX0_secondsWith 24 = .ok (.iload_n 1, 1) := dk_27 (dk_at dksX0_secondsWith_1 0 rfl rfl)
theorem dX0_secondsWith_25 : decode cX0_secondsWith 25 = .ok (.if_icmp .lt 7, 3) := dk_161 0 7 (dk_at dksX0_secondsWith_1 1 rfl rfl)
theorem dX0_secondsWith_28 : decode cX0_secondsWith 28 = .ok (.iconst 1, 1) := dk_4 (dk_at dksX0_secondsWith_1 4 rfl rfl)
theorem dX0_secondsWith_29 : decode cX0_secondsWith 29 = .ok (.goto 4, 3) := dk_167 0 4 (dk_at dksX0_secondsWith_1 5 rfl rfl)
theorem dX0_secondsWith_32 : decode cX0_secondsWith 32 = .ok (.iconst 0, 1) := dk_3 (dk_at dksX0_secondsWith_1 8 rfl rfl)
theorem dX0_secondsWith_33 : decode cX0_secondsWith 33 = .ok (.iadd, 1) := dk_96 (dk_at dksX0_secondsWith_1 9 rfl rfl)
theorem dX0_secondsWith_34 : decode cX0_secondsWith 34 = .ok (.istore_n 2, 1) := dk_61 (dk_at dksX0_secondsWith_1 10 rfl rfl)
theorem dX0_secondsWith_35 : decode cX0_secondsWith 35 = .ok (.iinc 3 1, 3) := dk_132 3 1 (dk_at dksX0_secondsWith_1 11 rfl rfl)
theorem dX0_secondsWith_38 : decode cX0_secondsWith 38 = .ok (.goto (-34), 3) := dk_167 255 222 (dk_at dksX0_secondsWith_1 14 rfl rfl)
theorem dX0_secondsWith_41 : decode cX0_secondsWith 41 = .ok (.iload_n 2, 1) := dk_28 (dk_at dksX0_secondsWith_1 17 rfl rfl)
theorem dX0_secondsWith_42 : decode cX0_secondsWith 42 = .ok (.ireturn, 1) := dk_172 (dk_at dksX0_secondsWith_1 18 rfl rfl)
abbrev cX0_undo : ByteArray := prog_1_method_40_code
def yX0_undo : MethodName := ⟨RX0, "undo", "()I"⟩
def dkwX0_undo_1 : List UInt8 := [192, 0, 24, 181, 0, 27, 42, 180, 0, 34, 182, 0, 49, 172]
abbrev dktX0_undo_1 : List UInt8 := dkwX0_undo_1 ++ []
def dkwX0_undo_0 : List UInt8 := [42, 180, 0, 34, 182, 1, 34, 153, 0, 7, 19, 1, 38, 172, 42, 42, 180, 0, 34, 182, 1, 39]
abbrev dktX0_undo_0 : List UInt8 := dkwX0_undo_0 ++ dktX0_undo_1
theorem dksX0_undo_0 : cX0_undo.data.toList.drop 0 = dktX0_undo_0 := by decide +kernel
theorem dksX0_undo_1 : cX0_undo.data.toList.drop 22 = dktX0_undo_1 := dk_seg dksX0_undo_0 22 rfl rfl
theorem dX0_undo_0 : decode cX0_undo 0 = .ok (.aload_n 0, 1) := dk_42 (dk_at dksX0_undo_0 0 rfl rfl)
theorem dX0_undo_1 : decode cX0_undo 1 = .ok (.getfield 34, 3) := dk_180 0 34 (dk_at dksX0_undo_0 1 rfl rfl)
theorem dX0_undo_4 : decode cX0_undo 4 = .ok (.invokevirtual 290, 3) := dk_182 1 34 (dk_at dksX0_undo_0 4 rfl rfl)
theorem dX0_undo_7 : decode cX0_undo 7 = .ok (.ifCond .eq 7, 3) := dk_153 0 7 (dk_at dksX0_undo_0 7 rfl rfl)
theorem dX0_undo_10 : decode cX0_undo 10 = .ok (.ldc_w 294, 3) := dk_19 1 38 (dk_at dksX0_undo_0 10 rfl rfl)
theorem dX0_undo_13 : decode cX0_undo 13 = .ok (.ireturn, 1) := dk_172 (dk_at dksX0_undo_0 13 rfl rfl)
theorem dX0_undo_14 : decode cX0_undo 14 = .ok (.aload_n 0, 1) := dk_42 (dk_at dksX0_undo_0 14 rfl rfl)
theorem dX0_undo_15 : decode cX0_undo 15 = .ok (.aload_n 0, 1) := dk_42 (dk_at dksX0_undo_0 15 rfl rfl)
theorem dX0_undo_16 : decode cX0_undo 16 = .ok (.getfield 34, 3) := dk_180 0 34 (dk_at dksX0_undo_0 16 rfl rfl)
theorem dX0_undo_19 : decode cX0_undo 19 = .ok (.invokevirtual 295, 3) := dk_182 1 39 (dk_at dksX0_undo_0 19 rfl rfl)
theorem dX0_undo_22 : decode cX0_undo 22 = .ok (.checkcast 24, 3) := dk_192 0 24 (dk_at dksX0_undo_1 0 rfl rfl)
theorem dX0_undo_25 : decode cX0_undo 25 = .ok (.putfield 27, 3) := dk_181 0 27 (dk_at dksX0_undo_1 3 rfl rfl)
theorem dX0_undo_28 : decode cX0_undo 28 = .ok (.aload_n 0, 1) := dk_42 (dk_at dksX0_undo_1 6 rfl rfl)
theorem dX0_undo_29 : decode cX0_undo 29 = .ok (.getfield 34, 3) := dk_180 0 34 (dk_at dksX0_undo_1 7 rfl rfl)
theorem dX0_undo_32 : decode cX0_undo 32 = .ok (.invokevirtual 49, 3) := dk_182 0 49 (dk_at dksX0_undo_1 10 rfl rfl)
theorem dX0_undo_35 : decode cX0_undo 35 = .ok (.ireturn, 1) := dk_172 (dk_at dksX0_undo_1 13 rfl rfl)
abbrev cX0_type : ByteArray := prog_1_method_41_code
def yX0_type : MethodName := ⟨RX0, "type", "(I)I"⟩
def dkwX0_type_2 : List UInt8 := [182, 1, 28, 172]
abbrev dktX0_type_2 : List UInt8 := dkwX0_type_2 ++ []
def dkwX0_type_1 : List UInt8 := [16, 60, 160, 0, 7, 19, 1, 46, 172, 42, 180, 0, 41, 27, 146, 182, 1, 47, 87, 42, 180, 0, 41]
abbrev dktX0_type_1 : List UInt8 := dkwX0_type_1 ++ dktX0_type_2
def dkwX0_type_0 : List UInt8 := [27, 133, 20, 1, 42, 20, 1, 44, 184, 0, 5, 154, 0, 6, 18, 109, 172, 42, 180, 0, 41, 182, 1, 28]
abbrev dktX0_type_0 : List UInt8 := dkwX0_type_0 ++ dktX0_type_1
theorem dksX0_type_0 : cX0_type.data.toList.drop 0 = dktX0_type_0 := by decide +kernel
theorem dksX0_type_1 : cX0_type.data.toList.drop 24 = dktX0_type_1 := dk_seg dksX0_type_0 24 rfl rfl
theorem dksX0_type_2 : cX0_type.data.toList.drop 47 = dktX0_type_2 := dk_seg dksX0_type_1 23 rfl rfl
theorem dX0_type_0 : decode cX0_type 0 = .ok (.iload_n 1, 1) := dk_27 (dk_at dksX0_type_0 0 rfl rfl)
theorem dX0_type_1 : decode cX0_type 1 = .ok (.i2l, 1) := dk_133 (dk_at dksX0_type_0 1 rfl rfl)
theorem dX0_type_2 : decode cX0_type 2 = .ok (.ldc2_w 298, 3) := dk_20 1 42 (dk_at dksX0_type_0 2 rfl rfl)
theorem dX0_type_5 : decode cX0_type 5 = .ok (.ldc2_w 300, 3) := dk_20 1 44 (dk_at dksX0_type_0 5 rfl rfl)
theorem dX0_type_8 : decode cX0_type 8 = .ok (.invokestatic 5, 3) := dk_184 0 5 (dk_at dksX0_type_0 8 rfl rfl)
theorem dX0_type_11 : decode cX0_type 11 = .ok (.ifCond .ne 6, 3) := dk_154 0 6 (dk_at dksX0_type_0 11 rfl rfl)
theorem dX0_type_14 : decode cX0_type 14 = .ok (.ldc 109, 2) := dk_18 109 (dk_at dksX0_type_0 14 rfl rfl)
theorem dX0_type_16 : decode cX0_type 16 = .ok (.ireturn, 1) := dk_172 (dk_at dksX0_type_0 16 rfl rfl)
theorem dX0_type_17 : decode cX0_type 17 = .ok (.aload_n 0, 1) := dk_42 (dk_at dksX0_type_0 17 rfl rfl)
theorem dX0_type_18 : decode cX0_type 18 = .ok (.getfield 41, 3) := dk_180 0 41 (dk_at dksX0_type_0 18 rfl rfl)
theorem dX0_type_21 : decode cX0_type 21 = .ok (.invokevirtual 284, 3) := dk_182 1 28 (dk_at dksX0_type_0 21 rfl rfl)
theorem dX0_type_24 : decode cX0_type 24 = .ok (.bipush 60, 2) := dk_16 60 (dk_at dksX0_type_1 0 rfl rfl)
theorem dX0_type_26 : decode cX0_type 26 = .ok (.if_icmp .ne 7, 3) := dk_160 0 7 (dk_at dksX0_type_1 2 rfl rfl)
theorem dX0_type_29 : decode cX0_type 29 = .ok (.ldc_w 302, 3) := dk_19 1 46 (dk_at dksX0_type_1 5 rfl rfl)
theorem dX0_type_32 : decode cX0_type 32 = .ok (.ireturn, 1) := dk_172 (dk_at dksX0_type_1 8 rfl rfl)
theorem dX0_type_33 : decode cX0_type 33 = .ok (.aload_n 0, 1) := dk_42 (dk_at dksX0_type_1 9 rfl rfl)
theorem dX0_type_34 : decode cX0_type 34 = .ok (.getfield 41, 3) := dk_180 0 41 (dk_at dksX0_type_1 10 rfl rfl)
theorem dX0_type_37 : decode cX0_type 37 = .ok (.iload_n 1, 1) := dk_27 (dk_at dksX0_type_1 13 rfl rfl)
theorem dX0_type_38 : decode cX0_type 38 = .ok (.i2c, 1) := dk_146 (dk_at dksX0_type_1 14 rfl rfl)
theorem dX0_type_39 : decode cX0_type 39 = .ok (.invokevirtual 303, 3) := dk_182 1 47 (dk_at dksX0_type_1 15 rfl rfl)
theorem dX0_type_42 : decode cX0_type 42 = .ok (.pop, 1) := dk_87 (dk_at dksX0_type_1 18 rfl rfl)
theorem dX0_type_43 : decode cX0_type 43 = .ok (.aload_n 0, 1) := dk_42 (dk_at dksX0_type_1 19 rfl rfl)
theorem dX0_type_44 : decode cX0_type 44 = .ok (.getfield 41, 3) := dk_180 0 41 (dk_at dksX0_type_1 20 rfl rfl)
theorem dX0_type_47 : decode cX0_type 47 = .ok (.invokevirtual 284, 3) := dk_182 1 28 (dk_at dksX0_type_2 0 rfl rfl)
theorem dX0_type_50 : decode cX0_type 50 = .ok (.ireturn, 1) := dk_172 (dk_at dksX0_type_2 3 rfl rfl)
abbrev cX0_clearText : ByteArray := prog_1_method_42_code
def yX0_clearText : MethodName := ⟨RX0, "clearText", "()I"⟩
def dkwX0_clearText_0 : List UInt8 := [42, 180, 0, 41, 182, 1, 28, 60, 42, 180, 0, 41, 3, 182, 1, 51, 27, 172]
abbrev dktX0_clearText_0 : List UInt8 := dkwX0_clearText_0 ++ []
theorem dksX0_clearText_0 : cX0_clearText.data.toList.drop 0 = dktX0_clearText_0 := by decide +kernel
theorem dX0_clearText_0 : decode cX0_clearText 0 = .ok (.aload_n 0, 1) := dk_42 (dk_at dksX0_clearText_0 0 rfl rfl)
theorem dX0_clearText_1 : decode cX0_clearText 1 = .ok (.getfield 41, 3) := dk_180 0 41 (dk_at dksX0_clearText_0 1 rfl rfl)
theorem dX0_clearText_4 : decode cX0_clearText 4 = .ok (.invokevirtual 284, 3) := dk_182 1 28 (dk_at dksX0_clearText_0 4 rfl rfl)
theorem dX0_clearText_7 : decode cX0_clearText 7 = .ok (.istore_n 1, 1) := dk_60 (dk_at dksX0_clearText_0 7 rfl rfl)
theorem dX0_clearText_8 : decode cX0_clearText 8 = .ok (.aload_n 0, 1) := dk_42 (dk_at dksX0_clearText_0 8 rfl rfl)
theorem dX0_clearText_9 : decode cX0_clearText 9 = .ok (.getfield 41, 3) := dk_180 0 41 (dk_at dksX0_clearText_0 9 rfl rfl)
theorem dX0_clearText_12 : decode cX0_clearText 12 = .ok (.iconst 0, 1) := dk_3 (dk_at dksX0_clearText_0 12 rfl rfl)
theorem dX0_clearText_13 : decode cX0_clearText 13 = .ok (.invokevirtual 307, 3) := dk_182 1 51 (dk_at dksX0_clearText_0 13 rfl rfl)
theorem dX0_clearText_16 : decode cX0_clearText 16 = .ok (.iload_n 1, 1) := dk_27 (dk_at dksX0_clearText_0 16 rfl rfl)
theorem dX0_clearText_17 : decode cX0_clearText 17 = .ok (.ireturn, 1) := dk_172 (dk_at dksX0_clearText_0 17 rfl rfl)
abbrev cX0_fault : ByteArray := prog_1_method_43_code
def yX0_fault : MethodName := ⟨RX0, "fault", "(I)I"⟩
def dkwX0_fault_1 : List UInt8 := [182, 1, 60, 61, 18, 110, 172, 77, 44, 27, 182, 1, 65, 172]
abbrev dktX0_fault_1 : List UInt8 := dkwX0_fault_1 ++ []
def dkwX0_fault_0 : List UInt8 := [27, 133, 9, 20, 0, 238, 184, 0, 5, 154, 0, 6, 18, 109, 172, 187, 1, 55, 89, 42, 183, 1, 57]
abbrev dktX0_fault_0 : List UInt8 := dkwX0_fault_0 ++ dktX0_fault_1
theorem dksX0_fault_0 : cX0_fault.data.toList.drop 0 = dktX0_fault_0 := by decide +kernel
theorem dksX0_fault_1 : cX0_fault.data.toList.drop 23 = dktX0_fault_1 := dk_seg dksX0_fault_0 23 rfl rfl
theorem dX0_fault_0 : decode cX0_fault 0 = .ok (.iload_n 1, 1) := dk_27 (dk_at dksX0_fault_0 0 rfl rfl)
theorem dX0_fault_1 : decode cX0_fault 1 = .ok (.i2l, 1) := dk_133 (dk_at dksX0_fault_0 1 rfl rfl)
theorem dX0_fault_2 : decode cX0_fault 2 = .ok (.lconst 0, 1) := dk_9 (dk_at dksX0_fault_0 2 rfl rfl)
theorem dX0_fault_3 : decode cX0_fault 3 = .ok (.ldc2_w 238, 3) := dk_20 0 238 (dk_at dksX0_fault_0 3 rfl rfl)
theorem dX0_fault_6 : decode cX0_fault 6 = .ok (.invokestatic 5, 3) := dk_184 0 5 (dk_at dksX0_fault_0 6 rfl rfl)
theorem dX0_fault_9 : decode cX0_fault 9 = .ok (.ifCond .ne 6, 3) := dk_154 0 6 (dk_at dksX0_fault_0 9 rfl rfl)
theorem dX0_fault_12 : decode cX0_fault 12 = .ok (.ldc 109, 2) := dk_18 109 (dk_at dksX0_fault_0 12 rfl rfl)
theorem dX0_fault_14 : decode cX0_fault 14 = .ok (.ireturn, 1) := dk_172 (dk_at dksX0_fault_0 14 rfl rfl)
theorem dX0_fault_15 : decode cX0_fault 15 = .ok (.new 311, 3) := dk_187 1 55 (dk_at dksX0_fault_0 15 rfl rfl)
theorem dX0_fault_18 : decode cX0_fault 18 = .ok (.dup, 1) := dk_89 (dk_at dksX0_fault_0 18 rfl rfl)
theorem dX0_fault_19 : decode cX0_fault 19 = .ok (.aload_n 0, 1) := dk_42 (dk_at dksX0_fault_0 19 rfl rfl)
theorem dX0_fault_20 : decode cX0_fault 20 = .ok (.invokespecial 313, 3) := dk_183 1 57 (dk_at dksX0_fault_0 20 rfl rfl)
theorem dX0_fault_23 : decode cX0_fault 23 = .ok (.invokevirtual 316, 3) := dk_182 1 60 (dk_at dksX0_fault_1 0 rfl rfl)
theorem dX0_fault_26 : decode cX0_fault 26 = .ok (.istore_n 2, 1) := dk_61 (dk_at dksX0_fault_1 3 rfl rfl)
theorem dX0_fault_27 : decode cX0_fault 27 = .ok (.ldc 110, 2) := dk_18 110 (dk_at dksX0_fault_1 4 rfl rfl)
theorem dX0_fault_29 : decode cX0_fault 29 = .ok (.ireturn, 1) := dk_172 (dk_at dksX0_fault_1 6 rfl rfl)
theorem dX0_fault_30 : decode cX0_fault 30 = .ok (.astore_n 2, 1) := dk_77 (dk_at dksX0_fault_1 7 rfl rfl)
theorem dX0_fault_31 : decode cX0_fault 31 = .ok (.aload_n 2, 1) := dk_44 (dk_at dksX0_fault_1 8 rfl rfl)
theorem dX0_fault_32 : decode cX0_fault 32 = .ok (.iload_n 1, 1) := dk_27 (dk_at dksX0_fault_1 9 rfl rfl)
theorem dX0_fault_33 : decode cX0_fault 33 = .ok (.invokevirtual 321, 3) := dk_182 1 65 (dk_at dksX0_fault_1 10 rfl rfl)
theorem dX0_fault_36 : decode cX0_fault 36 = .ok (.ireturn, 1) := dk_172 (dk_at dksX0_fault_1 13 rfl rfl)
abbrev cX0_play : ByteArray := prog_1_method_44_code
def yX0_play : MethodName := ⟨RX0, "play", "()I"⟩
def dkwX0_play_1 : List UInt8 := [19, 1, 38, 172]
abbrev dktX0_play_1 : List UInt8 := dkwX0_play_1 ++ []
def dkwX0_play_0 : List UInt8 := [187, 1, 55, 89, 42, 183, 1, 57, 76, 42, 43, 180, 1, 68, 43, 182, 1, 60, 182, 0, 97, 172, 77]
abbrev dktX0_play_0 : List UInt8 := dkwX0_play_0 ++ dktX0_play_1
theorem dksX0_play_0 : cX0_play.data.toList.drop 0 = dktX0_play_0 := by decide +kernel
theorem dksX0_play_1 : cX0_play.data.toList.drop 23 = dktX0_play_1 := dk_seg dksX0_play_0 23 rfl rfl
theorem dX0_play_0 : decode cX0_play 0 = .ok (.new 311, 3) := dk_187 1 55 (dk_at dksX0_play_0 0 rfl rfl)
theorem dX0_play_3 : decode cX0_play 3 = .ok (.dup, 1) := dk_89 (dk_at dksX0_play_0 3 rfl rfl)
theorem dX0_play_4 : decode cX0_play 4 = .ok (.aload_n 0, 1) := dk_42 (dk_at dksX0_play_0 4 rfl rfl)
theorem dX0_play_5 : decode cX0_play 5 = .ok (.invokespecial 313, 3) := dk_183 1 57 (dk_at dksX0_play_0 5 rfl rfl)
theorem dX0_play_8 : decode cX0_play 8 = .ok (.astore_n 1, 1) := dk_76 (dk_at dksX0_play_0 8 rfl rfl)
theorem dX0_play_9 : decode cX0_play 9 = .ok (.aload_n 0, 1) := dk_42 (dk_at dksX0_play_0 9 rfl rfl)
theorem dX0_play_10 : decode cX0_play 10 = .ok (.aload_n 1, 1) := dk_43 (dk_at dksX0_play_0 10 rfl rfl)
theorem dX0_play_11 : decode cX0_play 11 = .ok (.getfield 324, 3) := dk_180 1 68 (dk_at dksX0_play_0 11 rfl rfl)
theorem dX0_play_14 : decode cX0_play 14 = .ok (.aload_n 1, 1) := dk_43 (dk_at dksX0_play_0 14 rfl rfl)
theorem dX0_play_15 : decode cX0_play 15 = .ok (.invokevirtual 316, 3) := dk_182 1 60 (dk_at dksX0_play_0 15 rfl rfl)
theorem dX0_play_18 : decode cX0_play 18 = .ok (.invokevirtual 97, 3) := dk_182 0 97 (dk_at dksX0_play_0 18 rfl rfl)
theorem dX0_play_21 : decode cX0_play 21 = .ok (.ireturn, 1) := dk_172 (dk_at dksX0_play_0 21 rfl rfl)
theorem dX0_play_22 : decode cX0_play 22 = .ok (.astore_n 2, 1) := dk_77 (dk_at dksX0_play_0 22 rfl rfl)
theorem dX0_play_23 : decode cX0_play 23 = .ok (.ldc_w 294, 3) := dk_19 1 38 (dk_at dksX0_play_1 0 rfl rfl)
theorem dX0_play_26 : decode cX0_play 26 = .ok (.ireturn, 1) := dk_172 (dk_at dksX0_play_1 3 rfl rfl)
theorem q66 : (Jvm.Cond.initialized "LectureTurns") ∈ lw_all := lw_g (lw_at lw_m1 1 rfl) rfl
theorem q99 : (Jvm.Cond.instantiable "LectureTurns" (3 : Nat)) ∈ lw_all := lw_g (lw_at lw_m1 34 rfl) rfl
theorem q101 : (Jvm.Cond.instanceMethod ({ cls := "LectureTurns", name := "<init>", desc := "()V" } : Jvm.MethodName)) ∈ lw_all := lw_g (lw_at lw_m1 36 rfl) rfl
theorem q102 : (Jvm.Cond.code ({ cls := "LectureTurns", name := "<init>", desc := "()V" } : Jvm.MethodName) prog_1_method_5_code (1 : Nat) (Option.none : Option Jvm.ClassFile.FieldType)) ∈ lw_all := lw_g (lw_at lw_m1 37 rfl) rfl
theorem q103 : (Jvm.Cond.methodLink "LectureTurns" (19 : Nat) ({ cls := "java/lang/Object", name := "<init>", desc := "()V" } : Jvm.MethodName)) ∈ lw_all := lw_g (lw_at lw_m1 38 rfl) rfl
theorem q106 : (Jvm.Cond.classLink "LectureTurns" (24 : Nat) "LectureTurns$Lecture") ∈ lw_all := lw_g (lw_at lw_m1 41 rfl) rfl
theorem q108 : (Jvm.Cond.methodLink "LectureTurns" (26 : Nat) ({ cls := "LectureTurns$Lecture", name := "<init>", desc := "()V" } : Jvm.MethodName)) ∈ lw_all := lw_g (lw_at lw_m1 43 rfl) rfl
theorem q152 : (Jvm.Cond.fieldLinkNest "LectureTurns" (132 : Nat) "LectureTurns$Lecture" "turns" "LLectureTurns$Store;" "LectureTurns") ∈ lw_tbl := lw_at lw_m1 87 rfl
theorem q154 : (Jvm.Cond.fieldLinkNest "LectureTurns" (211 : Nat) "LectureTurns$Lecture" "pitches" "[I" "LectureTurns") ∈ lw_tbl := lw_at lw_m1 89 rfl
theorem q156 : (Jvm.Cond.fieldLinkNest "LectureTurns" (182 : Nat) "LectureTurns$Lecture" "corrections" "[I" "LectureTurns") ∈ lw_tbl := lw_at lw_m1 91 rfl
theorem q158 : (Jvm.Cond.fieldLinkNest "LectureTurns" (287 : Nat) "LectureTurns$Lecture" "tolerance" "I" "LectureTurns") ∈ lw_tbl := lw_at lw_m1 93 rfl
theorem q169 : (Jvm.Cond.classLink "LectureTurns" (31 : Nat) "java/util/ArrayDeque") ∈ lw_all := lw_g (lw_at lw_m1 104 rfl) rfl
theorem q171 : (Jvm.Cond.methodLink "LectureTurns" (33 : Nat) ({ cls := "java/util/ArrayDeque", name := "<init>", desc := "()V" } : Jvm.MethodName)) ∈ lw_all := lw_g (lw_at lw_m1 106 rfl) rfl
theorem q187 : (Jvm.Cond.classLink "LectureTurns" (38 : Nat) "java/lang/StringBuilder") ∈ lw_all := lw_g (lw_at lw_m1 122 rfl) rfl
theorem q189 : (Jvm.Cond.methodLink "LectureTurns" (40 : Nat) ({ cls := "java/lang/StringBuilder", name := "<init>", desc := "()V" } : Jvm.MethodName)) ∈ lw_all := lw_g (lw_at lw_m1 124 rfl) rfl
theorem q220 : (Jvm.Cond.fieldLink "LectureTurns" (27 : Nat) "LectureTurns" "lecture" "LLectureTurns$Lecture;") ∈ lw_all := lw_g (lw_at lw_m1 155 rfl) rfl
theorem q221 : (Jvm.Cond.fieldLink "LectureTurns" (34 : Nat) "LectureTurns" "history" "Ljava/util/ArrayDeque;") ∈ lw_all := lw_g (lw_at lw_m1 156 rfl) rfl
theorem q223 : (Jvm.Cond.fieldLink "LectureTurns" (41 : Nat) "LectureTurns" "text" "Ljava/lang/StringBuilder;") ∈ lw_all := lw_g (lw_at lw_m1 158 rfl) rfl
theorem q224 : (Jvm.Cond.lays "LectureTurns" "LectureTurns" "lecture" "LLectureTurns$Lecture;") ∈ lw_all := lw_g (lw_at lw_m1 159 rfl) rfl
theorem q225 : (Jvm.Cond.soleField "LectureTurns" "lecture") ∈ lw_all := lw_g (lw_at lw_m1 160 rfl) rfl
theorem q226 : (Jvm.Cond.laysFinal "LectureTurns" "LectureTurns" "history" "Ljava/util/ArrayDeque;") ∈ lw_all := lw_g (lw_at lw_m1 161 rfl) rfl
theorem q227 : (Jvm.Cond.soleField "LectureTurns" "history") ∈ lw_all := lw_g (lw_at lw_m1 162 rfl) rfl
theorem q228 : (Jvm.Cond.laysFinal "LectureTurns" "LectureTurns" "text" "Ljava/lang/StringBuilder;") ∈ lw_all := lw_g (lw_at lw_m1 163 rfl) rfl
theorem q229 : (Jvm.Cond.soleField "LectureTurns" "text") ∈ lw_all := lw_g (lw_at lw_m1 164 rfl) rfl
theorem q230 : (Jvm.Cond.superclass "LectureTurns" "java/lang/Object") ∈ lw_all := lw_g (lw_at lw_m1 165 rfl) rfl
theorem q232 : (Jvm.Cond.instanceMethod ({ cls := "LectureTurns", name := "turn", desc := "(III)I" } : Jvm.MethodName)) ∈ lw_all := lw_g (lw_at lw_m1 167 rfl) rfl
theorem q233 : (Jvm.Cond.selects "LectureTurns" ({ cls := "LectureTurns", name := "turn", desc := "(III)I" } : Jvm.MethodName) ({ cls := "LectureTurns", name := "turn", desc := "(III)I" } : Jvm.MethodName)) ∈ lw_all := lw_g (lw_at lw_m1 168 rfl) rfl
theorem q234 : (Jvm.Cond.code ({ cls := "LectureTurns", name := "turn", desc := "(III)I" } : Jvm.MethodName) prog_1_method_9_code (4 : Nat) (Option.some Jvm.ClassFile.FieldType.int)) ∈ lw_all := lw_g (lw_at lw_m1 169 rfl) rfl
theorem q235 : (Jvm.Cond.methodLink "LectureTurns" (105 : Nat) ({ cls := "LectureTurns", name := "act", desc := "(C[I)I" } : Jvm.MethodName)) ∈ lw_all := lw_g (lw_at lw_m1 170 rfl) rfl
theorem q236 : (Jvm.Cond.privateMethod ({ cls := "LectureTurns", name := "act", desc := "(C[I)I" } : Jvm.MethodName)) ∈ lw_tbl := lw_at lw_m1 171 rfl
theorem q237 : (Jvm.Cond.instanceMethod ({ cls := "LectureTurns", name := "act", desc := "(C[I)I" } : Jvm.MethodName)) ∈ lw_all := lw_g (lw_at lw_m1 172 rfl) rfl
theorem q238 : (Jvm.Cond.codeWith ({ cls := "LectureTurns", name := "act", desc := "(C[I)I" } : Jvm.MethodName) prog_1_method_8_code (5 : Nat) (Option.some Jvm.ClassFile.FieldType.int) [((12 : Nat), (23 : Nat), (24 : Nat), (13 : Nat))]) ∈ lw_all := lw_g (lw_at lw_m1 173 rfl) rfl
theorem q239 : (Jvm.Cond.classLink "LectureTurns" (13 : Nat) "LectureTurns$Refused") ∈ lw_all := lw_g (lw_at lw_m1 174 rfl) rfl
theorem q240 : (Jvm.Cond.methodLink "LectureTurns" (90 : Nat) ({ cls := "LectureTurns$Lecture", name := "<init>", desc := "(LLectureTurns$Lecture;)V" } : Jvm.MethodName)) ∈ lw_all := lw_g (lw_at lw_m1 175 rfl) rfl
theorem q283 : (Jvm.Cond.fieldLinkNest "LectureTurns" (253 : Nat) "LectureTurns$Turn" "begin" "I" "LectureTurns") ∈ lw_tbl := lw_at lw_m1 218 rfl
theorem q286 : (Jvm.Cond.fieldLinkNest "LectureTurns" (333 : Nat) "LectureTurns$Turn" "end" "I" "LectureTurns") ∈ lw_tbl := lw_at lw_m1 221 rfl
theorem q289 : (Jvm.Cond.fieldLinkNest "LectureTurns" (262 : Nat) "LectureTurns$Turn" "pitch" "I" "LectureTurns") ∈ lw_tbl := lw_at lw_m1 224 rfl
theorem q292 : (Jvm.Cond.fieldLinkNest "LectureTurns" (174 : Nat) "LectureTurns$Turn" "speaker" "I" "LectureTurns") ∈ lw_tbl := lw_at lw_m1 227 rfl
theorem q295 : (Jvm.Cond.fieldLinkNest "LectureTurns" (150 : Nat) "LectureTurns$Turn" "terms" "Ljava/util/ArrayList;" "LectureTurns") ∈ lw_tbl := lw_at lw_m1 230 rfl
theorem q386 : (Jvm.Cond.selects "LectureTurns" ({ cls := "java/lang/Object", name := "getClass", desc := "()Ljava/lang/Class;" } : Jvm.MethodName) ({ cls := "java/lang/Object", name := "getClass", desc := "()Ljava/lang/Class;" } : Jvm.MethodName)) ∈ lw_all := lw_g (lw_at lw_m2 81 rfl) rfl
theorem q437 : (Jvm.Cond.methodLink "LectureTurns" (93 : Nat) ({ cls := "LectureTurns", name := "done", desc := "(LLectureTurns$Lecture;C[I)I" } : Jvm.MethodName)) ∈ lw_all := lw_g (lw_at lw_m2 132 rfl) rfl
theorem q438 : (Jvm.Cond.static ({ cls := "LectureTurns", name := "done", desc := "(LLectureTurns$Lecture;C[I)I" } : Jvm.MethodName)) ∈ lw_all := lw_g (lw_at lw_m2 133 rfl) rfl
theorem q439 : (Jvm.Cond.code ({ cls := "LectureTurns", name := "done", desc := "(LLectureTurns$Lecture;C[I)I" } : Jvm.MethodName) prog_1_method_7_code (3 : Nat) (Option.some Jvm.ClassFile.FieldType.int)) ∈ lw_all := lw_g (lw_at lw_m2 134 rfl) rfl
theorem q440 : (Jvm.Cond.methodLink "LectureTurns" (57 : Nat) ({ cls := "LectureTurns$Lecture", name := "comes", desc := "(III)I" } : Jvm.MethodName)) ∈ lw_all := lw_g (lw_at lw_m2 135 rfl) rfl
theorem q446 : (Jvm.Cond.static ({ cls := "LectureTurns", name := "isBetween", desc := "(JJJ)Z" } : Jvm.MethodName)) ∈ lw_all := lw_g (lw_at lw_m2 141 rfl) rfl
theorem q447 : (Jvm.Cond.code ({ cls := "LectureTurns", name := "isBetween", desc := "(JJJ)Z" } : Jvm.MethodName) prog_1_method_1_code (6 : Nat) (Option.some Jvm.ClassFile.FieldType.boolean)) ∈ lw_all := lw_g (lw_at lw_m2 142 rfl) rfl
theorem q450 : (Jvm.Cond.static ({ cls := "LectureTurns", name := "isPitch", desc := "(I)Z" } : Jvm.MethodName)) ∈ lw_all := lw_g (lw_at lw_m2 145 rfl) rfl
theorem q451 : (Jvm.Cond.code ({ cls := "LectureTurns", name := "isPitch", desc := "(I)Z" } : Jvm.MethodName) prog_1_method_3_code (1 : Nat) (Option.some Jvm.ClassFile.FieldType.boolean)) ∈ lw_all := lw_g (lw_at lw_m2 146 rfl) rfl
theorem q452 : (Jvm.Cond.constantLong "LectureTurns" (9 : Nat) (50 : Int64)) ∈ lw_all := lw_g (lw_at lw_m2 147 rfl) rfl
theorem q453 : (Jvm.Cond.constantLong "LectureTurns" (11 : Nat) (500 : Int64)) ∈ lw_all := lw_g (lw_at lw_m2 148 rfl) rfl
theorem q454 : (Jvm.Cond.methodLink "LectureTurns" (5 : Nat) ({ cls := "LectureTurns", name := "isBetween", desc := "(JJJ)Z" } : Jvm.MethodName)) ∈ lw_all := lw_g (lw_at lw_m2 149 rfl) rfl
theorem q457 : (Jvm.Cond.static ({ cls := "LectureTurns", name := "need", desc := "(ZI)V" } : Jvm.MethodName)) ∈ lw_all := lw_g (lw_at lw_m2 152 rfl) rfl
theorem q458 : (Jvm.Cond.code ({ cls := "LectureTurns", name := "need", desc := "(ZI)V" } : Jvm.MethodName) prog_1_method_4_code (2 : Nat) (Option.none : Option Jvm.ClassFile.FieldType)) ∈ lw_all := lw_g (lw_at lw_m2 153 rfl) rfl
theorem q497 : (Jvm.Cond.methodLink "LectureTurns" (15 : Nat) ({ cls := "LectureTurns$Refused", name := "<init>", desc := "(ILjava/lang/Throwable;)V" } : Jvm.MethodName)) ∈ lw_all := lw_g (lw_at lw_m2 192 rfl) rfl
theorem q509 : (Jvm.Cond.fieldLinkNest "LectureTurns" (101 : Nat) "LectureTurns$Refused" "code" "I" "LectureTurns") ∈ lw_tbl := lw_at lw_m2 204 rfl
theorem q534 : (Jvm.Cond.methodLink "LectureTurns" (61 : Nat) ({ cls := "LectureTurns$Lecture", name := "says", desc := "(II)I" } : Jvm.MethodName)) ∈ lw_all := lw_g (lw_at lw_m2 229 rfl) rfl
theorem q539 : (Jvm.Cond.static ({ cls := "LectureTurns", name := "isTerm", desc := "(I)Z" } : Jvm.MethodName)) ∈ lw_all := lw_g (lw_at lw_m2 234 rfl) rfl
theorem q540 : (Jvm.Cond.code ({ cls := "LectureTurns", name := "isTerm", desc := "(I)Z" } : Jvm.MethodName) prog_1_method_2_code (1 : Nat) (Option.some Jvm.ClassFile.FieldType.boolean)) ∈ lw_all := lw_g (lw_at lw_m2 235 rfl) rfl
theorem q541 : (Jvm.Cond.constantLong "LectureTurns" (3 : Nat) (15 : Int64)) ∈ lw_all := lw_g (lw_at lw_m2 236 rfl) rfl
theorem q572 : (Jvm.Cond.methodLink "LectureTurns" (65 : Nat) ({ cls := "LectureTurns$Lecture", name := "parts", desc := "(III)I" } : Jvm.MethodName)) ∈ lw_all := lw_g (lw_at lw_m3 27 rfl) rfl
theorem q585 : (Jvm.Cond.methodLink "LectureTurns" (68 : Nat) ({ cls := "LectureTurns$Lecture", name := "removes", desc := "(I)I" } : Jvm.MethodName)) ∈ lw_all := lw_g (lw_at lw_m3 40 rfl) rfl
theorem q594 : (Jvm.Cond.methodLink "LectureTurns" (72 : Nat) ({ cls := "LectureTurns$Lecture", name := "corrects", desc := "(II)I" } : Jvm.MethodName)) ∈ lw_all := lw_g (lw_at lw_m3 49 rfl) rfl
theorem q647 : (Jvm.Cond.methodLink "LectureTurns" (75 : Nat) ({ cls := "LectureTurns$Lecture", name := "uncorrects", desc := "(I)I" } : Jvm.MethodName)) ∈ lw_all := lw_g (lw_at lw_m3 102 rfl) rfl
theorem q651 : (Jvm.Cond.methodLink "LectureTurns" (78 : Nat) ({ cls := "LectureTurns$Lecture", name := "comesSpeaker", desc := "(I)I" } : Jvm.MethodName)) ∈ lw_all := lw_g (lw_at lw_m3 106 rfl) rfl
theorem q655 : (Jvm.Cond.methodLink "LectureTurns" (81 : Nat) ({ cls := "LectureTurns$Lecture", name := "gives", desc := "(II)I" } : Jvm.MethodName)) ∈ lw_all := lw_g (lw_at lw_m3 110 rfl) rfl
theorem q672 : (Jvm.Cond.methodLink "LectureTurns" (84 : Nat) ({ cls := "LectureTurns$Lecture", name := "joins", desc := "(II)I" } : Jvm.MethodName)) ∈ lw_all := lw_g (lw_at lw_m3 127 rfl) rfl
theorem q676 : (Jvm.Cond.methodLink "LectureTurns" (87 : Nat) ({ cls := "LectureTurns$Lecture", name := "toleranceTo", desc := "(I)I" } : Jvm.MethodName)) ∈ lw_all := lw_g (lw_at lw_m3 131 rfl) rfl
theorem q681 : (Jvm.Cond.methodLink "LectureTurns" (97 : Nat) ({ cls := "LectureTurns", name := "changed", desc := "(LLectureTurns$Lecture;I)I" } : Jvm.MethodName)) ∈ lw_all := lw_g (lw_at lw_m3 136 rfl) rfl
theorem q682 : (Jvm.Cond.privateMethod ({ cls := "LectureTurns", name := "changed", desc := "(LLectureTurns$Lecture;I)I" } : Jvm.MethodName)) ∈ lw_tbl := lw_at lw_m3 137 rfl
theorem q683 : (Jvm.Cond.instanceMethod ({ cls := "LectureTurns", name := "changed", desc := "(LLectureTurns$Lecture;I)I" } : Jvm.MethodName)) ∈ lw_all := lw_g (lw_at lw_m3 138 rfl) rfl
theorem q684 : (Jvm.Cond.code ({ cls := "LectureTurns", name := "changed", desc := "(LLectureTurns$Lecture;I)I" } : Jvm.MethodName) prog_1_method_6_code (3 : Nat) (Option.some Jvm.ClassFile.FieldType.int)) ∈ lw_all := lw_g (lw_at lw_m3 139 rfl) rfl
theorem q685 : (Jvm.Cond.methodLink "LectureTurns" (45 : Nat) ({ cls := "java/util/ArrayDeque", name := "addLast", desc := "(Ljava/lang/Object;)V" } : Jvm.MethodName)) ∈ lw_all := lw_g (lw_at lw_m3 140 rfl) rfl
theorem q704 : (Jvm.Cond.methodLink "LectureTurns" (49 : Nat) ({ cls := "java/util/ArrayDeque", name := "size", desc := "()I" } : Jvm.MethodName)) ∈ lw_all := lw_g (lw_at lw_m3 159 rfl) rfl
theorem q711 : (Jvm.Cond.methodLink "LectureTurns" (53 : Nat) ({ cls := "java/util/ArrayDeque", name := "removeFirst", desc := "()Ljava/lang/Object;" } : Jvm.MethodName)) ∈ lw_all := lw_g (lw_at lw_m3 166 rfl) rfl
theorem q723 : (Jvm.Cond.instanceMethod ({ cls := "LectureTurns", name := "say", desc := "(II)I" } : Jvm.MethodName)) ∈ lw_all := lw_g (lw_at lw_m3 178 rfl) rfl
theorem q724 : (Jvm.Cond.selects "LectureTurns" ({ cls := "LectureTurns", name := "say", desc := "(II)I" } : Jvm.MethodName) ({ cls := "LectureTurns", name := "say", desc := "(II)I" } : Jvm.MethodName)) ∈ lw_all := lw_g (lw_at lw_m3 179 rfl) rfl
theorem q725 : (Jvm.Cond.code ({ cls := "LectureTurns", name := "say", desc := "(II)I" } : Jvm.MethodName) prog_1_method_10_code (3 : Nat) (Option.some Jvm.ClassFile.FieldType.int)) ∈ lw_all := lw_g (lw_at lw_m3 180 rfl) rfl
theorem q727 : (Jvm.Cond.instanceMethod ({ cls := "LectureTurns", name := "part", desc := "(III)I" } : Jvm.MethodName)) ∈ lw_all := lw_g (lw_at lw_m3 182 rfl) rfl
theorem q728 : (Jvm.Cond.selects "LectureTurns" ({ cls := "LectureTurns", name := "part", desc := "(III)I" } : Jvm.MethodName) ({ cls := "LectureTurns", name := "part", desc := "(III)I" } : Jvm.MethodName)) ∈ lw_all := lw_g (lw_at lw_m3 183 rfl) rfl
theorem q729 : (Jvm.Cond.code ({ cls := "LectureTurns", name := "part", desc := "(III)I" } : Jvm.MethodName) prog_1_method_11_code (4 : Nat) (Option.some Jvm.ClassFile.FieldType.int)) ∈ lw_all := lw_g (lw_at lw_m3 184 rfl) rfl
theorem q731 : (Jvm.Cond.instanceMethod ({ cls := "LectureTurns", name := "remove", desc := "(I)I" } : Jvm.MethodName)) ∈ lw_all := lw_g (lw_at lw_m3 186 rfl) rfl
theorem q732 : (Jvm.Cond.selects "LectureTurns" ({ cls := "LectureTurns", name := "remove", desc := "(I)I" } : Jvm.MethodName) ({ cls := "LectureTurns", name := "remove", desc := "(I)I" } : Jvm.MethodName)) ∈ lw_all := lw_g (lw_at lw_m3 187 rfl) rfl
theorem q733 : (Jvm.Cond.code ({ cls := "LectureTurns", name := "remove", desc := "(I)I" } : Jvm.MethodName) prog_1_method_12_code (2 : Nat) (Option.some Jvm.ClassFile.FieldType.int)) ∈ lw_all := lw_g (lw_at lw_m3 188 rfl) rfl
theorem q735 : (Jvm.Cond.instanceMethod ({ cls := "LectureTurns", name := "correct", desc := "(II)I" } : Jvm.MethodName)) ∈ lw_all := lw_g (lw_at lw_m3 190 rfl) rfl
theorem q736 : (Jvm.Cond.selects "LectureTurns" ({ cls := "LectureTurns", name := "correct", desc := "(II)I" } : Jvm.MethodName) ({ cls := "LectureTurns", name := "correct", desc := "(II)I" } : Jvm.MethodName)) ∈ lw_all := lw_g (lw_at lw_m3 191 rfl) rfl
theorem q737 : (Jvm.Cond.code ({ cls := "LectureTurns", name := "correct", desc := "(II)I" } : Jvm.MethodName) prog_1_method_13_code (3 : Nat) (Option.some Jvm.ClassFile.FieldType.int)) ∈ lw_all := lw_g (lw_at lw_m3 192 rfl) rfl
theorem q739 : (Jvm.Cond.instanceMethod ({ cls := "LectureTurns", name := "uncorrect", desc := "(I)I" } : Jvm.MethodName)) ∈ lw_all := lw_g (lw_at lw_m3 194 rfl) rfl
theorem q740 : (Jvm.Cond.selects "LectureTurns" ({ cls := "LectureTurns", name := "uncorrect", desc := "(I)I" } : Jvm.MethodName) ({ cls := "LectureTurns", name := "uncorrect", desc := "(I)I" } : Jvm.MethodName)) ∈ lw_all := lw_g (lw_at lw_m3 195 rfl) rfl
theorem q741 : (Jvm.Cond.code ({ cls := "LectureTurns", name := "uncorrect", desc := "(I)I" } : Jvm.MethodName) prog_1_method_14_code (2 : Nat) (Option.some Jvm.ClassFile.FieldType.int)) ∈ lw_all := lw_g (lw_at lw_m3 196 rfl) rfl
theorem q743 : (Jvm.Cond.instanceMethod ({ cls := "LectureTurns", name := "speaker", desc := "(I)I" } : Jvm.MethodName)) ∈ lw_all := lw_g (lw_at lw_m3 198 rfl) rfl
theorem q744 : (Jvm.Cond.selects "LectureTurns" ({ cls := "LectureTurns", name := "speaker", desc := "(I)I" } : Jvm.MethodName) ({ cls := "LectureTurns", name := "speaker", desc := "(I)I" } : Jvm.MethodName)) ∈ lw_all := lw_g (lw_at lw_m3 199 rfl) rfl
theorem q745 : (Jvm.Cond.code ({ cls := "LectureTurns", name := "speaker", desc := "(I)I" } : Jvm.MethodName) prog_1_method_15_code (2 : Nat) (Option.some Jvm.ClassFile.FieldType.int)) ∈ lw_all := lw_g (lw_at lw_m3 200 rfl) rfl
theorem q747 : (Jvm.Cond.instanceMethod ({ cls := "LectureTurns", name := "give", desc := "(II)I" } : Jvm.MethodName)) ∈ lw_all := lw_g (lw_at lw_m3 202 rfl) rfl
theorem q748 : (Jvm.Cond.selects "LectureTurns" ({ cls := "LectureTurns", name := "give", desc := "(II)I" } : Jvm.MethodName) ({ cls := "LectureTurns", name := "give", desc := "(II)I" } : Jvm.MethodName)) ∈ lw_all := lw_g (lw_at lw_m3 203 rfl) rfl
theorem q749 : (Jvm.Cond.code ({ cls := "LectureTurns", name := "give", desc := "(II)I" } : Jvm.MethodName) prog_1_method_16_code (3 : Nat) (Option.some Jvm.ClassFile.FieldType.int)) ∈ lw_all := lw_g (lw_at lw_m3 204 rfl) rfl
theorem q751 : (Jvm.Cond.instanceMethod ({ cls := "LectureTurns", name := "join", desc := "(II)I" } : Jvm.MethodName)) ∈ lw_all := lw_g (lw_at lw_m3 206 rfl) rfl
theorem q752 : (Jvm.Cond.selects "LectureTurns" ({ cls := "LectureTurns", name := "join", desc := "(II)I" } : Jvm.MethodName) ({ cls := "LectureTurns", name := "join", desc := "(II)I" } : Jvm.MethodName)) ∈ lw_all := lw_g (lw_at lw_m3 207 rfl) rfl
theorem q753 : (Jvm.Cond.code ({ cls := "LectureTurns", name := "join", desc := "(II)I" } : Jvm.MethodName) prog_1_method_17_code (3 : Nat) (Option.some Jvm.ClassFile.FieldType.int)) ∈ lw_all := lw_g (lw_at lw_m3 208 rfl) rfl
theorem q755 : (Jvm.Cond.instanceMethod ({ cls := "LectureTurns", name := "set", desc := "(II)I" } : Jvm.MethodName)) ∈ lw_all := lw_g (lw_at lw_m3 210 rfl) rfl
theorem q756 : (Jvm.Cond.selects "LectureTurns" ({ cls := "LectureTurns", name := "set", desc := "(II)I" } : Jvm.MethodName) ({ cls := "LectureTurns", name := "set", desc := "(II)I" } : Jvm.MethodName)) ∈ lw_all := lw_g (lw_at lw_m3 211 rfl) rfl
theorem q757 : (Jvm.Cond.code ({ cls := "LectureTurns", name := "set", desc := "(II)I" } : Jvm.MethodName) prog_1_method_18_code (3 : Nat) (Option.some Jvm.ClassFile.FieldType.int)) ∈ lw_all := lw_g (lw_at lw_m3 212 rfl) rfl
theorem q758 : (Jvm.Cond.constant "LectureTurns" (109 : Nat) (-1000001 : Int32)) ∈ lw_all := lw_g (lw_at lw_m3 213 rfl) rfl
theorem q760 : (Jvm.Cond.instanceMethod ({ cls := "LectureTurns", name := "turnOf", desc := "(II)I" } : Jvm.MethodName)) ∈ lw_all := lw_g (lw_at lw_m3 215 rfl) rfl
theorem q761 : (Jvm.Cond.selects "LectureTurns" ({ cls := "LectureTurns", name := "turnOf", desc := "(II)I" } : Jvm.MethodName) ({ cls := "LectureTurns", name := "turnOf", desc := "(II)I" } : Jvm.MethodName)) ∈ lw_all := lw_g (lw_at lw_m3 216 rfl) rfl
theorem q762 : (Jvm.Cond.code ({ cls := "LectureTurns", name := "turnOf", desc := "(II)I" } : Jvm.MethodName) prog_1_method_21_code (3 : Nat) (Option.some Jvm.ClassFile.FieldType.int)) ∈ lw_all := lw_g (lw_at lw_m3 217 rfl) rfl
theorem q763 : (Jvm.Cond.methodLink "LectureTurns" (126 : Nat) ({ cls := "LectureTurns$Lecture", name := "isTurn", desc := "(I)Z" } : Jvm.MethodName)) ∈ lw_all := lw_g (lw_at lw_m3 218 rfl) rfl
theorem q764 : (Jvm.Cond.constantLong "LectureTurns" (130 : Nat) (7 : Int64)) ∈ lw_all := lw_g (lw_at lw_m3 219 rfl) rfl
theorem q765 : (Jvm.Cond.methodLink "LectureTurns" (136 : Nat) ({ cls := "LectureTurns$Store", name := "at", desc := "(I)LLectureTurns$Begun;" } : Jvm.MethodName)) ∈ lw_all := lw_g (lw_at lw_m3 220 rfl) rfl
theorem q766 : (Jvm.Cond.classLink "LectureTurns" (142 : Nat) "LectureTurns$Turn") ∈ lw_all := lw_g (lw_at lw_m3 221 rfl) rfl
theorem q767 : (Jvm.Cond.methodLink "LectureTurns" (144 : Nat) ({ cls := "LectureTurns", name := "tellers", desc := "(LLectureTurns$Lecture;LLectureTurns$Turn;)[LLectureTurns$Told;" } : Jvm.MethodName)) ∈ lw_all := lw_g (lw_at lw_m3 222 rfl) rfl
theorem q768 : (Jvm.Cond.static ({ cls := "LectureTurns", name := "tellers", desc := "(LLectureTurns$Lecture;LLectureTurns$Turn;)[LLectureTurns$Told;" } : Jvm.MethodName)) ∈ lw_all := lw_g (lw_at lw_m3 223 rfl) rfl
theorem q769 : (Jvm.Cond.code ({ cls := "LectureTurns", name := "tellers", desc := "(LLectureTurns$Lecture;LLectureTurns$Turn;)[LLectureTurns$Told;" } : Jvm.MethodName) prog_1_method_20_code (2 : Nat) (Option.some (Jvm.ClassFile.FieldType.array (Jvm.ClassFile.FieldType.object "LectureTurns$Told")))) ∈ lw_all := lw_g (lw_at lw_m3 224 rfl) rfl
theorem q770 : (Jvm.Cond.classLink "LectureTurns" (111 : Nat) "LectureTurns$Told") ∈ lw_all := lw_g (lw_at lw_m3 225 rfl) rfl
theorem q772 : (Jvm.Cond.static ({ cls := "LectureTurns", name := "lambda$tellers$0", desc := "(LLectureTurns$Turn;)I" } : Jvm.MethodName)) ∈ lw_all := lw_g (lw_at lw_m3 227 rfl) rfl
theorem q773 : (Jvm.Cond.code ({ cls := "LectureTurns", name := "lambda$tellers$0", desc := "(LLectureTurns$Turn;)I" } : Jvm.MethodName) prog_1_method_52_code (1 : Nat) (Option.some Jvm.ClassFile.FieldType.int)) ∈ lw_all := lw_g (lw_at lw_m3 228 rfl) rfl
theorem q774 : (Jvm.Cond.static ({ cls := "LectureTurns", name := "lambda$tellers$1", desc := "(LLectureTurns$Turn;)I" } : Jvm.MethodName)) ∈ lw_all := lw_g (lw_at lw_m3 229 rfl) rfl
theorem q775 : (Jvm.Cond.code ({ cls := "LectureTurns", name := "lambda$tellers$1", desc := "(LLectureTurns$Turn;)I" } : Jvm.MethodName) prog_1_method_51_code (1 : Nat) (Option.some Jvm.ClassFile.FieldType.int)) ∈ lw_all := lw_g (lw_at lw_m3 230 rfl) rfl
theorem q776 : (Jvm.Cond.static ({ cls := "LectureTurns", name := "lambda$tellers$2", desc := "(LLectureTurns$Turn;)I" } : Jvm.MethodName)) ∈ lw_all := lw_g (lw_at lw_m3 231 rfl) rfl
theorem q777 : (Jvm.Cond.code ({ cls := "LectureTurns", name := "lambda$tellers$2", desc := "(LLectureTurns$Turn;)I" } : Jvm.MethodName) prog_1_method_50_code (1 : Nat) (Option.some Jvm.ClassFile.FieldType.int)) ∈ lw_all := lw_g (lw_at lw_m3 232 rfl) rfl
theorem q778 : (Jvm.Cond.static ({ cls := "LectureTurns", name := "lambda$tellers$3", desc := "(LLectureTurns$Turn;)I" } : Jvm.MethodName)) ∈ lw_all := lw_g (lw_at lw_m3 233 rfl) rfl
theorem q779 : (Jvm.Cond.code ({ cls := "LectureTurns", name := "lambda$tellers$3", desc := "(LLectureTurns$Turn;)I" } : Jvm.MethodName) prog_1_method_49_code (1 : Nat) (Option.some Jvm.ClassFile.FieldType.int)) ∈ lw_all := lw_g (lw_at lw_m3 234 rfl) rfl
theorem q780 : (Jvm.Cond.methodLink "LectureTurns" (186 : Nat) ({ cls := "LectureTurns", name := "orNotFound", desc := "(I)I" } : Jvm.MethodName)) ∈ lw_all := lw_g (lw_at lw_m3 235 rfl) rfl
theorem q781 : (Jvm.Cond.static ({ cls := "LectureTurns", name := "orNotFound", desc := "(I)I" } : Jvm.MethodName)) ∈ lw_all := lw_g (lw_at lw_m3 236 rfl) rfl
theorem q782 : (Jvm.Cond.code ({ cls := "LectureTurns", name := "orNotFound", desc := "(I)I" } : Jvm.MethodName) prog_1_method_19_code (1 : Nat) (Option.some Jvm.ClassFile.FieldType.int)) ∈ lw_all := lw_g (lw_at lw_m3 237 rfl) rfl
theorem q783 : (Jvm.Cond.constant "LectureTurns" (110 : Nat) (-1000004 : Int32)) ∈ lw_all := lw_g (lw_at lw_m3 238 rfl) rfl
theorem q784 : (Jvm.Cond.static ({ cls := "LectureTurns", name := "lambda$tellers$4", desc := "(LLectureTurns$Turn;)I" } : Jvm.MethodName)) ∈ lw_all := lw_g (lw_at lw_m3 239 rfl) rfl
theorem q785 : (Jvm.Cond.code ({ cls := "LectureTurns", name := "lambda$tellers$4", desc := "(LLectureTurns$Turn;)I" } : Jvm.MethodName) prog_1_method_48_code (1 : Nat) (Option.some Jvm.ClassFile.FieldType.int)) ∈ lw_all := lw_g (lw_at lw_m4 0 rfl) rfl
theorem q786 : (Jvm.Cond.methodLink "LectureTurns" (154 : Nat) ({ cls := "java/util/ArrayList", name := "size", desc := "()I" } : Jvm.MethodName)) ∈ lw_all := lw_g (lw_at lw_m4 1 rfl) rfl
theorem q787 : (Jvm.Cond.static ({ cls := "LectureTurns", name := "lambda$tellers$5", desc := "(LLectureTurns$Lecture;LLectureTurns$Turn;)I" } : Jvm.MethodName)) ∈ lw_all := lw_g (lw_at lw_m4 2 rfl) rfl
theorem q788 : (Jvm.Cond.code ({ cls := "LectureTurns", name := "lambda$tellers$5", desc := "(LLectureTurns$Lecture;LLectureTurns$Turn;)I" } : Jvm.MethodName) prog_1_method_47_code (2 : Nat) (Option.some Jvm.ClassFile.FieldType.int)) ∈ lw_all := lw_g (lw_at lw_m4 3 rfl) rfl
theorem q789 : (Jvm.Cond.methodLink "LectureTurns" (268 : Nat) ({ cls := "LectureTurns$Lecture", name := "meeting", desc := "(LLectureTurns$Turn;)I" } : Jvm.MethodName)) ∈ lw_all := lw_g (lw_at lw_m4 4 rfl) rfl
theorem q797 : (Jvm.Cond.static ({ cls := "LectureTurns", name := "lambda$tellers$6", desc := "(LLectureTurns$Lecture;LLectureTurns$Turn;)I" } : Jvm.MethodName)) ∈ lw_all := lw_g (lw_at lw_m4 12 rfl) rfl
theorem q798 : (Jvm.Cond.code ({ cls := "LectureTurns", name := "lambda$tellers$6", desc := "(LLectureTurns$Lecture;LLectureTurns$Turn;)I" } : Jvm.MethodName) prog_1_method_46_code (2 : Nat) (Option.some Jvm.ClassFile.FieldType.int)) ∈ lw_all := lw_g (lw_at lw_m4 13 rfl) rfl
theorem q799 : (Jvm.Cond.methodLink "LectureTurns" (330 : Nat) ({ cls := "LectureTurns$Lecture", name := "interrupted", desc := "(LLectureTurns$Turn;)I" } : Jvm.MethodName)) ∈ lw_all := lw_g (lw_at lw_m4 14 rfl) rfl
theorem q807 : (Jvm.Cond.static ({ cls := "LectureTurns", name := "lambda$tellers$7", desc := "(LLectureTurns$Lecture;LLectureTurns$Turn;)I" } : Jvm.MethodName)) ∈ lw_all := lw_g (lw_at lw_m4 22 rfl) rfl
theorem q808 : (Jvm.Cond.code ({ cls := "LectureTurns", name := "lambda$tellers$7", desc := "(LLectureTurns$Lecture;LLectureTurns$Turn;)I" } : Jvm.MethodName) prog_1_method_45_code (2 : Nat) (Option.some Jvm.ClassFile.FieldType.int)) ∈ lw_all := lw_g (lw_at lw_m4 23 rfl) rfl
theorem q809 : (Jvm.Cond.methodLink "LectureTurns" (327 : Nat) ({ cls := "LectureTurns$Lecture", name := "alone", desc := "(LLectureTurns$Turn;)I" } : Jvm.MethodName)) ∈ lw_all := lw_g (lw_at lw_m4 24 rfl) rfl
theorem q821 : (Jvm.Cond.interfaceEntry "LectureTurns" (148 : Nat)) ∈ lw_tbl := lw_at lw_m4 36 rfl
theorem q822 : (Jvm.Cond.methodLink "LectureTurns" (148 : Nat) ({ cls := "LectureTurns$Told", name := "now", desc := "()I" } : Jvm.MethodName)) ∈ lw_all := lw_g (lw_at lw_m4 37 rfl) rfl
theorem q826 : (Jvm.Cond.instanceMethod ({ cls := "LectureTurns", name := "termAt", desc := "(III)I" } : Jvm.MethodName)) ∈ lw_all := lw_g (lw_at lw_m4 41 rfl) rfl
theorem q827 : (Jvm.Cond.selects "LectureTurns" ({ cls := "LectureTurns", name := "termAt", desc := "(III)I" } : Jvm.MethodName) ({ cls := "LectureTurns", name := "termAt", desc := "(III)I" } : Jvm.MethodName)) ∈ lw_all := lw_g (lw_at lw_m4 42 rfl) rfl
theorem q828 : (Jvm.Cond.code ({ cls := "LectureTurns", name := "termAt", desc := "(III)I" } : Jvm.MethodName) prog_1_method_22_code (6 : Nat) (Option.some Jvm.ClassFile.FieldType.int)) ∈ lw_all := lw_g (lw_at lw_m4 43 rfl) rfl
theorem q829 : (Jvm.Cond.methodLink "LectureTurns" (157 : Nat) ({ cls := "java/util/ArrayList", name := "get", desc := "(I)Ljava/lang/Object;" } : Jvm.MethodName)) ∈ lw_all := lw_g (lw_at lw_m4 44 rfl) rfl
theorem q830 : (Jvm.Cond.classLink "LectureTurns" (161 : Nat) "java/lang/Integer") ∈ lw_all := lw_g (lw_at lw_m4 45 rfl) rfl
theorem q831 : (Jvm.Cond.methodLink "LectureTurns" (163 : Nat) ({ cls := "java/lang/Integer", name := "intValue", desc := "()I" } : Jvm.MethodName)) ∈ lw_all := lw_g (lw_at lw_m4 46 rfl) rfl
theorem q832 : (Jvm.Cond.methodLink "LectureTurns" (166 : Nat) ({ cls := "LectureTurns$Lecture", name := "shown", desc := "(I)I" } : Jvm.MethodName)) ∈ lw_all := lw_g (lw_at lw_m4 47 rfl) rfl
theorem q834 : (Jvm.Cond.instanceMethod ({ cls := "LectureTurns", name := "termOf", desc := "(II)I" } : Jvm.MethodName)) ∈ lw_all := lw_g (lw_at lw_m4 49 rfl) rfl
theorem q835 : (Jvm.Cond.selects "LectureTurns" ({ cls := "LectureTurns", name := "termOf", desc := "(II)I" } : Jvm.MethodName) ({ cls := "LectureTurns", name := "termOf", desc := "(II)I" } : Jvm.MethodName)) ∈ lw_all := lw_g (lw_at lw_m4 50 rfl) rfl
theorem q836 : (Jvm.Cond.code ({ cls := "LectureTurns", name := "termOf", desc := "(II)I" } : Jvm.MethodName) prog_1_method_24_code (3 : Nat) (Option.some Jvm.ClassFile.FieldType.int)) ∈ lw_all := lw_g (lw_at lw_m4 51 rfl) rfl
theorem q837 : (Jvm.Cond.methodLink "LectureTurns" (177 : Nat) ({ cls := "LectureTurns", name := "isTerm", desc := "(I)Z" } : Jvm.MethodName)) ∈ lw_all := lw_g (lw_at lw_m4 52 rfl) rfl
theorem q838 : (Jvm.Cond.constantLong "LectureTurns" (180 : Nat) (6 : Int64)) ∈ lw_all := lw_g (lw_at lw_m4 53 rfl) rfl
theorem q839 : (Jvm.Cond.methodLink "LectureTurns" (189 : Nat) ({ cls := "LectureTurns$Lecture", name := "chain", desc := "(I)I" } : Jvm.MethodName)) ∈ lw_all := lw_g (lw_at lw_m4 54 rfl) rfl
theorem q844 : (Jvm.Cond.methodLink "LectureTurns" (192 : Nat) ({ cls := "LectureTurns$Lecture", name := "shownAs", desc := "(I)I" } : Jvm.MethodName)) ∈ lw_all := lw_g (lw_at lw_m4 59 rfl) rfl
theorem q848 : (Jvm.Cond.methodLinkNest "LectureTurns" (195 : Nat) ({ cls := "LectureTurns$Lecture", name := "places", desc := "(I)I" } : Jvm.MethodName) "LectureTurns") ∈ lw_tbl := lw_at lw_m4 63 rfl
theorem q849 : (Jvm.Cond.methodLink "LectureTurns" (198 : Nat) ({ cls := "LectureTurns", name := "showing", desc := "(IZ)I" } : Jvm.MethodName)) ∈ lw_all := lw_g (lw_at lw_m4 64 rfl) rfl
theorem q850 : (Jvm.Cond.privateMethod ({ cls := "LectureTurns", name := "showing", desc := "(IZ)I" } : Jvm.MethodName)) ∈ lw_tbl := lw_at lw_m4 65 rfl
theorem q851 : (Jvm.Cond.instanceMethod ({ cls := "LectureTurns", name := "showing", desc := "(IZ)I" } : Jvm.MethodName)) ∈ lw_all := lw_g (lw_at lw_m4 66 rfl) rfl
theorem q852 : (Jvm.Cond.code ({ cls := "LectureTurns", name := "showing", desc := "(IZ)I" } : Jvm.MethodName) prog_1_method_23_code (8 : Nat) (Option.some Jvm.ClassFile.FieldType.int)) ∈ lw_all := lw_g (lw_at lw_m4 67 rfl) rfl
theorem q853 : (Jvm.Cond.methodLink "LectureTurns" (169 : Nat) ({ cls := "LectureTurns$Store", name := "size", desc := "()I" } : Jvm.MethodName)) ∈ lw_all := lw_g (lw_at lw_m4 68 rfl) rfl
theorem q854 : (Jvm.Cond.methodLink "LectureTurns" (170 : Nat) ({ cls := "LectureTurns$Lecture", name := "shows", desc := "(LLectureTurns$Turn;)I" } : Jvm.MethodName)) ∈ lw_all := lw_g (lw_at lw_m4 69 rfl) rfl
theorem q859 : (Jvm.Cond.instanceMethod ({ cls := "LectureTurns", name := "speakerOf", desc := "(II)I" } : Jvm.MethodName)) ∈ lw_all := lw_g (lw_at lw_m4 74 rfl) rfl
theorem q860 : (Jvm.Cond.selects "LectureTurns" ({ cls := "LectureTurns", name := "speakerOf", desc := "(II)I" } : Jvm.MethodName) ({ cls := "LectureTurns", name := "speakerOf", desc := "(II)I" } : Jvm.MethodName)) ∈ lw_all := lw_g (lw_at lw_m4 75 rfl) rfl
theorem q861 : (Jvm.Cond.code ({ cls := "LectureTurns", name := "speakerOf", desc := "(II)I" } : Jvm.MethodName) prog_1_method_26_code (4 : Nat) (Option.some Jvm.ClassFile.FieldType.int)) ∈ lw_all := lw_g (lw_at lw_m4 76 rfl) rfl
theorem q862 : (Jvm.Cond.methodLink "LectureTurns" (205 : Nat) ({ cls := "LectureTurns$Lecture", name := "isSpeaker", desc := "(I)Z" } : Jvm.MethodName)) ∈ lw_all := lw_g (lw_at lw_m4 77 rfl) rfl
theorem q863 : (Jvm.Cond.methodLink "LectureTurns" (208 : Nat) ({ cls := "LectureTurns", name := "ofTurns", desc := "(II)I" } : Jvm.MethodName)) ∈ lw_all := lw_g (lw_at lw_m4 78 rfl) rfl
theorem q864 : (Jvm.Cond.privateMethod ({ cls := "LectureTurns", name := "ofTurns", desc := "(II)I" } : Jvm.MethodName)) ∈ lw_tbl := lw_at lw_m4 79 rfl
theorem q865 : (Jvm.Cond.instanceMethod ({ cls := "LectureTurns", name := "ofTurns", desc := "(II)I" } : Jvm.MethodName)) ∈ lw_all := lw_g (lw_at lw_m4 80 rfl) rfl
theorem q866 : (Jvm.Cond.code ({ cls := "LectureTurns", name := "ofTurns", desc := "(II)I" } : Jvm.MethodName) prog_1_method_25_code (8 : Nat) (Option.some Jvm.ClassFile.FieldType.int)) ∈ lw_all := lw_g (lw_at lw_m4 81 rfl) rfl
theorem q867 : (Jvm.Cond.methodLink "LectureTurns" (202 : Nat) ({ cls := "LectureTurns$Turn", name := "seconds", desc := "()I" } : Jvm.MethodName)) ∈ lw_all := lw_g (lw_at lw_m4 82 rfl) rfl
theorem q871 : (Jvm.Cond.methodLink "LectureTurns" (214 : Nat) ({ cls := "LectureTurns$Lecture", name := "turnsOf", desc := "(I)I" } : Jvm.MethodName)) ∈ lw_all := lw_g (lw_at lw_m4 86 rfl) rfl
theorem q872 : (Jvm.Cond.methodLink "LectureTurns" (217 : Nat) ({ cls := "LectureTurns$Lecture", name := "interruptions", desc := "(II)I" } : Jvm.MethodName)) ∈ lw_all := lw_g (lw_at lw_m4 87 rfl) rfl
theorem q876 : (Jvm.Cond.constantFloat "LectureTurns" (220 : Nat) (1114636288 : UInt32)) ∈ lw_all := lw_g (lw_at lw_m4 91 rfl) rfl
theorem q877 : (Jvm.Cond.methodLink "LectureTurns" (221 : Nat) ({ cls := "java/lang/Float", name := "floatToIntBits", desc := "(F)I" } : Jvm.MethodName)) ∈ lw_all := lw_g (lw_at lw_m4 92 rfl) rfl
theorem q888 : (Jvm.Cond.instanceMethod ({ cls := "LectureTurns", name := "during", desc := "(II)I" } : Jvm.MethodName)) ∈ lw_all := lw_g (lw_at lw_m4 103 rfl) rfl
theorem q889 : (Jvm.Cond.selects "LectureTurns" ({ cls := "LectureTurns", name := "during", desc := "(II)I" } : Jvm.MethodName) ({ cls := "LectureTurns", name := "during", desc := "(II)I" } : Jvm.MethodName)) ∈ lw_all := lw_g (lw_at lw_m4 104 rfl) rfl
theorem q890 : (Jvm.Cond.code ({ cls := "LectureTurns", name := "during", desc := "(II)I" } : Jvm.MethodName) prog_1_method_27_code (7 : Nat) (Option.some Jvm.ClassFile.FieldType.int)) ∈ lw_all := lw_g (lw_at lw_m4 105 rfl) rfl
theorem q891 : (Jvm.Cond.constantLong "LectureTurns" (227 : Nat) (1999 : Int64)) ∈ lw_all := lw_g (lw_at lw_m4 106 rfl) rfl
theorem q892 : (Jvm.Cond.methodLink "LectureTurns" (229 : Nat) ({ cls := "LectureTurns$Turn", name := "goesOn", desc := "(I)Z" } : Jvm.MethodName)) ∈ lw_all := lw_g (lw_at lw_m4 107 rfl) rfl
theorem q894 : (Jvm.Cond.instanceMethod ({ cls := "LectureTurns", name := "interrupts", desc := "(II)I" } : Jvm.MethodName)) ∈ lw_all := lw_g (lw_at lw_m4 109 rfl) rfl
theorem q895 : (Jvm.Cond.selects "LectureTurns" ({ cls := "LectureTurns", name := "interrupts", desc := "(II)I" } : Jvm.MethodName) ({ cls := "LectureTurns", name := "interrupts", desc := "(II)I" } : Jvm.MethodName)) ∈ lw_all := lw_g (lw_at lw_m4 110 rfl) rfl
theorem q896 : (Jvm.Cond.code ({ cls := "LectureTurns", name := "interrupts", desc := "(II)I" } : Jvm.MethodName) prog_1_method_28_code (4 : Nat) (Option.some Jvm.ClassFile.FieldType.int)) ∈ lw_all := lw_g (lw_at lw_m4 111 rfl) rfl
theorem q898 : (Jvm.Cond.instanceMethod ({ cls := "LectureTurns", name := "nearest", desc := "(I)I" } : Jvm.MethodName)) ∈ lw_all := lw_g (lw_at lw_m4 113 rfl) rfl
theorem q899 : (Jvm.Cond.selects "LectureTurns" ({ cls := "LectureTurns", name := "nearest", desc := "(I)I" } : Jvm.MethodName) ({ cls := "LectureTurns", name := "nearest", desc := "(I)I" } : Jvm.MethodName)) ∈ lw_all := lw_g (lw_at lw_m4 114 rfl) rfl
theorem q900 : (Jvm.Cond.code ({ cls := "LectureTurns", name := "nearest", desc := "(I)I" } : Jvm.MethodName) prog_1_method_29_code (2 : Nat) (Option.some Jvm.ClassFile.FieldType.int)) ∈ lw_all := lw_g (lw_at lw_m4 115 rfl) rfl
theorem q901 : (Jvm.Cond.methodLink "LectureTurns" (232 : Nat) ({ cls := "LectureTurns", name := "isPitch", desc := "(I)Z" } : Jvm.MethodName)) ∈ lw_all := lw_g (lw_at lw_m4 116 rfl) rfl
theorem q902 : (Jvm.Cond.methodLink "LectureTurns" (235 : Nat) ({ cls := "LectureTurns$Lecture", name := "nearestTo", desc := "(I)I" } : Jvm.MethodName)) ∈ lw_all := lw_g (lw_at lw_m4 117 rfl) rfl
theorem q904 : (Jvm.Cond.instanceMethod ({ cls := "LectureTurns", name := "would", desc := "(II)I" } : Jvm.MethodName)) ∈ lw_all := lw_g (lw_at lw_m4 119 rfl) rfl
theorem q905 : (Jvm.Cond.selects "LectureTurns" ({ cls := "LectureTurns", name := "would", desc := "(II)I" } : Jvm.MethodName) ({ cls := "LectureTurns", name := "would", desc := "(II)I" } : Jvm.MethodName)) ∈ lw_all := lw_g (lw_at lw_m4 120 rfl) rfl
theorem q906 : (Jvm.Cond.codeWith ({ cls := "LectureTurns", name := "would", desc := "(II)I" } : Jvm.MethodName) prog_1_method_30_code (4 : Nat) (Option.some Jvm.ClassFile.FieldType.int) [((0 : Nat), (16 : Nat), (17 : Nat), (13 : Nat))]) ∈ lw_all := lw_g (lw_at lw_m4 121 rfl) rfl
theorem q908 : (Jvm.Cond.instanceMethod ({ cls := "LectureTurns", name := "together", desc := "(I)I" } : Jvm.MethodName)) ∈ lw_all := lw_g (lw_at lw_m4 123 rfl) rfl
theorem q909 : (Jvm.Cond.selects "LectureTurns" ({ cls := "LectureTurns", name := "together", desc := "(I)I" } : Jvm.MethodName) ({ cls := "LectureTurns", name := "together", desc := "(I)I" } : Jvm.MethodName)) ∈ lw_all := lw_g (lw_at lw_m4 124 rfl) rfl
theorem q910 : (Jvm.Cond.code ({ cls := "LectureTurns", name := "together", desc := "(I)I" } : Jvm.MethodName) prog_1_method_33_code (9 : Nat) (Option.some Jvm.ClassFile.FieldType.int)) ∈ lw_all := lw_g (lw_at lw_m4 125 rfl) rfl
theorem q911 : (Jvm.Cond.constantLong "LectureTurns" (238 : Nat) (2 : Int64)) ∈ lw_all := lw_g (lw_at lw_m4 126 rfl) rfl
theorem q912 : (Jvm.Cond.methodLink "LectureTurns" (240 : Nat) ({ cls := "LectureTurns", name := "shownSets", desc := "()[I" } : Jvm.MethodName)) ∈ lw_all := lw_g (lw_at lw_m4 127 rfl) rfl
theorem q913 : (Jvm.Cond.privateMethod ({ cls := "LectureTurns", name := "shownSets", desc := "()[I" } : Jvm.MethodName)) ∈ lw_tbl := lw_at lw_m4 128 rfl
theorem q914 : (Jvm.Cond.instanceMethod ({ cls := "LectureTurns", name := "shownSets", desc := "()[I" } : Jvm.MethodName)) ∈ lw_all := lw_g (lw_at lw_m4 129 rfl) rfl
theorem q915 : (Jvm.Cond.code ({ cls := "LectureTurns", name := "shownSets", desc := "()[I" } : Jvm.MethodName) prog_1_method_32_code (3 : Nat) (Option.some (Jvm.ClassFile.FieldType.array Jvm.ClassFile.FieldType.int))) ∈ lw_all := lw_g (lw_at lw_m4 130 rfl) rfl
theorem q916 : (Jvm.Cond.methodLink "LectureTurns" (244 : Nat) ({ cls := "LectureTurns", name := "both", desc := "(II[I)I" } : Jvm.MethodName)) ∈ lw_all := lw_g (lw_at lw_m4 131 rfl) rfl
theorem q917 : (Jvm.Cond.static ({ cls := "LectureTurns", name := "both", desc := "(II[I)I" } : Jvm.MethodName)) ∈ lw_all := lw_g (lw_at lw_m4 132 rfl) rfl
theorem q918 : (Jvm.Cond.code ({ cls := "LectureTurns", name := "both", desc := "(II[I)I" } : Jvm.MethodName) prog_1_method_31_code (8 : Nat) (Option.some Jvm.ClassFile.FieldType.int)) ∈ lw_all := lw_g (lw_at lw_m4 133 rfl) rfl
theorem q919 : (Jvm.Cond.methodLink "LectureTurns" (248 : Nat) ({ cls := "java/lang/Math", name := "max", desc := "(II)I" } : Jvm.MethodName)) ∈ lw_all := lw_g (lw_at lw_m4 134 rfl) rfl
theorem q921 : (Jvm.Cond.instanceMethod ({ cls := "LectureTurns", name := "silence", desc := "(I)I" } : Jvm.MethodName)) ∈ lw_all := lw_g (lw_at lw_m4 136 rfl) rfl
theorem q922 : (Jvm.Cond.selects "LectureTurns" ({ cls := "LectureTurns", name := "silence", desc := "(I)I" } : Jvm.MethodName) ({ cls := "LectureTurns", name := "silence", desc := "(I)I" } : Jvm.MethodName)) ∈ lw_all := lw_g (lw_at lw_m4 137 rfl) rfl
theorem q923 : (Jvm.Cond.code ({ cls := "LectureTurns", name := "silence", desc := "(I)I" } : Jvm.MethodName) prog_1_method_34_code (7 : Nat) (Option.some Jvm.ClassFile.FieldType.int)) ∈ lw_all := lw_g (lw_at lw_m4 138 rfl) rfl
theorem q924 : (Jvm.Cond.methodLink "LectureTurns" (256 : Nat) ({ cls := "LectureTurns$Lecture", name := "lastEnd", desc := "()I" } : Jvm.MethodName)) ∈ lw_all := lw_g (lw_at lw_m4 139 rfl) rfl
theorem q929 : (Jvm.Cond.methodLink "LectureTurns" (259 : Nat) ({ cls := "LectureTurns$Lecture", name := "going", desc := "(I)I" } : Jvm.MethodName)) ∈ lw_all := lw_g (lw_at lw_m4 144 rfl) rfl
theorem q931 : (Jvm.Cond.instanceMethod ({ cls := "LectureTurns", name := "doubtful", desc := "(I)I" } : Jvm.MethodName)) ∈ lw_all := lw_g (lw_at lw_m4 146 rfl) rfl
theorem q932 : (Jvm.Cond.selects "LectureTurns" ({ cls := "LectureTurns", name := "doubtful", desc := "(I)I" } : Jvm.MethodName) ({ cls := "LectureTurns", name := "doubtful", desc := "(I)I" } : Jvm.MethodName)) ∈ lw_all := lw_g (lw_at lw_m4 147 rfl) rfl
theorem q933 : (Jvm.Cond.code ({ cls := "LectureTurns", name := "doubtful", desc := "(I)I" } : Jvm.MethodName) prog_1_method_35_code (7 : Nat) (Option.some Jvm.ClassFile.FieldType.int)) ∈ lw_all := lw_g (lw_at lw_m4 148 rfl) rfl
theorem q934 : (Jvm.Cond.methodLink "LectureTurns" (265 : Nat) ({ cls := "java/lang/Math", name := "abs", desc := "(I)I" } : Jvm.MethodName)) ∈ lw_all := lw_g (lw_at lw_m4 149 rfl) rfl
theorem q936 : (Jvm.Cond.instanceMethod ({ cls := "LectureTurns", name := "count", desc := "(I)I" } : Jvm.MethodName)) ∈ lw_all := lw_g (lw_at lw_m4 151 rfl) rfl
theorem q937 : (Jvm.Cond.selects "LectureTurns" ({ cls := "LectureTurns", name := "count", desc := "(I)I" } : Jvm.MethodName) ({ cls := "LectureTurns", name := "count", desc := "(I)I" } : Jvm.MethodName)) ∈ lw_all := lw_g (lw_at lw_m4 152 rfl) rfl
theorem q938 : (Jvm.Cond.code ({ cls := "LectureTurns", name := "count", desc := "(I)I" } : Jvm.MethodName) prog_1_method_39_code (2 : Nat) (Option.some Jvm.ClassFile.FieldType.int)) ∈ lw_all := lw_g (lw_at lw_m4 153 rfl) rfl
theorem q939 : (Jvm.Cond.methodLink "LectureTurns" (274 : Nat) ({ cls := "LectureTurns", name := "there", desc := "(Z)I" } : Jvm.MethodName)) ∈ lw_all := lw_g (lw_at lw_m4 154 rfl) rfl
theorem q940 : (Jvm.Cond.privateMethod ({ cls := "LectureTurns", name := "there", desc := "(Z)I" } : Jvm.MethodName)) ∈ lw_tbl := lw_at lw_m4 155 rfl
theorem q941 : (Jvm.Cond.instanceMethod ({ cls := "LectureTurns", name := "there", desc := "(Z)I" } : Jvm.MethodName)) ∈ lw_all := lw_g (lw_at lw_m4 156 rfl) rfl
theorem q942 : (Jvm.Cond.code ({ cls := "LectureTurns", name := "there", desc := "(Z)I" } : Jvm.MethodName) prog_1_method_38_code (5 : Nat) (Option.some Jvm.ClassFile.FieldType.int)) ∈ lw_all := lw_g (lw_at lw_m4 157 rfl) rfl
theorem q943 : (Jvm.Cond.methodLink "LectureTurns" (271 : Nat) ({ cls := "java/lang/Integer", name := "bitCount", desc := "(I)I" } : Jvm.MethodName)) ∈ lw_all := lw_g (lw_at lw_m4 158 rfl) rfl
theorem q949 : (Jvm.Cond.methodLink "LectureTurns" (278 : Nat) ({ cls := "LectureTurns", name := "sum", desc := "(I)I" } : Jvm.MethodName)) ∈ lw_all := lw_g (lw_at lw_m4 164 rfl) rfl
theorem q950 : (Jvm.Cond.privateMethod ({ cls := "LectureTurns", name := "sum", desc := "(I)I" } : Jvm.MethodName)) ∈ lw_tbl := lw_at lw_m4 165 rfl
theorem q951 : (Jvm.Cond.instanceMethod ({ cls := "LectureTurns", name := "sum", desc := "(I)I" } : Jvm.MethodName)) ∈ lw_all := lw_g (lw_at lw_m4 166 rfl) rfl
theorem q952 : (Jvm.Cond.code ({ cls := "LectureTurns", name := "sum", desc := "(I)I" } : Jvm.MethodName) prog_1_method_37_code (5 : Nat) (Option.some Jvm.ClassFile.FieldType.int)) ∈ lw_all := lw_g (lw_at lw_m4 167 rfl) rfl
theorem q953 : (Jvm.Cond.methodLink "LectureTurns" (281 : Nat) ({ cls := "LectureTurns", name := "secondsWith", desc := "(I)I" } : Jvm.MethodName)) ∈ lw_all := lw_g (lw_at lw_m4 168 rfl) rfl
theorem q954 : (Jvm.Cond.privateMethod ({ cls := "LectureTurns", name := "secondsWith", desc := "(I)I" } : Jvm.MethodName)) ∈ lw_tbl := lw_at lw_m4 169 rfl
theorem q955 : (Jvm.Cond.instanceMethod ({ cls := "LectureTurns", name := "secondsWith", desc := "(I)I" } : Jvm.MethodName)) ∈ lw_all := lw_g (lw_at lw_m4 170 rfl) rfl
theorem q956 : (Jvm.Cond.code ({ cls := "LectureTurns", name := "secondsWith", desc := "(I)I" } : Jvm.MethodName) prog_1_method_36_code (4 : Nat) (Option.some Jvm.ClassFile.FieldType.int)) ∈ lw_all := lw_g (lw_at lw_m4 171 rfl) rfl
theorem q957 : (Jvm.Cond.methodLink "LectureTurns" (284 : Nat) ({ cls := "java/lang/StringBuilder", name := "length", desc := "()I" } : Jvm.MethodName)) ∈ lw_all := lw_g (lw_at lw_m4 172 rfl) rfl
theorem q965 : (Jvm.Cond.instanceMethod ({ cls := "LectureTurns", name := "undo", desc := "()I" } : Jvm.MethodName)) ∈ lw_all := lw_g (lw_at lw_m4 180 rfl) rfl
theorem q966 : (Jvm.Cond.selects "LectureTurns" ({ cls := "LectureTurns", name := "undo", desc := "()I" } : Jvm.MethodName) ({ cls := "LectureTurns", name := "undo", desc := "()I" } : Jvm.MethodName)) ∈ lw_all := lw_g (lw_at lw_m4 181 rfl) rfl
theorem q967 : (Jvm.Cond.code ({ cls := "LectureTurns", name := "undo", desc := "()I" } : Jvm.MethodName) prog_1_method_40_code (1 : Nat) (Option.some Jvm.ClassFile.FieldType.int)) ∈ lw_all := lw_g (lw_at lw_m4 182 rfl) rfl
theorem q968 : (Jvm.Cond.methodLink "LectureTurns" (290 : Nat) ({ cls := "java/util/ArrayDeque", name := "isEmpty", desc := "()Z" } : Jvm.MethodName)) ∈ lw_all := lw_g (lw_at lw_m4 183 rfl) rfl
theorem q972 : (Jvm.Cond.constant "LectureTurns" (294 : Nat) (-1000002 : Int32)) ∈ lw_all := lw_g (lw_at lw_m4 187 rfl) rfl
theorem q973 : (Jvm.Cond.methodLink "LectureTurns" (295 : Nat) ({ cls := "java/util/ArrayDeque", name := "removeLast", desc := "()Ljava/lang/Object;" } : Jvm.MethodName)) ∈ lw_all := lw_g (lw_at lw_m4 188 rfl) rfl
theorem q985 : (Jvm.Cond.instanceMethod ({ cls := "LectureTurns", name := "type", desc := "(I)I" } : Jvm.MethodName)) ∈ lw_all := lw_g (lw_at lw_m4 200 rfl) rfl
theorem q986 : (Jvm.Cond.selects "LectureTurns" ({ cls := "LectureTurns", name := "type", desc := "(I)I" } : Jvm.MethodName) ({ cls := "LectureTurns", name := "type", desc := "(I)I" } : Jvm.MethodName)) ∈ lw_all := lw_g (lw_at lw_m4 201 rfl) rfl
theorem q987 : (Jvm.Cond.code ({ cls := "LectureTurns", name := "type", desc := "(I)I" } : Jvm.MethodName) prog_1_method_41_code (2 : Nat) (Option.some Jvm.ClassFile.FieldType.int)) ∈ lw_all := lw_g (lw_at lw_m4 202 rfl) rfl
theorem q988 : (Jvm.Cond.constantLong "LectureTurns" (298 : Nat) (32 : Int64)) ∈ lw_all := lw_g (lw_at lw_m4 203 rfl) rfl
theorem q989 : (Jvm.Cond.constantLong "LectureTurns" (300 : Nat) (126 : Int64)) ∈ lw_all := lw_g (lw_at lw_m4 204 rfl) rfl
theorem q990 : (Jvm.Cond.constant "LectureTurns" (302 : Nat) (-1000003 : Int32)) ∈ lw_all := lw_g (lw_at lw_m4 205 rfl) rfl
theorem q991 : (Jvm.Cond.methodLink "LectureTurns" (303 : Nat) ({ cls := "java/lang/StringBuilder", name := "append", desc := "(C)Ljava/lang/StringBuilder;" } : Jvm.MethodName)) ∈ lw_all := lw_g (lw_at lw_m4 206 rfl) rfl
theorem q1070 : (Jvm.Cond.instanceMethod ({ cls := "LectureTurns", name := "clearText", desc := "()I" } : Jvm.MethodName)) ∈ lw_all := lw_g (lw_at lw_m5 45 rfl) rfl
theorem q1071 : (Jvm.Cond.selects "LectureTurns" ({ cls := "LectureTurns", name := "clearText", desc := "()I" } : Jvm.MethodName) ({ cls := "LectureTurns", name := "clearText", desc := "()I" } : Jvm.MethodName)) ∈ lw_all := lw_g (lw_at lw_m5 46 rfl) rfl
theorem q1072 : (Jvm.Cond.code ({ cls := "LectureTurns", name := "clearText", desc := "()I" } : Jvm.MethodName) prog_1_method_42_code (2 : Nat) (Option.some Jvm.ClassFile.FieldType.int)) ∈ lw_all := lw_g (lw_at lw_m5 47 rfl) rfl
theorem q1073 : (Jvm.Cond.methodLink "LectureTurns" (307 : Nat) ({ cls := "java/lang/StringBuilder", name := "setLength", desc := "(I)V" } : Jvm.MethodName)) ∈ lw_all := lw_g (lw_at lw_m5 48 rfl) rfl
theorem q1094 : (Jvm.Cond.instanceMethod ({ cls := "LectureTurns", name := "fault", desc := "(I)I" } : Jvm.MethodName)) ∈ lw_all := lw_g (lw_at lw_m5 69 rfl) rfl
theorem q1095 : (Jvm.Cond.selects "LectureTurns" ({ cls := "LectureTurns", name := "fault", desc := "(I)I" } : Jvm.MethodName) ({ cls := "LectureTurns", name := "fault", desc := "(I)I" } : Jvm.MethodName)) ∈ lw_all := lw_g (lw_at lw_m5 70 rfl) rfl
theorem q1096 : (Jvm.Cond.codeWith ({ cls := "LectureTurns", name := "fault", desc := "(I)I" } : Jvm.MethodName) prog_1_method_43_code (3 : Nat) (Option.some Jvm.ClassFile.FieldType.int) [((15 : Nat), (29 : Nat), (30 : Nat), (319 : Nat))]) ∈ lw_all := lw_g (lw_at lw_m5 71 rfl) rfl
theorem q1097 : (Jvm.Cond.classLink "LectureTurns" (319 : Nat) "LectureTurns$Fault") ∈ lw_all := lw_g (lw_at lw_m5 72 rfl) rfl
theorem q1098 : (Jvm.Cond.classLink "LectureTurns" (311 : Nat) "LectureTurns$Reader") ∈ lw_all := lw_g (lw_at lw_m5 73 rfl) rfl
theorem q1100 : (Jvm.Cond.methodLinkNest "LectureTurns" (313 : Nat) ({ cls := "LectureTurns$Reader", name := "<init>", desc := "(LLectureTurns;)V" } : Jvm.MethodName) "LectureTurns") ∈ lw_tbl := lw_at lw_m5 75 rfl
theorem q1107 : (Jvm.Cond.fieldLinkNest "LectureTurns" (324 : Nat) "LectureTurns$Reader" "trial" "LLectureTurns$Lecture;" "LectureTurns") ∈ lw_tbl := lw_at lw_m5 82 rfl
theorem q1123 : (Jvm.Cond.methodLink "LectureTurns" (316 : Nat) ({ cls := "LectureTurns$Reader", name := "all", desc := "()I" } : Jvm.MethodName)) ∈ lw_all := lw_g (lw_at lw_m5 98 rfl) rfl
theorem q1252 : (Jvm.Cond.methodLink "LectureTurns" (321 : Nat) ({ cls := "LectureTurns$Fault", name := "told", desc := "(I)I" } : Jvm.MethodName)) ∈ lw_all := lw_g (lw_at lw_m5 227 rfl) rfl
theorem q1264 : (Jvm.Cond.instanceMethod ({ cls := "LectureTurns", name := "play", desc := "()I" } : Jvm.MethodName)) ∈ lw_all := lw_g (lw_at lw_m5 239 rfl) rfl
theorem q1265 : (Jvm.Cond.selects "LectureTurns" ({ cls := "LectureTurns", name := "play", desc := "()I" } : Jvm.MethodName) ({ cls := "LectureTurns", name := "play", desc := "()I" } : Jvm.MethodName)) ∈ lw_all := lw_g (lw_at lw_m6 0 rfl) rfl
theorem q1266 : (Jvm.Cond.codeWith ({ cls := "LectureTurns", name := "play", desc := "()I" } : Jvm.MethodName) prog_1_method_44_code (3 : Nat) (Option.some Jvm.ClassFile.FieldType.int) [((9 : Nat), (21 : Nat), (22 : Nat), (319 : Nat))]) ∈ lw_all := lw_g (lw_at lw_m6 1 rfl) rfl
theorem q1629 : (Jvm.Cond.castable "LectureTurns" "java/lang/Object") ∈ lw_tbl := lw_at lw_m7 124 rfl
theorem in_X0 : ∀ w ∈ wsX00, w ∈ lw_all := lw_in wsX00 [224, 226, 228] (by decide +kernel) (by decide +kernel)
