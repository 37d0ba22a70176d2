/-! LectureTurns$Lecture -/
set_option maxRecDepth 100000
def RX1 : String := "LectureTurns$Lecture"
def TX1 : u_T := fun k => match k with
  | 0 => ("LectureTurns$Lecture", "turns", "LLectureTurns$Store;", true)
  | 1 => ("LectureTurns$Lecture", "pitches", "[I", true)
  | 2 => ("LectureTurns$Lecture", "corrections", "[I", true)
  | _ => ("LectureTurns$Lecture", "tolerance", "I", false)
def tyX1 : Nat → FieldType := fun k => match k with
  | 0 => .object "LectureTurns$Store"
  | 1 => .array .int
  | 2 => .array .int
  | _ => .int
abbrev wsX10 : List Cond := u_ws RX1 TX1 4
theorem nmX1 : ∀ a, a < 4 → ∀ b, b < 4 → a ≠ b → (TX1 a).2.1 ≠ (TX1 b).2.1 := by decide +kernel
theorem tyX1_ok : ∀ k, k < 4 → parseFieldDescriptor (TX1 k).2.2.1 = some (tyX1 k) := by decide +kernel
abbrev cX1_init : ByteArray := prog_5_method_1_code
def yX1_init : MethodName := ⟨RX1, "<init>", "()V"⟩
def dkwX1_init_2 : List UInt8 := [180, 0, 22, 27, 2, 79, 132, 1, 1, 167, 255, 240, 177]
abbrev dktX1_init_2 : List UInt8 := dkwX1_init_2 ++ []
def dkwX1_init_1 : List UInt8 := [16, 16, 188, 10, 181, 0, 22, 42, 16, 30, 181, 0, 25, 3, 60, 27, 16, 16, 162, 0, 16, 42]
abbrev dktX1_init_1 : List UInt8 := dkwX1_init_1 ++ dktX1_init_2
def dkwX1_init_0 : List UInt8 := [42, 183, 0, 3, 42, 187, 0, 9, 89, 183, 0, 11, 181, 0, 12, 42, 16, 6, 188, 10, 181, 0, 18, 42]
abbrev dktX1_init_0 : List UInt8 := dkwX1_init_0 ++ dktX1_init_1
theorem dksX1_init_0 : cX1_init.data.toList.drop 0 = dktX1_init_0 := by decide +kernel
theorem dksX1_init_1 : cX1_init.data.toList.drop 24 = dktX1_init_1 := dk_seg dksX1_init_0 24 rfl rfl
theorem dksX1_init_2 : cX1_init.data.toList.drop 46 = dktX1_init_2 := dk_seg dksX1_init_1 22 rfl rfl
theorem dX1_init_0 : decode cX1_init 0 = .ok (.aload_n 0, 1) := dk_42 (dk_at dksX1_init_0 0 rfl rfl)
theorem dX1_init_1 : decode cX1_init 1 = .ok (.invokespecial 3, 3) := dk_183 0 3 (dk_at dksX1_init_0 1 rfl rfl)
theorem dX1_init_4 : decode cX1_init 4 = .ok (.aload_n 0, 1) := dk_42 (dk_at dksX1_init_0 4 rfl rfl)
theorem dX1_init_5 : decode cX1_init 5 = .ok (.new 9, 3) := dk_187 0 9 (dk_at dksX1_init_0 5 rfl rfl)
theorem dX1_init_8 : decode cX1_init 8 = .ok (.dup, 1) := dk_89 (dk_at dksX1_init_0 8 rfl rfl)
theorem dX1_init_9 : decode cX1_init 9 = .ok (.invokespecial 11, 3) := dk_183 0 11 (dk_at dksX1_init_0 9 rfl rfl)
theorem dX1_init_12 : decode cX1_init 12 = .ok (.putfield 12, 3) := dk_181 0 12 (dk_at dksX1_init_0 12 rfl rfl)
theorem dX1_init_15 : decode cX1_init 15 = .ok (.aload_n 0, 1) := dk_42 (dk_at dksX1_init_0 15 rfl rfl)
theorem dX1_init_16 : decode cX1_init 16 = .ok (.bipush 6, 2) := dk_16 6 (dk_at dksX1_init_0 16 rfl rfl)
theorem dX1_init_18 : decode cX1_init 18 = .ok (.newarray .int, 2) := dk_188_10 (dk_at dksX1_init_0 18 rfl rfl)
theorem dX1_init_20 : decode cX1_init 20 = .ok (.putfield 18, 3) := dk_181 0 18 (dk_at dksX1_init_0 20 rfl rfl)
theorem dX1_init_23 : decode cX1_init 23 = .ok (.aload_n 0, 1) := dk_42 (dk_at dksX1_init_0 23 rfl rfl)
theorem dX1_init_24 : decode cX1_init 24 = .ok (.bipush 16, 2) := dk_16 16 (dk_at dksX1_init_1 0 rfl rfl)
theorem dX1_init_26 : decode cX1_init 26 = .ok (.newarray .int, 2) := dk_188_10 (dk_at dksX1_init_1 2 rfl rfl)
theorem dX1_init_28 : decode cX1_init 28 = .ok (.putfield 22, 3) := dk_181 0 22 (dk_at dksX1_init_1 4 rfl rfl)
theorem dX1_init_31 : decode cX1_init 31 = .ok (.aload_n 0, 1) := dk_42 (dk_at dksX1_init_1 7 rfl rfl)
theorem dX1_init_32 : decode cX1_init 32 = .ok (.bipush 30, 2) := dk_16 30 (dk_at dksX1_init_1 8 rfl rfl)
theorem dX1_init_34 : decode cX1_init 34 = .ok (.putfield 25, 3) := dk_181 0 25 (dk_at dksX1_init_1 10 rfl rfl)
theorem dX1_init_37 : decode cX1_init 37 = .ok (.iconst 0, 1) := dk_3 (dk_at dksX1_init_1 13 rfl rfl)
theorem dX1_init_38 : decode cX1_init 38 = .ok (.istore_n 1, 1) := dk_60 (dk_at dksX1_init_1 14 rfl rfl)
theorem dX1_init_39 : decode cX1_init 39 = .ok (.iload_n 1, 1) := dk_27 (dk_at dksX1_init_1 15 rfl rfl)
theorem dX1_init_40 : decode cX1_init 40 = .ok (.bipush 16, 2) := dk_16 16 (dk_at dksX1_init_1 16 rfl rfl)
theorem dX1_init_42 : decode cX1_init 42 = .ok (.if_icmp .ge 16, 3) := dk_162 0 16 (dk_at dksX1_init_1 18 rfl rfl)
theorem dX1_init_45 : decode cX1_init 45 = .ok (.aload_n 0, 1) := dk_42 (dk_at dksX1_init_1 21 rfl rfl)
theorem dX1_init_46 : decode cX1_init 46 = .ok (.getfield 22, 3) := dk_180 0 22 (dk_at dksX1_init_2 0 rfl rfl)
theorem dX1_init_49 : decode cX1_init 49 = .ok (.iload_n 1, 1) := dk_27 (dk_at dksX1_init_2 3 rfl rfl)
theorem dX1_init_50 : decode cX1_init 50 = .ok (.iconst (-1), 1) := dk_2 (dk_at dksX1_init_2 4 rfl rfl)
theorem dX1_init_51 : decode cX1_init 51 = .ok (.iastore, 1) := dk_79 (dk_at dksX1_init_2 5 rfl rfl)
theorem dX1_init_52 : decode cX1_init 52 = .ok (.iinc 1 1, 3) := dk_132 1 1 (dk_at dksX1_init_2 6 rfl rfl)
theorem dX1_init_55 : decode cX1_init 55 = .ok (.goto (-16), 3) := dk_167 255 240 (dk_at dksX1_init_2 9 rfl rfl)
theorem dX1_init_58 : decode cX1_init 58 = .ok (.return_, 1) := dk_177 (dk_at dksX1_init_2 12 rfl rfl)
abbrev cX1_init_2 : ByteArray := prog_5_method_2_code
def yX1_init_2 : MethodName := ⟨RX1, "<init>", "(LLectureTurns$Lecture;)V"⟩
def dkwX1_init_2_6 : List UInt8 := [180, 0, 25, 181, 0, 25, 177]
abbrev dktX1_init_2_6 : List UInt8 := dkwX1_init_2_6 ++ []
def dkwX1_init_2_5 : List UInt8 := [162, 0, 21, 42, 180, 0, 22, 28, 43, 180, 0, 22, 28, 46, 79, 132, 2, 1, 167, 255, 235, 42, 43]
abbrev dktX1_init_2_5 : List UInt8 := dkwX1_init_2_5 ++ dktX1_init_2_6
def dkwX1_init_2_4 : List UInt8 := [180, 0, 18, 28, 43, 180, 0, 18, 28, 46, 79, 132, 2, 1, 167, 255, 235, 3, 61, 28, 16, 16]
abbrev dktX1_init_2_4 : List UInt8 := dkwX1_init_2_4 ++ dktX1_init_2_5
def dkwX1_init_2_3 : List UInt8 := [183, 0, 39, 182, 0, 42, 62, 132, 2, 1, 167, 255, 216, 3, 61, 28, 16, 6, 162, 0, 21, 42]
abbrev dktX1_init_2_3 : List UInt8 := dkwX1_init_2_3 ++ dktX1_init_2_4
def dkwX1_init_2_2 : List UInt8 := [162, 0, 35, 42, 180, 0, 12, 187, 0, 33, 89, 43, 180, 0, 12, 28, 182, 0, 35, 192, 0, 33]
abbrev dktX1_init_2_2 : List UInt8 := dkwX1_init_2_2 ++ dktX1_init_2_3
def dkwX1_init_2_1 : List UInt8 := [16, 16, 188, 10, 181, 0, 22, 42, 16, 30, 181, 0, 25, 3, 61, 28, 43, 180, 0, 12, 182, 0, 29]
abbrev dktX1_init_2_1 : List UInt8 := dkwX1_init_2_1 ++ dktX1_init_2_2
def dkwX1_init_2_0 : List UInt8 := [42, 183, 0, 3, 42, 187, 0, 9, 89, 183, 0, 11, 181, 0, 12, 42, 16, 6, 188, 10, 181, 0, 18, 42]
abbrev dktX1_init_2_0 : List UInt8 := dkwX1_init_2_0 ++ dktX1_init_2_1
theorem dksX1_init_2_0 : cX1_init_2.data.toList.drop 0 = dktX1_init_2_0 := by decide +kernel
theorem dksX1_init_2_1 : cX1_init_2.data.toList.drop 24 = dktX1_init_2_1 := dk_seg dksX1_init_2_0 24 rfl rfl
theorem dksX1_init_2_2 : cX1_init_2.data.toList.drop 47 = dktX1_init_2_2 := dk_seg dksX1_init_2_1 23 rfl rfl
theorem dksX1_init_2_3 : cX1_init_2.data.toList.drop 69 = dktX1_init_2_3 := dk_seg dksX1_init_2_2 22 rfl rfl
theorem dksX1_init_2_4 : cX1_init_2.data.toList.drop 91 = dktX1_init_2_4 := dk_seg dksX1_init_2_3 22 rfl rfl
theorem dksX1_init_2_5 : cX1_init_2.data.toList.drop 113 = dktX1_init_2_5 := dk_seg dksX1_init_2_4 22 rfl rfl
theorem dksX1_init_2_6 : cX1_init_2.data.toList.drop 136 = dktX1_init_2_6 := dk_seg dksX1_init_2_5 23 rfl rfl
theorem dX1_init_2_0 : decode cX1_init_2 0 = .ok (.aload_n 0, 1) := dk_42 (dk_at dksX1_init_2_0 0 rfl rfl)
theorem dX1_init_2_1 : decode cX1_init_2 1 = .ok (.invokespecial 3, 3) := dk_183 0 3 (dk_at dksX1_init_2_0 1 rfl rfl)
theorem dX1_init_2_4 : decode cX1_init_2 4 = .ok (.aload_n 0, 1) := dk_42 (dk_at dksX1_init_2_0 4 rfl rfl)
theorem dX1_init_2_5 : decode cX1_init_2 5 = .ok (.new 9, 3) := dk_187 0 9 (dk_at dksX1_init_2_0 5 rfl rfl)
theorem dX1_init_2_8 : decode cX1_init_2 8 = .ok (.dup, 1) := dk_89 (dk_at dksX1_init_2_0 8 rfl rfl)
theorem dX1_init_2_9 : decode cX1_init_2 9 = .ok (.invokespecial 11, 3) := dk_183 0 11 (dk_at dksX1_init_2_0 9 rfl rfl)
theorem dX1_init_2_12 : decode cX1_init_2 12 = .ok (.putfield 12, 3) := dk_181 0 12 (dk_at dksX1_init_2_0 12 rfl rfl)
theorem dX1_init_2_15 : decode cX1_init_2 15 = .ok (.aload_n 0, 1) := dk_42 (dk_at dksX1_init_2_0 15 rfl rfl)
theorem dX1_init_2_16 : decode cX1_init_2 16 = .ok (.bipush 6, 2) := dk_16 6 (dk_at dksX1_init_2_0 16 rfl rfl)
theorem dX1_init_2_18 : decode cX1_init_2 18 = .ok (.newarray .int, 2) := dk_188_10 (dk_at dksX1_init_2_0 18 rfl rfl)
theorem dX1_init_2_20 : decode cX1_init_2 20 = .ok (.putfield 18, 3) := dk_181 0 18 (dk_at dksX1_init_2_0 20 rfl rfl)
theorem dX1_init_2_23 : decode cX1_init_2 23 = .ok (.aload_n 0, 1) := dk_42 (dk_at dksX1_init_2_0 23 rfl rfl)
theorem dX1_init_2_24 : decode cX1_init_2 24 = .ok (.bipush 16, 2) := dk_16 16 (dk_at dksX1_init_2_1 0 rfl rfl)
theorem dX1_init_2_26 : decode cX1_init_2 26 = .ok (.newarray .int, 2) := dk_188_10 (dk_at dksX1_init_2_1 2 rfl rfl)
theorem dX1_init_2_28 : decode cX1_init_2 28 = .ok (.putfield 22, 3) := dk_181 0 22 (dk_at dksX1_init_2_1 4 rfl rfl)
theorem dX1_init_2_31 : decode cX1_init_2 31 = .ok (.aload_n 0, 1) := dk_42 (dk_at dksX1_init_2_1 7 rfl rfl)
theorem dX1_init_2_32 : decode cX1_init_2 32 = .ok (.bipush 30, 2) := dk_16 30 (dk_at dksX1_init_2_1 8 rfl rfl)
theorem dX1_init_2_34 : decode cX1_init_2 34 = .ok (.putfield 25, 3) := dk_181 0 25 (dk_at dksX1_init_2_1 10 rfl rfl)
theorem dX1_init_2_37 : decode cX1_init_2 37 = .ok (.iconst 0, 1) := dk_3 (dk_at dksX1_init_2_1 13 rfl rfl)
theorem dX1_init_2_38 : decode cX1_init_2 38 = .ok (.istore_n 2, 1) := dk_61 (dk_at dksX1_init_2_1 14 rfl rfl)
theorem dX1_init_2_39 : decode cX1_init_2 39 = .ok (.iload_n 2, 1) := dk_28 (dk_at dksX1_init_2_1 15 rfl rfl)
theorem dX1_init_2_40 : decode cX1_init_2 40 = .ok (.aload_n 1, 1) := dk_43 (dk_at dksX1_init_2_1 16 rfl rfl)
theorem dX1_init_2_41 : decode cX1_init_2 41 = .ok (.getfield 12, 3) := dk_180 0 12 (dk_at dksX1_init_2_1 17 rfl rfl)
theorem dX1_init_2_44 : decode cX1_init_2 44 = .ok (.invokevirtual 29, 3) := dk_182 0 29 (dk_at dksX1_init_2_1 20 rfl rfl)
theorem dX1_init_2_47 : decode cX1_init_2 47 = .ok (.if_icmp .ge 35, 3) := dk_162 0 35 (dk_at dksX1_init_2_2 0 rfl rfl)
theorem dX1_init_2_50 : decode cX1_init_2 50 = .ok (.aload_n 0, 1) := dk_42 (dk_at dksX1_init_2_2 3 rfl rfl)
theorem dX1_init_2_51 : decode cX1_init_2 51 = .ok (.getfield 12, 3) := dk_180 0 12 (dk_at dksX1_init_2_2 4 rfl rfl)
theorem dX1_init_2_54 : decode cX1_init_2 54 = .ok (.new 33, 3) := dk_187 0 33 (dk_at dksX1_init_2_2 7 rfl rfl)
theorem dX1_init_2_57 : decode cX1_init_2 57 = .ok (.dup, 1) := dk_89 (dk_at dksX1_init_2_2 10 rfl rfl)
theorem dX1_init_2_58 : decode cX1_init_2 58 = .ok (.aload_n 1, 1) := dk_43 (dk_at dksX1_init_2_2 11 rfl rfl)
theorem dX1_init_2_59 : decode cX1_init_2 59 = .ok (.getfield 12, 3) := dk_180 0 12 (dk_at dksX1_init_2_2 12 rfl rfl)
theorem dX1_init_2_62 : decode cX1_init_2 62 = .ok (.iload_n 2, 1) := dk_28 (dk_at dksX1_init_2_2 15 rfl rfl)
theorem dX1_init_2_63 : decode cX1_init_2 63 = .ok (.invokevirtual 35, 3) := dk_182 0 35 (dk_at dksX1_init_2_2 16 rfl rfl)
theorem dX1_init_2_66 : decode cX1_init_2 66 = .ok (.checkcast 33, 3) := dk_192 0 33 (dk_at dksX1_init_2_2 19 rfl rfl)
theorem dX1_init_2_69 : decode cX1_init_2 69 = .ok (.invokespecial 39, 3) := dk_183 0 39 (dk_at dksX1_init_2_3 0 rfl rfl)
theorem dX1_init_2_72 : decode cX1_init_2 72 = .ok (.invokevirtual 42, 3) := dk_182 0 42 (dk_at dksX1_init_2_3 3 rfl rfl)
theorem dX1_init_2_75 : decode cX1_init_2 75 = .ok (.istore_n 3, 1) := dk_62 (dk_at dksX1_init_2_3 6 rfl rfl)
theorem dX1_init_2_76 : decode cX1_init_2 76 = .ok (.iinc 2 1, 3) := dk_132 2 1 (dk_at dksX1_init_2_3 7 rfl rfl)
theorem dX1_init_2_79 : decode cX1_init_2 79 = .ok (.goto (-40), 3) := dk_167 255 216 (dk_at dksX1_init_2_3 10 rfl rfl)
theorem dX1_init_2_82 : decode cX1_init_2 82 = .ok (.iconst 0, 1) := dk_3 (dk_at dksX1_init_2_3 13 rfl rfl)
theorem dX1_init_2_83 : decode cX1_init_2 83 = .ok (.istore_n 2, 1) := dk_61 (dk_at dksX1_init_2_3 14 rfl rfl)
theorem dX1_init_2_84 : decode cX1_init_2 84 = .ok (.iload_n 2, 1) := dk_28 (dk_at dksX1_init_2_3 15 rfl rfl)
theorem dX1_init_2_85 : decode cX1_init_2 85 = .ok (.bipush 6, 2) := dk_16 6 (dk_at dksX1_init_2_3 16 rfl rfl)
theorem dX1_init_2_87 : decode cX1_init_2 87 = .ok (.if_icmp .ge 21, 3) := dk_162 0 21 (dk_at dksX1_init_2_3 18 rfl rfl)
theorem dX1_init_2_90 : decode cX1_init_2 90 = .ok (.aload_n 0, 1) := dk_42 (dk_at dksX1_init_2_3 21 rfl rfl)
theorem dX1_init_2_91 : decode cX1_init_2 91 = .ok (.getfield 18, 3) := dk_180 0 18 (dk_at dksX1_init_2_4 0 rfl rfl)
theorem dX1_init_2_94 : decode cX1_init_2 94 = .ok (.iload_n 2, 1) := dk_28 (dk_at dksX1_init_2_4 3 rfl rfl)
theorem dX1_init_2_95 : decode cX1_init_2 95 = .ok (.aload_n 1, 1) := dk_43 (dk_at dksX1_init_2_4 4 rfl rfl)
theorem dX1_init_2_96 : decode cX1_init_2 96 = .ok (.getfield 18, 3) := dk_180 0 18 (dk_at dksX1_init_2_4 5 rfl rfl)
theorem dX1_init_2_99 : decode cX1_init_2 99 = .ok (.iload_n 2, 1) := dk_28 (dk_at dksX1_init_2_4 8 rfl rfl)
theorem dX1_init_2_100 : decode cX1_init_2 100 = .ok (.iaload, 1) := dk_46 (dk_at dksX1_init_2_4 9 rfl rfl)
theorem dX1_init_2_101 : decode cX1_init_2 101 = .ok (.iastore, 1) := dk_79 (dk_at dksX1_init_2_4 10 rfl rfl)
theorem dX1_init_2_102 : decode cX1_init_2 102 = .ok (.iinc 2 1, 3) := dk_132 2 1 (dk_at dksX1_init_2_4 11 rfl rfl)
theorem dX1_init_2_105 : decode cX1_init_2 105 = .ok (.goto (-21), 3) := dk_167 255 235 (dk_at dksX1_init_2_4 14 rfl rfl)
theorem dX1_init_2_108 : decode cX1_init_2 108 = .ok (.iconst 0, 1) := dk_3 (dk_at dksX1_init_2_4 17 rfl rfl)
theorem dX1_init_2_109 : decode cX1_init_2 109 = .ok (.istore_n 2, 1) := dk_61 (dk_at dksX1_init_2_4 18 rfl rfl)
theorem dX1_init_2_110 : decode cX1_init_2 110 = .ok (.iload_n 2, 1) := dk_28 (dk_at dksX1_init_2_4 19 rfl rfl)
theorem dX1_init_2_111 : decode cX1_init_2 111 = .ok (.bipush 16, 2) := dk_16 16 (dk_at dksX1_init_2_4 20 rfl rfl)
theorem dX1_init_2_113 : decode cX1_init_2 113 = .ok (.if_icmp .ge 21, 3) := dk_162 0 21 (dk_at dksX1_init_2_5 0 rfl rfl)
theorem dX1_init_2_116 : decode cX1_init_2 116 = .ok (.aload_n 0, 1) := dk_42 (dk_at dksX1_init_2_5 3 rfl rfl)
theorem dX1_init_2_117 : decode cX1_init_2 117 = .ok (.getfield 22, 3) := dk_180 0 22 (dk_at dksX1_init_2_5 4 rfl rfl)
theorem dX1_init_2_120 : decode cX1_init_2 120 = .ok (.iload_n 2, 1) := dk_28 (dk_at dksX1_init_2_5 7 rfl rfl)
theorem dX1_init_2_121 : decode cX1_init_2 121 = .ok (.aload_n 1, 1) := dk_43 (dk_at dksX1_init_2_5 8 rfl rfl)
theorem dX1_init_2_122 : decode cX1_init_2 122 = .ok (.getfield 22, 3) := dk_180 0 22 (dk_at dksX1_init_2_5 9 rfl rfl)
theorem dX1_init_2_125 : decode cX1_init_2 125 = .ok (.iload_n 2, 1) := dk_28 (dk_at dksX1_init_2_5 12 rfl rfl)
theorem dX1_init_2_126 : decode cX1_init_2 126 = .ok (.iaload, 1) := dk_46 (dk_at dksX1_init_2_5 13 rfl rfl)
theorem dX1_init_2_127 : decode cX1_init_2 127 = .ok (.iastore, 1) := dk_79 (dk_at dksX1_init_2_5 14 rfl rfl)
theorem dX1_init_2_128 : decode cX1_init_2 128 = .ok (.iinc 2 1, 3) := dk_132 2 1 (dk_at dksX1_init_2_5 15 rfl rfl)
theorem dX1_init_2_131 : decode cX1_init_2 131 = .ok (.goto (-21), 3) := dk_167 255 235 (dk_at dksX1_init_2_5 18 rfl rfl)
theorem dX1_init_2_134 : decode cX1_init_2 134 = .ok (.aload_n 0, 1) := dk_42 (dk_at dksX1_init_2_5 21 rfl rfl)
theorem dX1_init_2_135 : decode cX1_init_2 135 = .ok (.aload_n 1, 1) := dk_43 (dk_at dksX1_init_2_5 22 rfl rfl)
theorem dX1_init_2_136 : decode cX1_init_2 136 = .ok (.getfield 25, 3) := dk_180 0 25 (dk_at dksX1_init_2_6 0 rfl rfl)
theorem dX1_init_2_139 : decode cX1_init_2 139 = .ok (.putfield 25, 3) := dk_181 0 25 (dk_at dksX1_init_2_6 3 rfl rfl)
theorem dX1_init_2_142 : decode cX1_init_2 142 = .ok (.return_, 1) := dk_177 (dk_at dksX1_init_2_6 6 rfl rfl)
abbrev cX1_comes : ByteArray := prog_5_method_7_code
def yX1_comes : MethodName := ⟨RX1, "comes", "(III)I"⟩
def dkwX1_comes_4 : List UInt8 := [182, 0, 42, 172]
abbrev dktX1_comes_4 : List UInt8 := dkwX1_comes_4 ++ []
def dkwX1_comes_3 : List UInt8 := [29, 183, 0, 75, 58, 4, 25, 4, 42, 29, 182, 0, 78, 181, 0, 81, 42, 180, 0, 12, 25, 4]
abbrev dktX1_comes_3 : List UInt8 := dkwX1_comes_3 ++ dktX1_comes_4
def dkwX1_comes_2 : List UInt8 := [182, 0, 29, 16, 20, 162, 0, 7, 4, 167, 0, 4, 3, 18, 74, 184, 0, 57, 187, 0, 33, 89, 27, 28]
abbrev dktX1_comes_2 : List UInt8 := dkwX1_comes_2 ++ dktX1_comes_3
def dkwX1_comes_1 : List UInt8 := [153, 0, 14, 29, 184, 0, 71, 153, 0, 7, 4, 167, 0, 4, 3, 18, 56, 184, 0, 57, 42, 180, 0, 12]
abbrev dktX1_comes_1 : List UInt8 := dkwX1_comes_1 ++ dktX1_comes_2
def dkwX1_comes_0 : List UInt8 := [27, 133, 9, 20, 0, 67, 184, 0, 46, 153, 0, 29, 28, 133, 27, 133, 10, 97, 20, 0, 69, 184, 0, 46]
abbrev dktX1_comes_0 : List UInt8 := dkwX1_comes_0 ++ dktX1_comes_1
theorem dksX1_comes_0 : cX1_comes.data.toList.drop 0 = dktX1_comes_0 := by decide +kernel
theorem dksX1_comes_1 : cX1_comes.data.toList.drop 24 = dktX1_comes_1 := dk_seg dksX1_comes_0 24 rfl rfl
theorem dksX1_comes_2 : cX1_comes.data.toList.drop 48 = dktX1_comes_2 := dk_seg dksX1_comes_1 24 rfl rfl
theorem dksX1_comes_3 : cX1_comes.data.toList.drop 72 = dktX1_comes_3 := dk_seg dksX1_comes_2 24 rfl rfl
theorem dksX1_comes_4 : cX1_comes.data.toList.drop 94 = dktX1_comes_4 := dk_seg dksX1_comes_3 22 rfl rfl
theorem dX1_comes_0 : decode cX1_comes 0 = .ok (.iload_n 1, 1) := dk_27 (dk_at dksX1_comes_0 0 rfl rfl)
theorem dX1_comes_1 : decode cX1_comes 1 = .ok (.i2l, 1) := dk_133 (dk_at dksX1_comes_0 1 rfl rfl)
theorem dX1_comes_2 : decode cX1_comes 2 = .ok (.lconst 0, 1) := dk_9 (dk_at dksX1_comes_0 2 rfl rfl)
theorem dX1_comes_3 : decode cX1_comes 3 = .ok (.ldc2_w 67, 3) := dk_20 0 67 (dk_at dksX1_comes_0 3 rfl rfl)
theorem dX1_comes_6 : decode cX1_comes 6 = .ok (.invokestatic 46, 3) := dk_184 0 46 (dk_at dksX1_comes_0 6 rfl rfl)
theorem dX1_comes_9 : decode cX1_comes 9 = .ok (.ifCond .eq 29, 3) := dk_153 0 29 (dk_at dksX1_comes_0 9 rfl rfl)
theorem dX1_comes_12 : decode cX1_comes 12 = .ok (.iload_n 2, 1) := dk_28 (dk_at dksX1_comes_0 12 rfl rfl)
theorem dX1_comes_13 : decode cX1_comes 13 = .ok (.i2l, 1) := dk_133 (dk_at dksX1_comes_0 13 rfl rfl)
theorem dX1_comes_14 : decode cX1_comes 14 = .ok (.iload_n 1, 1) := dk_27 (dk_at dksX1_comes_0 14 rfl rfl)
theorem dX1_comes_15 : decode cX1_comes 15 = .ok (.i2l, 1) := dk_133 (dk_at dksX1_comes_0 15 rfl rfl)
theorem dX1_comes_16 : decode cX1_comes 16 = .ok (.lconst 1, 1) := dk_10 (dk_at dksX1_comes_0 16 rfl rfl)
theorem dX1_comes_17 : decode cX1_comes 17 = .ok (.ladd, 1) := dk_97 (dk_at dksX1_comes_0 17 rfl rfl)
theorem dX1_comes_18 : decode cX1_comes 18 = .ok (.ldc2_w 69, 3) := dk_20 0 69 (dk_at dksX1_comes_0 18 rfl rfl)
theorem dX1_comes_21 : decode cX1_comes 21 = .ok (.invokestatic 46, 3) := dk_184 0 46 (dk_at dksX1_comes_0 21 rfl rfl)
theorem dX1_comes_24 : decode cX1_comes 24 = .ok (.ifCond .eq 14, 3) := dk_153 0 14 (dk_at dksX1_comes_1 0 rfl rfl)
theorem dX1_comes_27 : decode cX1_comes 27 = .ok (.iload_n 3, 1) := dk_29 (dk_at dksX1_comes_1 3 rfl rfl)
theorem dX1_comes_28 : decode cX1_comes 28 = .ok (.invokestatic 71, 3) := dk_184 0 71 (dk_at dksX1_comes_1 4 rfl rfl)
theorem dX1_comes_31 : decode cX1_comes 31 = .ok (.ifCond .eq 7, 3) := dk_153 0 7 (dk_at dksX1_comes_1 7 rfl rfl)
theorem dX1_comes_34 : decode cX1_comes 34 = .ok (.iconst 1, 1) := dk_4 (dk_at dksX1_comes_1 10 rfl rfl)
theorem dX1_comes_35 : decode cX1_comes 35 = .ok (.goto 4, 3) := dk_167 0 4 (dk_at dksX1_comes_1 11 rfl rfl)
theorem dX1_comes_38 : decode cX1_comes 38 = .ok (.iconst 0, 1) := dk_3 (dk_at dksX1_comes_1 14 rfl rfl)
theorem dX1_comes_39 : decode cX1_comes 39 = .ok (.ldc 56, 2) := dk_18 56 (dk_at dksX1_comes_1 15 rfl rfl)
theorem dX1_comes_41 : decode cX1_comes 41 = .ok (.invokestatic 57, 3) := dk_184 0 57 (dk_at dksX1_comes_1 17 rfl rfl)
theorem dX1_comes_44 : decode cX1_comes 44 = .ok (.aload_n 0, 1) := dk_42 (dk_at dksX1_comes_1 20 rfl rfl)
theorem dX1_comes_45 : decode cX1_comes 45 = .ok (.getfield 12, 3) := dk_180 0 12 (dk_at dksX1_comes_1 21 rfl rfl)
theorem dX1_comes_48 : decode cX1_comes 48 = .ok (.invokevirtual 29, 3) := dk_182 0 29 (dk_at dksX1_comes_2 0 rfl rfl)
theorem dX1_comes_51 : decode cX1_comes 51 = .ok (.bipush 20, 2) := dk_16 20 (dk_at dksX1_comes_2 3 rfl rfl)
theorem dX1_comes_53 : decode cX1_comes 53 = .ok (.if_icmp .ge 7, 3) := dk_162 0 7 (dk_at dksX1_comes_2 5 rfl rfl)
theorem dX1_comes_56 : decode cX1_comes 56 = .ok (.iconst 1, 1) := dk_4 (dk_at dksX1_comes_2 8 rfl rfl)
theorem dX1_comes_57 : decode cX1_comes 57 = .ok (.goto 4, 3) := dk_167 0 4 (dk_at dksX1_comes_2 9 rfl rfl)
theorem dX1_comes_60 : decode cX1_comes 60 = .ok (.iconst 0, 1) := dk_3 (dk_at dksX1_comes_2 12 rfl rfl)
theorem dX1_comes_61 : decode cX1_comes 61 = .ok (.ldc 74, 2) := dk_18 74 (dk_at dksX1_comes_2 13 rfl rfl)
theorem dX1_comes_63 : decode cX1_comes 63 = .ok (.invokestatic 57, 3) := dk_184 0 57 (dk_at dksX1_comes_2 15 rfl rfl)
theorem dX1_comes_66 : decode cX1_comes 66 = .ok (.new 33, 3) := dk_187 0 33 (dk_at dksX1_comes_2 18 rfl rfl)
theorem dX1_comes_69 : decode cX1_comes 69 = .ok (.dup, 1) := dk_89 (dk_at dksX1_comes_2 21 rfl rfl)
theorem dX1_comes_70 : decode cX1_comes 70 = .ok (.iload_n 1, 1) := dk_27 (dk_at dksX1_comes_2 22 rfl rfl)
theorem dX1_comes_71 : decode cX1_comes 71 = .ok (.iload_n 2, 1) := dk_28 (dk_at dksX1_comes_2 23 rfl rfl)
theorem dX1_comes_72 : decode cX1_comes 72 = .ok (.iload_n 3, 1) := dk_29 (dk_at dksX1_comes_3 0 rfl rfl)
theorem dX1_comes_73 : decode cX1_comes 73 = .ok (.invokespecial 75, 3) := dk_183 0 75 (dk_at dksX1_comes_3 1 rfl rfl)
theorem dX1_comes_76 : decode cX1_comes 76 = .ok (.astore 4, 2) := dk_58 4 (dk_at dksX1_comes_3 4 rfl rfl)
theorem dX1_comes_78 : decode cX1_comes 78 = .ok (.aload 4, 2) := dk_25 4 (dk_at dksX1_comes_3 6 rfl rfl)
theorem dX1_comes_80 : decode cX1_comes 80 = .ok (.aload_n 0, 1) := dk_42 (dk_at dksX1_comes_3 8 rfl rfl)
theorem dX1_comes_81 : decode cX1_comes 81 = .ok (.iload_n 3, 1) := dk_29 (dk_at dksX1_comes_3 9 rfl rfl)
theorem dX1_comes_82 : decode cX1_comes 82 = .ok (.invokevirtual 78, 3) := dk_182 0 78 (dk_at dksX1_comes_3 10 rfl rfl)
theorem dX1_comes_85 : decode cX1_comes 85 = .ok (.putfield 81, 3) := dk_181 0 81 (dk_at dksX1_comes_3 13 rfl rfl)
theorem dX1_comes_88 : decode cX1_comes 88 = .ok (.aload_n 0, 1) := dk_42 (dk_at dksX1_comes_3 16 rfl rfl)
theorem dX1_comes_89 : decode cX1_comes 89 = .ok (.getfield 12, 3) := dk_180 0 12 (dk_at dksX1_comes_3 17 rfl rfl)
theorem dX1_comes_92 : decode cX1_comes 92 = .ok (.aload 4, 2) := dk_25 4 (dk_at dksX1_comes_3 20 rfl rfl)
theorem dX1_comes_94 : decode cX1_comes 94 = .ok (.invokevirtual 42, 3) := dk_182 0 42 (dk_at dksX1_comes_4 0 rfl rfl)
theorem dX1_comes_97 : decode cX1_comes 97 = .ok (.ireturn, 1) := dk_172 (dk_at dksX1_comes_4 3 rfl rfl)
abbrev cX1_nearestTo : ByteArray := prog_5_method_6_code
def yX1_nearestTo : MethodName := ⟨RX1, "nearestTo", "(I)I"⟩
def dkwX1_nearestTo_3 : List UInt8 := [162, 0, 7, 29, 167, 0, 4, 28, 61, 132, 3, 1, 167, 255, 177, 28, 172]
abbrev dktX1_nearestTo_3 : List UInt8 := dkwX1_nearestTo_3 ++ []
def dkwX1_nearestTo_2 : List UInt8 := [21, 5, 153, 0, 28, 28, 2, 159, 0, 19, 21, 4, 42, 180, 0, 18, 28, 46, 27, 100, 184, 0, 61]
abbrev dktX1_nearestTo_2 : List UInt8 := dkwX1_nearestTo_2 ++ dktX1_nearestTo_3
def dkwX1_nearestTo_1 : List UInt8 := [180, 0, 18, 29, 46, 158, 0, 16, 21, 4, 42, 180, 0, 25, 163, 0, 7, 4, 167, 0, 4, 3, 54, 5]
abbrev dktX1_nearestTo_1 : List UInt8 := dkwX1_nearestTo_1 ++ dktX1_nearestTo_2
def dkwX1_nearestTo_0 : List UInt8 := [2, 61, 3, 62, 29, 16, 6, 162, 0, 79, 42, 180, 0, 18, 29, 46, 27, 100, 184, 0, 61, 54, 4, 42]
abbrev dktX1_nearestTo_0 : List UInt8 := dkwX1_nearestTo_0 ++ dktX1_nearestTo_1
theorem dksX1_nearestTo_0 : cX1_nearestTo.data.toList.drop 0 = dktX1_nearestTo_0 := by decide +kernel
theorem dksX1_nearestTo_1 : cX1_nearestTo.data.toList.drop 24 = dktX1_nearestTo_1 := dk_seg dksX1_nearestTo_0 24 rfl rfl
theorem dksX1_nearestTo_2 : cX1_nearestTo.data.toList.drop 48 = dktX1_nearestTo_2 := dk_seg dksX1_nearestTo_1 24 rfl rfl
theorem dksX1_nearestTo_3 : cX1_nearestTo.data.toList.drop 71 = dktX1_nearestTo_3 := dk_seg dksX1_nearestTo_2 23 rfl rfl
theorem dX1_nearestTo_0 : decode cX1_nearestTo 0 = .ok (.iconst (-1), 1) := dk_2 (dk_at dksX1_nearestTo_0 0 rfl rfl)
theorem dX1_nearestTo_1 : decode cX1_nearestTo 1 = .ok (.istore_n 2, 1) := dk_61 (dk_at dksX1_nearestTo_0 1 rfl rfl)
theorem dX1_nearestTo_2 : decode cX1_nearestTo 2 = .ok (.iconst 0, 1) := dk_3 (dk_at dksX1_nearestTo_0 2 rfl rfl)
theorem dX1_nearestTo_3 : decode cX1_nearestTo 3 = .ok (.istore_n 3, 1) := dk_62 (dk_at dksX1_nearestTo_0 3 rfl rfl)
theorem dX1_nearestTo_4 : decode cX1_nearestTo 4 = .ok (.iload_n 3, 1) := dk_29 (dk_at dksX1_nearestTo_0 4 rfl rfl)
theorem dX1_nearestTo_5 : decode cX1_nearestTo 5 = .ok (.bipush 6, 2) := dk_16 6 (dk_at dksX1_nearestTo_0 5 rfl rfl)
theorem dX1_nearestTo_7 : decode cX1_nearestTo 7 = .ok (.if_icmp .ge 79, 3) := dk_162 0 79 (dk_at dksX1_nearestTo_0 7 rfl rfl)
theorem dX1_nearestTo_10 : decode cX1_nearestTo 10 = .ok (.aload_n 0, 1) := dk_42 (dk_at dksX1_nearestTo_0 10 rfl rfl)
theorem dX1_nearestTo_11 : decode cX1_nearestTo 11 = .ok (.getfield 18, 3) := dk_180 0 18 (dk_at dksX1_nearestTo_0 11 rfl rfl)
theorem dX1_nearestTo_14 : decode cX1_nearestTo 14 = .ok (.iload_n 3, 1) := dk_29 (dk_at dksX1_nearestTo_0 14 rfl rfl)
theorem dX1_nearestTo_15 : decode cX1_nearestTo 15 = .ok (.iaload, 1) := dk_46 (dk_at dksX1_nearestTo_0 15 rfl rfl)
theorem dX1_nearestTo_16 : decode cX1_nearestTo 16 = .ok (.iload_n 1, 1) := dk_27 (dk_at dksX1_nearestTo_0 16 rfl rfl)
theorem dX1_nearestTo_17 : decode cX1_nearestTo 17 = .ok (.isub, 1) := dk_100 (dk_at dksX1_nearestTo_0 17 rfl rfl)
theorem dX1_nearestTo_18 : decode cX1_nearestTo 18 = .ok (.invokestatic 61, 3) := dk_184 0 61 (dk_at dksX1_nearestTo_0 18 rfl rfl)
theorem dX1_nearestTo_21 : decode cX1_nearestTo 21 = .ok (.istore 4, 2) := dk_54 4 (dk_at dksX1_nearestTo_0 21 rfl rfl)
theorem dX1_nearestTo_23 : decode cX1_nearestTo 23 = .ok (.aload_n 0, 1) := dk_42 (dk_at dksX1_nearestTo_0 23 rfl rfl)
theorem dX1_nearestTo_24 : decode cX1_nearestTo 24 = .ok (.getfield 18, 3) := dk_180 0 18 (dk_at dksX1_nearestTo_1 0 rfl rfl)
theorem dX1_nearestTo_27 : decode cX1_nearestTo 27 = .ok (.iload_n 3, 1) := dk_29 (dk_at dksX1_nearestTo_1 3 rfl rfl)
theorem dX1_nearestTo_28 : decode cX1_nearestTo 28 = .ok (.iaload, 1) := dk_46 (dk_at dksX1_nearestTo_1 4 rfl rfl)
theorem dX1_nearestTo_29 : decode cX1_nearestTo 29 = .ok (.ifCond .le 16, 3) := dk_158 0 16 (dk_at dksX1_nearestTo_1 5 rfl rfl)
theorem dX1_nearestTo_32 : decode cX1_nearestTo 32 = .ok (.iload 4, 2) := dk_21 4 (dk_at dksX1_nearestTo_1 8 rfl rfl)
theorem dX1_nearestTo_34 : decode cX1_nearestTo 34 = .ok (.aload_n 0, 1) := dk_42 (dk_at dksX1_nearestTo_1 10 rfl rfl)
theorem dX1_nearestTo_35 : decode cX1_nearestTo 35 = .ok (.getfield 25, 3) := dk_180 0 25 (dk_at dksX1_nearestTo_1 11 rfl rfl)
theorem dX1_nearestTo_38 : decode cX1_nearestTo 38 = .ok (.if_icmp .gt 7, 3) := dk_163 0 7 (dk_at dksX1_nearestTo_1 14 rfl rfl)
theorem dX1_nearestTo_41 : decode cX1_nearestTo 41 = .ok (.iconst 1, 1) := dk_4 (dk_at dksX1_nearestTo_1 17 rfl rfl)
theorem dX1_nearestTo_42 : decode cX1_nearestTo 42 = .ok (.goto 4, 3) := dk_167 0 4 (dk_at dksX1_nearestTo_1 18 rfl rfl)
theorem dX1_nearestTo_45 : decode cX1_nearestTo 45 = .ok (.iconst 0, 1) := dk_3 (dk_at dksX1_nearestTo_1 21 rfl rfl)
theorem dX1_nearestTo_46 : decode cX1_nearestTo 46 = .ok (.istore 5, 2) := dk_54 5 (dk_at dksX1_nearestTo_1 22 rfl rfl)
theorem dX1_nearestTo_48 : decode cX1_nearestTo 48 = .ok (.iload 5, 2) := dk_21 5 (dk_at dksX1_nearestTo_2 0 rfl rfl)
theorem dX1_nearestTo_50 : decode cX1_nearestTo 50 = .ok (.ifCond .eq 28, 3) := dk_153 0 28 (dk_at dksX1_nearestTo_2 2 rfl rfl)
theorem dX1_nearestTo_53 : decode cX1_nearestTo 53 = .ok (.iload_n 2, 1) := dk_28 (dk_at dksX1_nearestTo_2 5 rfl rfl)
theorem dX1_nearestTo_54 : decode cX1_nearestTo 54 = .ok (.iconst (-1), 1) := dk_2 (dk_at dksX1_nearestTo_2 6 rfl rfl)
theorem dX1_nearestTo_55 : decode cX1_nearestTo 55 = .ok (.if_icmp .eq 19, 3) := dk_159 0 19 (dk_at dksX1_nearestTo_2 7 rfl rfl)
theorem dX1_nearestTo_58 : decode cX1_nearestTo 58 = .ok (.iload 4, 2) := dk_21 4 (dk_at dksX1_nearestTo_2 10 rfl rfl)
theorem dX1_nearestTo_60 : decode cX1_nearestTo 60 = .ok (.aload_n 0, 1) := dk_42 (dk_at dksX1_nearestTo_2 12 rfl rfl)
theorem dX1_nearestTo_61 : decode cX1_nearestTo 61 = .ok (.getfield 18, 3) := dk_180 0 18 (dk_at dksX1_nearestTo_2 13 rfl rfl)
theorem dX1_nearestTo_64 : decode cX1_nearestTo 64 = .ok (.iload_n 2, 1) := dk_28 (dk_at dksX1_nearestTo_2 16 rfl rfl)
theorem dX1_nearestTo_65 : decode cX1_nearestTo 65 = .ok (.iaload, 1) := dk_46 (dk_at dksX1_nearestTo_2 17 rfl rfl)
theorem dX1_nearestTo_66 : decode cX1_nearestTo 66 = .ok (.iload_n 1, 1) := dk_27 (dk_at dksX1_nearestTo_2 18 rfl rfl)
theorem dX1_nearestTo_67 : decode cX1_nearestTo 67 = .ok (.isub, 1) := dk_100 (dk_at dksX1_nearestTo_2 19 rfl rfl)
theorem dX1_nearestTo_68 : decode cX1_nearestTo 68 = .ok (.invokestatic 61, 3) := dk_184 0 61 (dk_at dksX1_nearestTo_2 20 rfl rfl)
theorem dX1_nearestTo_71 : decode cX1_nearestTo 71 = .ok (.if_icmp .ge 7, 3) := dk_162 0 7 (dk_at dksX1_nearestTo_3 0 rfl rfl)
theorem dX1_nearestTo_74 : decode cX1_nearestTo 74 = .ok (.iload_n 3, 1) := dk_29 (dk_at dksX1_nearestTo_3 3 rfl rfl)
theorem dX1_nearestTo_75 : decode cX1_nearestTo 75 = .ok (.goto 4, 3) := dk_167 0 4 (dk_at dksX1_nearestTo_3 4 rfl rfl)
theorem dX1_nearestTo_78 : decode cX1_nearestTo 78 = .ok (.iload_n 2, 1) := dk_28 (dk_at dksX1_nearestTo_3 7 rfl rfl)
theorem dX1_nearestTo_79 : decode cX1_nearestTo 79 = .ok (.istore_n 2, 1) := dk_61 (dk_at dksX1_nearestTo_3 8 rfl rfl)
theorem dX1_nearestTo_80 : decode cX1_nearestTo 80 = .ok (.iinc 3 1, 3) := dk_132 3 1 (dk_at dksX1_nearestTo_3 9 rfl rfl)
theorem dX1_nearestTo_83 : decode cX1_nearestTo 83 = .ok (.goto (-79), 3) := dk_167 255 177 (dk_at dksX1_nearestTo_3 12 rfl rfl)
theorem dX1_nearestTo_86 : decode cX1_nearestTo 86 = .ok (.iload_n 2, 1) := dk_28 (dk_at dksX1_nearestTo_3 15 rfl rfl)
theorem dX1_nearestTo_87 : decode cX1_nearestTo 87 = .ok (.ireturn, 1) := dk_172 (dk_at dksX1_nearestTo_3 16 rfl rfl)
abbrev cX1_says : ByteArray := prog_5_method_8_code
def yX1_says : MethodName := ⟨RX1, "says", "(II)I"⟩
def dkwX1_says_2 : List UInt8 := [87, 45, 180, 0, 91, 182, 0, 95, 172]
abbrev dktX1_says_2 : List UInt8 := dkwX1_says_2 ++ []
def dkwX1_says_1 : List UInt8 := [162, 0, 7, 4, 167, 0, 4, 3, 18, 74, 184, 0, 57, 45, 180, 0, 91, 28, 184, 0, 98, 182, 0, 104]
abbrev dktX1_says_1 : List UInt8 := dkwX1_says_1 ++ dktX1_says_2
def dkwX1_says_0 : List UInt8 := [28, 184, 0, 84, 18, 56, 184, 0, 57, 42, 27, 182, 0, 87, 78, 45, 180, 0, 91, 182, 0, 95, 16, 8]
abbrev dktX1_says_0 : List UInt8 := dkwX1_says_0 ++ dktX1_says_1
theorem dksX1_says_0 : cX1_says.data.toList.drop 0 = dktX1_says_0 := by decide +kernel
theorem dksX1_says_1 : cX1_says.data.toList.drop 24 = dktX1_says_1 := dk_seg dksX1_says_0 24 rfl rfl
theorem dksX1_says_2 : cX1_says.data.toList.drop 48 = dktX1_says_2 := dk_seg dksX1_says_1 24 rfl rfl
theorem dX1_says_0 : decode cX1_says 0 = .ok (.iload_n 2, 1) := dk_28 (dk_at dksX1_says_0 0 rfl rfl)
theorem dX1_says_1 : decode cX1_says 1 = .ok (.invokestatic 84, 3) := dk_184 0 84 (dk_at dksX1_says_0 1 rfl rfl)
theorem dX1_says_4 : decode cX1_says 4 = .ok (.ldc 56, 2) := dk_18 56 (dk_at dksX1_says_0 4 rfl rfl)
theorem dX1_says_6 : decode cX1_says 6 = .ok (.invokestatic 57, 3) := dk_184 0 57 (dk_at dksX1_says_0 6 rfl rfl)
theorem dX1_says_9 : decode cX1_says 9 = .ok (.aload_n 0, 1) := dk_42 (dk_at dksX1_says_0 9 rfl rfl)
theorem dX1_says_10 : decode cX1_says 10 = .ok (.iload_n 1, 1) := dk_27 (dk_at dksX1_says_0 10 rfl rfl)
theorem dX1_says_11 : decode cX1_says 11 = .ok (.invokevirtual 87, 3) := dk_182 0 87 (dk_at dksX1_says_0 11 rfl rfl)
theorem dX1_says_14 : decode cX1_says 14 = .ok (.astore_n 3, 1) := dk_78 (dk_at dksX1_says_0 14 rfl rfl)
theorem dX1_says_15 : decode cX1_says 15 = .ok (.aload_n 3, 1) := dk_45 (dk_at dksX1_says_0 15 rfl rfl)
theorem dX1_says_16 : decode cX1_says 16 = .ok (.getfield 91, 3) := dk_180 0 91 (dk_at dksX1_says_0 16 rfl rfl)
theorem dX1_says_19 : decode cX1_says 19 = .ok (.invokevirtual 95, 3) := dk_182 0 95 (dk_at dksX1_says_0 19 rfl rfl)
theorem dX1_says_22 : decode cX1_says 22 = .ok (.bipush 8, 2) := dk_16 8 (dk_at dksX1_says_0 22 rfl rfl)
theorem dX1_says_24 : decode cX1_says 24 = .ok (.if_icmp .ge 7, 3) := dk_162 0 7 (dk_at dksX1_says_1 0 rfl rfl)
theorem dX1_says_27 : decode cX1_says 27 = .ok (.iconst 1, 1) := dk_4 (dk_at dksX1_says_1 3 rfl rfl)
theorem dX1_says_28 : decode cX1_says 28 = .ok (.goto 4, 3) := dk_167 0 4 (dk_at dksX1_says_1 4 rfl rfl)
theorem dX1_says_31 : decode cX1_says 31 = .ok (.iconst 0, 1) := dk_3 (dk_at dksX1_says_1 7 rfl rfl)
theorem dX1_says_32 : decode cX1_says 32 = .ok (.ldc 74, 2) := dk_18 74 (dk_at dksX1_says_1 8 rfl rfl)
theorem dX1_says_34 : decode cX1_says 34 = .ok (.invokestatic 57, 3) := dk_184 0 57 (dk_at dksX1_says_1 10 rfl rfl)
theorem dX1_says_37 : decode cX1_says 37 = .ok (.aload_n 3, 1) := dk_45 (dk_at dksX1_says_1 13 rfl rfl)
theorem dX1_says_38 : decode cX1_says 38 = .ok (.getfield 91, 3) := dk_180 0 91 (dk_at dksX1_says_1 14 rfl rfl)
theorem dX1_says_41 : decode cX1_says 41 = .ok (.iload_n 2, 1) := dk_28 (dk_at dksX1_says_1 17 rfl rfl)
theorem dX1_says_42 : decode cX1_says 42 = .ok (.invokestatic 98, 3) := dk_184 0 98 (dk_at dksX1_says_1 18 rfl rfl)
theorem dX1_says_45 : decode cX1_says 45 = .ok (.invokevirtual 104, 3) := dk_182 0 104 (dk_at dksX1_says_1 21 rfl rfl)
theorem dX1_says_48 : decode cX1_says 48 = .ok (.pop, 1) := dk_87 (dk_at dksX1_says_2 0 rfl rfl)
theorem dX1_says_49 : decode cX1_says 49 = .ok (.aload_n 3, 1) := dk_45 (dk_at dksX1_says_2 1 rfl rfl)
theorem dX1_says_50 : decode cX1_says 50 = .ok (.getfield 91, 3) := dk_180 0 91 (dk_at dksX1_says_2 2 rfl rfl)
theorem dX1_says_53 : decode cX1_says 53 = .ok (.invokevirtual 95, 3) := dk_182 0 95 (dk_at dksX1_says_2 5 rfl rfl)
theorem dX1_says_56 : decode cX1_says 56 = .ok (.ireturn, 1) := dk_172 (dk_at dksX1_says_2 8 rfl rfl)
abbrev cX1_needed : ByteArray := prog_5_method_5_code
def yX1_needed : MethodName := ⟨RX1, "needed", "(I)LLectureTurns$Turn;"⟩
def dkwX1_needed_0 : List UInt8 := [42, 27, 182, 0, 52, 18, 56, 184, 0, 57, 42, 180, 0, 12, 27, 182, 0, 35, 192, 0, 33, 176]
abbrev dktX1_needed_0 : List UInt8 := dkwX1_needed_0 ++ []
theorem dksX1_needed_0 : cX1_needed.data.toList.drop 0 = dktX1_needed_0 := by decide +kernel
theorem dX1_needed_0 : decode cX1_needed 0 = .ok (.aload_n 0, 1) := dk_42 (dk_at dksX1_needed_0 0 rfl rfl)
theorem dX1_needed_1 : decode cX1_needed 1 = .ok (.iload_n 1, 1) := dk_27 (dk_at dksX1_needed_0 1 rfl rfl)
theorem dX1_needed_2 : decode cX1_needed 2 = .ok (.invokevirtual 52, 3) := dk_182 0 52 (dk_at dksX1_needed_0 2 rfl rfl)
theorem dX1_needed_5 : decode cX1_needed 5 = .ok (.ldc 56, 2) := dk_18 56 (dk_at dksX1_needed_0 5 rfl rfl)
theorem dX1_needed_7 : decode cX1_needed 7 = .ok (.invokestatic 57, 3) := dk_184 0 57 (dk_at dksX1_needed_0 7 rfl rfl)
theorem dX1_needed_10 : decode cX1_needed 10 = .ok (.aload_n 0, 1) := dk_42 (dk_at dksX1_needed_0 10 rfl rfl)
theorem dX1_needed_11 : decode cX1_needed 11 = .ok (.getfield 12, 3) := dk_180 0 12 (dk_at dksX1_needed_0 11 rfl rfl)
theorem dX1_needed_14 : decode cX1_needed 14 = .ok (.iload_n 1, 1) := dk_27 (dk_at dksX1_needed_0 14 rfl rfl)
theorem dX1_needed_15 : decode cX1_needed 15 = .ok (.invokevirtual 35, 3) := dk_182 0 35 (dk_at dksX1_needed_0 15 rfl rfl)
theorem dX1_needed_18 : decode cX1_needed 18 = .ok (.checkcast 33, 3) := dk_192 0 33 (dk_at dksX1_needed_0 18 rfl rfl)
theorem dX1_needed_21 : decode cX1_needed 21 = .ok (.areturn, 1) := dk_176 (dk_at dksX1_needed_0 21 rfl rfl)
abbrev cX1_isTurn : ByteArray := prog_5_method_3_code
def yX1_isTurn : MethodName := ⟨RX1, "isTurn", "(I)Z"⟩
def dkwX1_isTurn_0 : List UInt8 := [27, 133, 9, 42, 180, 0, 12, 182, 0, 29, 4, 100, 133, 184, 0, 46, 172]
abbrev dktX1_isTurn_0 : List UInt8 := dkwX1_isTurn_0 ++ []
theorem dksX1_isTurn_0 : cX1_isTurn.data.toList.drop 0 = dktX1_isTurn_0 := by decide +kernel
theorem dX1_isTurn_0 : decode cX1_isTurn 0 = .ok (.iload_n 1, 1) := dk_27 (dk_at dksX1_isTurn_0 0 rfl rfl)
theorem dX1_isTurn_1 : decode cX1_isTurn 1 = .ok (.i2l, 1) := dk_133 (dk_at dksX1_isTurn_0 1 rfl rfl)
theorem dX1_isTurn_2 : decode cX1_isTurn 2 = .ok (.lconst 0, 1) := dk_9 (dk_at dksX1_isTurn_0 2 rfl rfl)
theorem dX1_isTurn_3 : decode cX1_isTurn 3 = .ok (.aload_n 0, 1) := dk_42 (dk_at dksX1_isTurn_0 3 rfl rfl)
theorem dX1_isTurn_4 : decode cX1_isTurn 4 = .ok (.getfield 12, 3) := dk_180 0 12 (dk_at dksX1_isTurn_0 4 rfl rfl)
theorem dX1_isTurn_7 : decode cX1_isTurn 7 = .ok (.invokevirtual 29, 3) := dk_182 0 29 (dk_at dksX1_isTurn_0 7 rfl rfl)
theorem dX1_isTurn_10 : decode cX1_isTurn 10 = .ok (.iconst 1, 1) := dk_4 (dk_at dksX1_isTurn_0 10 rfl rfl)
theorem dX1_isTurn_11 : decode cX1_isTurn 11 = .ok (.isub, 1) := dk_100 (dk_at dksX1_isTurn_0 11 rfl rfl)
theorem dX1_isTurn_12 : decode cX1_isTurn 12 = .ok (.i2l, 1) := dk_133 (dk_at dksX1_isTurn_0 12 rfl rfl)
theorem dX1_isTurn_13 : decode cX1_isTurn 13 = .ok (.invokestatic 46, 3) := dk_184 0 46 (dk_at dksX1_isTurn_0 13 rfl rfl)
theorem dX1_isTurn_16 : decode cX1_isTurn 16 = .ok (.ireturn, 1) := dk_172 (dk_at dksX1_isTurn_0 16 rfl rfl)
abbrev cX1_parts : ByteArray := prog_5_method_9_code
def yX1_parts : MethodName := ⟨RX1, "parts", "(III)I"⟩
def dkwX1_parts_7 : List UInt8 := [182, 0, 42, 172]
abbrev dktX1_parts_7 : List UInt8 := dkwX1_parts_7 ++ []
def dkwX1_parts_6 : List UInt8 := [180, 0, 91, 29, 182, 0, 117, 192, 0, 99, 182, 0, 104, 87, 167, 255, 223, 42, 180, 0, 12, 25, 5]
abbrev dktX1_parts_6 : List UInt8 := dkwX1_parts_6 ++ dktX1_parts_7
def dkwX1_parts_5 : List UInt8 := [181, 0, 111, 25, 4, 180, 0, 91, 182, 0, 95, 29, 164, 0, 27, 25, 5, 180, 0, 91, 25, 4]
abbrev dktX1_parts_5 : List UInt8 := dkwX1_parts_5 ++ dktX1_parts_6
def dkwX1_parts_4 : List UInt8 := [25, 4, 180, 0, 114, 183, 0, 75, 58, 5, 25, 5, 25, 4, 180, 0, 81, 181, 0, 81, 25, 4, 28]
abbrev dktX1_parts_4 : List UInt8 := dkwX1_parts_4 ++ dktX1_parts_5
def dkwX1_parts_3 : List UInt8 := [162, 0, 7, 4, 167, 0, 4, 3, 18, 74, 184, 0, 57, 187, 0, 33, 89, 28, 25, 4, 180, 0, 111]
abbrev dktX1_parts_3 : List UInt8 := dkwX1_parts_3 ++ dktX1_parts_4
def dkwX1_parts_2 : List UInt8 := [153, 0, 7, 4, 167, 0, 4, 3, 18, 56, 184, 0, 57, 42, 180, 0, 12, 182, 0, 29, 16, 20]
abbrev dktX1_parts_2 : List UInt8 := dkwX1_parts_2 ++ dktX1_parts_3
def dkwX1_parts_1 : List UInt8 := [133, 184, 0, 46, 153, 0, 25, 29, 133, 9, 25, 4, 180, 0, 91, 182, 0, 95, 133, 184, 0, 46]
abbrev dktX1_parts_1 : List UInt8 := dkwX1_parts_1 ++ dktX1_parts_2
def dkwX1_parts_0 : List UInt8 := [42, 27, 182, 0, 87, 58, 4, 28, 133, 25, 4, 180, 0, 108, 4, 96, 133, 25, 4, 180, 0, 111, 4, 100]
abbrev dktX1_parts_0 : List UInt8 := dkwX1_parts_0 ++ dktX1_parts_1
theorem dksX1_parts_0 : cX1_parts.data.toList.drop 0 = dktX1_parts_0 := by decide +kernel
theorem dksX1_parts_1 : cX1_parts.data.toList.drop 24 = dktX1_parts_1 := dk_seg dksX1_parts_0 24 rfl rfl
theorem dksX1_parts_2 : cX1_parts.data.toList.drop 46 = dktX1_parts_2 := dk_seg dksX1_parts_1 22 rfl rfl
theorem dksX1_parts_3 : cX1_parts.data.toList.drop 68 = dktX1_parts_3 := dk_seg dksX1_parts_2 22 rfl rfl
theorem dksX1_parts_4 : cX1_parts.data.toList.drop 91 = dktX1_parts_4 := dk_seg dksX1_parts_3 23 rfl rfl
theorem dksX1_parts_5 : cX1_parts.data.toList.drop 114 = dktX1_parts_5 := dk_seg dksX1_parts_4 23 rfl rfl
theorem dksX1_parts_6 : cX1_parts.data.toList.drop 136 = dktX1_parts_6 := dk_seg dksX1_parts_5 22 rfl rfl
theorem dksX1_parts_7 : cX1_parts.data.toList.drop 159 = dktX1_parts_7 := dk_seg dksX1_parts_6 23 rfl rfl
theorem dX1_parts_0 : decode cX1_parts 0 = .ok (.aload_n 0, 1) := dk_42 (dk_at dksX1_parts_0 0 rfl rfl)
theorem dX1_parts_1 : decode cX1_parts 1 = .ok (.iload_n 1, 1) := dk_27 (dk_at dksX1_parts_0 1 rfl rfl)
theorem dX1_parts_2 : decode cX1_parts 2 = .ok (.invokevirtual 87, 3) := dk_182 0 87 (dk_at dksX1_parts_0 2 rfl rfl)
theorem dX1_parts_5 : decode cX1_parts 5 = .ok (.astore 4, 2) := dk_58 4 (dk_at dksX1_parts_0 5 rfl rfl)
theorem dX1_parts_7 : decode cX1_parts 7 = .ok (.iload_n 2, 1) := dk_28 (dk_at dksX1_parts_0 7 rfl rfl)
theorem dX1_parts_8 : decode cX1_parts 8 = .ok (.i2l, 1) := dk_133 (dk_at dksX1_parts_0 8 rfl rfl)
theorem dX1_parts_9 : decode cX1_parts 9 = .ok (.aload 4, 2) := dk_25 4 (dk_at dksX1_parts_0 9 rfl rfl)
theorem dX1_parts_11 : decode cX1_parts 11 = .ok (.getfield 108, 3) := dk_180 0 108 (dk_at dksX1_parts_0 11 rfl rfl)
theorem dX1_parts_14 : decode cX1_parts 14 = .ok (.iconst 1, 1) := dk_4 (dk_at dksX1_parts_0 14 rfl rfl)
theorem dX1_parts_15 : decode cX1_parts 15 = .ok (.iadd, 1) := dk_96 (dk_at dksX1_parts_0 15 rfl rfl)
theorem dX1_parts_16 : decode cX1_parts 16 = .ok (.i2l, 1) := dk_133 (dk_at dksX1_parts_0 16 rfl rfl)
theorem dX1_parts_17 : decode cX1_parts 17 = .ok (.aload 4, 2) := dk_25 4 (dk_at dksX1_parts_0 17 rfl rfl)
theorem dX1_parts_19 : decode cX1_parts 19 = .ok (.getfield 111, 3) := dk_180 0 111 (dk_at dksX1_parts_0 19 rfl rfl)
theorem dX1_parts_22 : decode cX1_parts 22 = .ok (.iconst 1, 1) := dk_4 (dk_at dksX1_parts_0 22 rfl rfl)
theorem dX1_parts_23 : decode cX1_parts 23 = .ok (.isub, 1) := dk_100 (dk_at dksX1_parts_0 23 rfl rfl)
theorem dX1_parts_24 : decode cX1_parts 24 = .ok (.i2l, 1) := dk_133 (dk_at dksX1_parts_1 0 rfl rfl)
theorem dX1_parts_25 : decode cX1_parts 25 = .ok (.invokestatic 46, 3) := dk_184 0 46 (dk_at dksX1_parts_1 1 rfl rfl)
theorem dX1_parts_28 : decode cX1_parts 28 = .ok (.ifCond .eq 25, 3) := dk_153 0 25 (dk_at dksX1_parts_1 4 rfl rfl)
theorem dX1_parts_31 : decode cX1_parts 31 = .ok (.iload_n 3, 1) := dk_29 (dk_at dksX1_parts_1 7 rfl rfl)
theorem dX1_parts_32 : decode cX1_parts 32 = .ok (.i2l, 1) := dk_133 (dk_at dksX1_parts_1 8 rfl rfl)
theorem dX1_parts_33 : decode cX1_parts 33 = .ok (.lconst 0, 1) := dk_9 (dk_at dksX1_parts_1 9 rfl rfl)
theorem dX1_parts_34 : decode cX1_parts 34 = .ok (.aload 4, 2) := dk_25 4 (dk_at dksX1_parts_1 10 rfl rfl)
theorem dX1_parts_36 : decode cX1_parts 36 = .ok (.getfield 91, 3) := dk_180 0 91 (dk_at dksX1_parts_1 12 rfl rfl)
theorem dX1_parts_39 : decode cX1_parts 39 = .ok (.invokevirtual 95, 3) := dk_182 0 95 (dk_at dksX1_parts_1 15 rfl rfl)
theorem dX1_parts_42 : decode cX1_parts 42 = .ok (.i2l, 1) := dk_133 (dk_at dksX1_parts_1 18 rfl rfl)
theorem dX1_parts_43 : decode cX1_parts 43 = .ok (.invokestatic 46, 3) := dk_184 0 46 (dk_at dksX1_parts_1 19 rfl rfl)
theorem dX1_parts_46 : decode cX1_parts 46 = .ok (.ifCond .eq 7, 3) := dk_153 0 7 (dk_at dksX1_parts_2 0 rfl rfl)
theorem dX1_parts_49 : decode cX1_parts 49 = .ok (.iconst 1, 1) := dk_4 (dk_at dksX1_parts_2 3 rfl rfl)
theorem dX1_parts_50 : decode cX1_parts 50 = .ok (.goto 4, 3) := dk_167 0 4 (dk_at dksX1_parts_2 4 rfl rfl)
theorem dX1_parts_53 : decode cX1_parts 53 = .ok (.iconst 0, 1) := dk_3 (dk_at dksX1_parts_2 7 rfl rfl)
theorem dX1_parts_54 : decode cX1_parts 54 = .ok (.ldc 56, 2) := dk_18 56 (dk_at dksX1_parts_2 8 rfl rfl)
theorem dX1_parts_56 : decode cX1_parts 56 = .ok (.invokestatic 57, 3) := dk_184 0 57 (dk_at dksX1_parts_2 10 rfl rfl)
theorem dX1_parts_59 : decode cX1_parts 59 = .ok (.aload_n 0, 1) := dk_42 (dk_at dksX1_parts_2 13 rfl rfl)
theorem dX1_parts_60 : decode cX1_parts 60 = .ok (.getfield 12, 3) := dk_180 0 12 (dk_at dksX1_parts_2 14 rfl rfl)
theorem dX1_parts_63 : decode cX1_parts 63 = .ok (.invokevirtual 29, 3) := dk_182 0 29 (dk_at dksX1_parts_2 17 rfl rfl)
theorem dX1_parts_66 : decode cX1_parts 66 = .ok (.bipush 20, 2) := dk_16 20 (dk_at dksX1_parts_2 20 rfl rfl)
theorem dX1_parts_68 : decode cX1_parts 68 = .ok (.if_icmp .ge 7, 3) := dk_162 0 7 (dk_at dksX1_parts_3 0 rfl rfl)
theorem dX1_parts_71 : decode cX1_parts 71 = .ok (.iconst 1, 1) := dk_4 (dk_at dksX1_parts_3 3 rfl rfl)
theorem dX1_parts_72 : decode cX1_parts 72 = .ok (.goto 4, 3) := dk_167 0 4 (dk_at dksX1_parts_3 4 rfl rfl)
theorem dX1_parts_75 : decode cX1_parts 75 = .ok (.iconst 0, 1) := dk_3 (dk_at dksX1_parts_3 7 rfl rfl)
theorem dX1_parts_76 : decode cX1_parts 76 = .ok (.ldc 74, 2) := dk_18 74 (dk_at dksX1_parts_3 8 rfl rfl)
theorem dX1_parts_78 : decode cX1_parts 78 = .ok (.invokestatic 57, 3) := dk_184 0 57 (dk_at dksX1_parts_3 10 rfl rfl)
theorem dX1_parts_81 : decode cX1_parts 81 = .ok (.new 33, 3) := dk_187 0 33 (dk_at dksX1_parts_3 13 rfl rfl)
theorem dX1_parts_84 : decode cX1_parts 84 = .ok (.dup, 1) := dk_89 (dk_at dksX1_parts_3 16 rfl rfl)
theorem dX1_parts_85 : decode cX1_parts 85 = .ok (.iload_n 2, 1) := dk_28 (dk_at dksX1_parts_3 17 rfl rfl)
theorem dX1_parts_86 : decode cX1_parts 86 = .ok (.aload 4, 2) := dk_25 4 (dk_at dksX1_parts_3 18 rfl rfl)
theorem dX1_parts_88 : decode cX1_parts 88 = .ok (.getfield 111, 3) := dk_180 0 111 (dk_at dksX1_parts_3 20 rfl rfl)
theorem dX1_parts_91 : decode cX1_parts 91 = .ok (.aload 4, 2) := dk_25 4 (dk_at dksX1_parts_4 0 rfl rfl)
theorem dX1_parts_93 : decode cX1_parts 93 = .ok (.getfield 114, 3) := dk_180 0 114 (dk_at dksX1_parts_4 2 rfl rfl)
theorem dX1_parts_96 : decode cX1_parts 96 = .ok (.invokespecial 75, 3) := dk_183 0 75 (dk_at dksX1_parts_4 5 rfl rfl)
theorem dX1_parts_99 : decode cX1_parts 99 = .ok (.astore 5, 2) := dk_58 5 (dk_at dksX1_parts_4 8 rfl rfl)
theorem dX1_parts_101 : decode cX1_parts 101 = .ok (.aload 5, 2) := dk_25 5 (dk_at dksX1_parts_4 10 rfl rfl)
theorem dX1_parts_103 : decode cX1_parts 103 = .ok (.aload 4, 2) := dk_25 4 (dk_at dksX1_parts_4 12 rfl rfl)
theorem dX1_parts_105 : decode cX1_parts 105 = .ok (.getfield 81, 3) := dk_180 0 81 (dk_at dksX1_parts_4 14 rfl rfl)
theorem dX1_parts_108 : decode cX1_parts 108 = .ok (.putfield 81, 3) := dk_181 0 81 (dk_at dksX1_parts_4 17 rfl rfl)
theorem dX1_parts_111 : decode cX1_parts 111 = .ok (.aload 4, 2) := dk_25 4 (dk_at dksX1_parts_4 20 rfl rfl)
theorem dX1_parts_113 : decode cX1_parts 113 = .ok (.iload_n 2, 1) := dk_28 (dk_at dksX1_parts_4 22 rfl rfl)
theorem dX1_parts_114 : decode cX1_parts 114 = .ok (.putfield 111, 3) := dk_181 0 111 (dk_at dksX1_parts_5 0 rfl rfl)
theorem dX1_parts_117 : decode cX1_parts 117 = .ok (.aload 4, 2) := dk_25 4 (dk_at dksX1_parts_5 3 rfl rfl)
theorem dX1_parts_119 : decode cX1_parts 119 = .ok (.getfield 91, 3) := dk_180 0 91 (dk_at dksX1_parts_5 5 rfl rfl)
theorem dX1_parts_122 : decode cX1_parts 122 = .ok (.invokevirtual 95, 3) := dk_182 0 95 (dk_at dksX1_parts_5 8 rfl rfl)
theorem dX1_parts_125 : decode cX1_parts 125 = .ok (.iload_n 3, 1) := dk_29 (dk_at dksX1_parts_5 11 rfl rfl)
theorem dX1_parts_126 : decode cX1_parts 126 = .ok (.if_icmp .le 27, 3) := dk_164 0 27 (dk_at dksX1_parts_5 12 rfl rfl)
theorem dX1_parts_129 : decode cX1_parts 129 = .ok (.aload 5, 2) := dk_25 5 (dk_at dksX1_parts_5 15 rfl rfl)
theorem dX1_parts_131 : decode cX1_parts 131 = .ok (.getfield 91, 3) := dk_180 0 91 (dk_at dksX1_parts_5 17 rfl rfl)
theorem dX1_parts_134 : decode cX1_parts 134 = .ok (.aload 4, 2) := dk_25 4 (dk_at dksX1_parts_5 20 rfl rfl)
theorem dX1_parts_136 : decode cX1_parts 136 = .ok (.getfield 91, 3) := dk_180 0 91 (dk_at dksX1_parts_6 0 rfl rfl)
theorem dX1_parts_139 : decode cX1_parts 139 = .ok (.iload_n 3, 1) := dk_29 (dk_at dksX1_parts_6 3 rfl rfl)
theorem dX1_parts_140 : decode cX1_parts 140 = .ok (.invokevirtual 117, 3) := dk_182 0 117 (dk_at dksX1_parts_6 4 rfl rfl)
theorem dX1_parts_143 : decode cX1_parts 143 = .ok (.checkcast 99, 3) := dk_192 0 99 (dk_at dksX1_parts_6 7 rfl rfl)
theorem dX1_parts_146 : decode cX1_parts 146 = .ok (.invokevirtual 104, 3) := dk_182 0 104 (dk_at dksX1_parts_6 10 rfl rfl)
theorem dX1_parts_149 : decode cX1_parts 149 = .ok (.pop, 1) := dk_87 (dk_at dksX1_parts_6 13 rfl rfl)
theorem dX1_parts_150 : decode cX1_parts 150 = .ok (.goto (-33), 3) := dk_167 255 223 (dk_at dksX1_parts_6 14 rfl rfl)
theorem dX1_parts_153 : decode cX1_parts 153 = .ok (.aload_n 0, 1) := dk_42 (dk_at dksX1_parts_6 17 rfl rfl)
theorem dX1_parts_154 : decode cX1_parts 154 = .ok (.getfield 12, 3) := dk_180 0 12 (dk_at dksX1_parts_6 18 rfl rfl)
theorem dX1_parts_157 : decode cX1_parts 157 = .ok (.aload 5, 2) := dk_25 5 (dk_at dksX1_parts_6 21 rfl rfl)
theorem dX1_parts_159 : decode cX1_parts 159 = .ok (.invokevirtual 42, 3) := dk_182 0 42 (dk_at dksX1_parts_7 0 rfl rfl)
theorem dX1_parts_162 : decode cX1_parts 162 = .ok (.ireturn, 1) := dk_172 (dk_at dksX1_parts_7 3 rfl rfl)
abbrev cX1_removes : ByteArray := prog_5_method_10_code
def yX1_removes : MethodName := ⟨RX1, "removes", "(I)I"⟩
def dkwX1_removes_1 : List UInt8 := [182, 0, 29, 172]
abbrev dktX1_removes_1 : List UInt8 := dkwX1_removes_1 ++ []
def dkwX1_removes_0 : List UInt8 := [42, 27, 182, 0, 87, 77, 42, 180, 0, 12, 27, 182, 0, 121, 192, 0, 33, 77, 42, 180, 0, 12]
abbrev dktX1_removes_0 : List UInt8 := dkwX1_removes_0 ++ dktX1_removes_1
theorem dksX1_removes_0 : cX1_removes.data.toList.drop 0 = dktX1_removes_0 := by decide +kernel
theorem dksX1_removes_1 : cX1_removes.data.toList.drop 22 = dktX1_removes_1 := dk_seg dksX1_removes_0 22 rfl rfl
theorem dX1_removes_0 : decode cX1_removes 0 = .ok (.aload_n 0, 1) := dk_42 (dk_at dksX1_removes_0 0 rfl rfl)
theorem dX1_removes_1 : decode cX1_removes 1 = .ok (.iload_n 1, 1) := dk_27 (dk_at dksX1_removes_0 1 rfl rfl)
theorem dX1_removes_2 : decode cX1_removes 2 = .ok (.invokevirtual 87, 3) := dk_182 0 87 (dk_at dksX1_removes_0 2 rfl rfl)
theorem dX1_removes_5 : decode cX1_removes 5 = .ok (.astore_n 2, 1) := dk_77 (dk_at dksX1_removes_0 5 rfl rfl)
theorem dX1_removes_6 : decode cX1_removes 6 = .ok (.aload_n 0, 1) := dk_42 (dk_at dksX1_removes_0 6 rfl rfl)
theorem dX1_removes_7 : decode cX1_removes 7 = .ok (.getfield 12, 3) := dk_180 0 12 (dk_at dksX1_removes_0 7 rfl rfl)
theorem dX1_removes_10 : decode cX1_removes 10 = .ok (.iload_n 1, 1) := dk_27 (dk_at dksX1_removes_0 10 rfl rfl)
theorem dX1_removes_11 : decode cX1_removes 11 = .ok (.invokevirtual 121, 3) := dk_182 0 121 (dk_at dksX1_removes_0 11 rfl rfl)
theorem dX1_removes_14 : decode cX1_removes 14 = .ok (.checkcast 33, 3) := dk_192 0 33 (dk_at dksX1_removes_0 14 rfl rfl)
theorem dX1_removes_17 : decode cX1_removes 17 = .ok (.astore_n 2, 1) := dk_77 (dk_at dksX1_removes_0 17 rfl rfl)
theorem dX1_removes_18 : decode cX1_removes 18 = .ok (.aload_n 0, 1) := dk_42 (dk_at dksX1_removes_0 18 rfl rfl)
theorem dX1_removes_19 : decode cX1_removes 19 = .ok (.getfield 12, 3) := dk_180 0 12 (dk_at dksX1_removes_0 19 rfl rfl)
theorem dX1_removes_22 : decode cX1_removes 22 = .ok (.invokevirtual 29, 3) := dk_182 0 29 (dk_at dksX1_removes_1 0 rfl rfl)
theorem dX1_removes_25 : decode cX1_removes 25 = .ok (.ireturn, 1) := dk_172 (dk_at dksX1_removes_1 3 rfl rfl)
abbrev cX1_corrects : ByteArray := prog_5_method_17_code
def yX1_corrects : MethodName := ⟨RX1, "corrects", "(II)I"⟩
def dkwX1_corrects_2 : List UInt8 := [183, 0, 160, 191, 42, 27, 28, 182, 0, 163, 172]
abbrev dktX1_corrects_2 : List UInt8 := dkwX1_corrects_2 ++ []
def dkwX1_corrects_1 : List UInt8 := [18, 56, 184, 0, 57, 42, 28, 27, 182, 0, 133, 167, 0, 15, 78, 187, 0, 157, 89, 18, 159, 45]
abbrev dktX1_corrects_1 : List UInt8 := dkwX1_corrects_1 ++ dktX1_corrects_2
def dkwX1_corrects_0 : List UInt8 := [27, 184, 0, 84, 153, 0, 19, 28, 184, 0, 84, 153, 0, 12, 27, 28, 159, 0, 7, 4, 167, 0, 4, 3]
abbrev dktX1_corrects_0 : List UInt8 := dkwX1_corrects_0 ++ dktX1_corrects_1
theorem dksX1_corrects_0 : cX1_corrects.data.toList.drop 0 = dktX1_corrects_0 := by decide +kernel
theorem dksX1_corrects_1 : cX1_corrects.data.toList.drop 24 = dktX1_corrects_1 := dk_seg dksX1_corrects_0 24 rfl rfl
theorem dksX1_corrects_2 : cX1_corrects.data.toList.drop 46 = dktX1_corrects_2 := dk_seg dksX1_corrects_1 22 rfl rfl
theorem dX1_corrects_0 : decode cX1_corrects 0 = .ok (.iload_n 1, 1) := dk_27 (dk_at dksX1_corrects_0 0 rfl rfl)
theorem dX1_corrects_1 : decode cX1_corrects 1 = .ok (.invokestatic 84, 3) := dk_184 0 84 (dk_at dksX1_corrects_0 1 rfl rfl)
theorem dX1_corrects_4 : decode cX1_corrects 4 = .ok (.ifCond .eq 19, 3) := dk_153 0 19 (dk_at dksX1_corrects_0 4 rfl rfl)
theorem dX1_corrects_7 : decode cX1_corrects 7 = .ok (.iload_n 2, 1) := dk_28 (dk_at dksX1_corrects_0 7 rfl rfl)
theorem dX1_corrects_8 : decode cX1_corrects 8 = .ok (.invokestatic 84, 3) := dk_184 0 84 (dk_at dksX1_corrects_0 8 rfl rfl)
theorem dX1_corrects_11 : decode cX1_corrects 11 = .ok (.ifCond .eq 12, 3) := dk_153 0 12 (dk_at dksX1_corrects_0 11 rfl rfl)
theorem dX1_corrects_14 : decode cX1_corrects 14 = .ok (.iload_n 1, 1) := dk_27 (dk_at dksX1_corrects_0 14 rfl rfl)
theorem dX1_corrects_15 : decode cX1_corrects 15 = .ok (.iload_n 2, 1) := dk_28 (dk_at dksX1_corrects_0 15 rfl rfl)
theorem dX1_corrects_16 : decode cX1_corrects 16 = .ok (.if_icmp .eq 7, 3) := dk_159 0 7 (dk_at dksX1_corrects_0 16 rfl rfl)
theorem dX1_corrects_19 : decode cX1_corrects 19 = .ok (.iconst 1, 1) := dk_4 (dk_at dksX1_corrects_0 19 rfl rfl)
theorem dX1_corrects_20 : decode cX1_corrects 20 = .ok (.goto 4, 3) := dk_167 0 4 (dk_at dksX1_corrects_0 20 rfl rfl)
theorem dX1_corrects_23 : decode cX1_corrects 23 = .ok (.iconst 0, 1) := dk_3 (dk_at dksX1_corrects_0 23 rfl rfl)
theorem dX1_corrects_24 : decode cX1_corrects 24 = .ok (.ldc 56, 2) := dk_18 56 (dk_at dksX1_corrects_1 0 rfl rfl)
theorem dX1_corrects_26 : decode cX1_corrects 26 = .ok (.invokestatic 57, 3) := dk_184 0 57 (dk_at dksX1_corrects_1 2 rfl rfl)
theorem dX1_corrects_29 : decode cX1_corrects 29 = .ok (.aload_n 0, 1) := dk_42 (dk_at dksX1_corrects_1 5 rfl rfl)
theorem dX1_corrects_30 : decode cX1_corrects 30 = .ok (.iload_n 2, 1) := dk_28 (dk_at dksX1_corrects_1 6 rfl rfl)
theorem dX1_corrects_31 : decode cX1_corrects 31 = .ok (.iload_n 1, 1) := dk_27 (dk_at dksX1_corrects_1 7 rfl rfl)
theorem dX1_corrects_32 : decode cX1_corrects 32 = .ok (.invokevirtual 133, 3) := dk_182 0 133 (dk_at dksX1_corrects_1 8 rfl rfl)
theorem dX1_corrects_35 : decode cX1_corrects 35 = .ok (.goto 15, 3) := dk_167 0 15 (dk_at dksX1_corrects_1 11 rfl rfl)
theorem dX1_corrects_38 : decode cX1_corrects 38 = .ok (.astore_n 3, 1) := dk_78 (dk_at dksX1_corrects_1 14 rfl rfl)
theorem dX1_corrects_39 : decode cX1_corrects 39 = .ok (.new 157, 3) := dk_187 0 157 (dk_at dksX1_corrects_1 15 rfl rfl)
theorem dX1_corrects_42 : decode cX1_corrects 42 = .ok (.dup, 1) := dk_89 (dk_at dksX1_corrects_1 18 rfl rfl)
theorem dX1_corrects_43 : decode cX1_corrects 43 = .ok (.ldc 159, 2) := dk_18 159 (dk_at dksX1_corrects_1 19 rfl rfl)
theorem dX1_corrects_45 : decode cX1_corrects 45 = .ok (.aload_n 3, 1) := dk_45 (dk_at dksX1_corrects_1 21 rfl rfl)
theorem dX1_corrects_46 : decode cX1_corrects 46 = .ok (.invokespecial 160, 3) := dk_183 0 160 (dk_at dksX1_corrects_2 0 rfl rfl)
theorem dX1_corrects_49 : decode cX1_corrects 49 = .ok (.athrow, 1) := dk_191 (dk_at dksX1_corrects_2 3 rfl rfl)
theorem dX1_corrects_50 : decode cX1_corrects 50 = .ok (.aload_n 0, 1) := dk_42 (dk_at dksX1_corrects_2 4 rfl rfl)
theorem dX1_corrects_51 : decode cX1_corrects 51 = .ok (.iload_n 1, 1) := dk_27 (dk_at dksX1_corrects_2 5 rfl rfl)
theorem dX1_corrects_52 : decode cX1_corrects 52 = .ok (.iload_n 2, 1) := dk_28 (dk_at dksX1_corrects_2 6 rfl rfl)
theorem dX1_corrects_53 : decode cX1_corrects 53 = .ok (.invokevirtual 163, 3) := dk_182 0 163 (dk_at dksX1_corrects_2 7 rfl rfl)
theorem dX1_corrects_56 : decode cX1_corrects 56 = .ok (.ireturn, 1) := dk_172 (dk_at dksX1_corrects_2 10 rfl rfl)
abbrev cX1_follow : ByteArray := prog_5_method_13_code
def yX1_follow : MethodName := ⟨RX1, "follow", "(II)V"⟩
def dkwX1_follow_1 : List UInt8 := [42, 180, 0, 22, 27, 46, 28, 182, 0, 133, 177]
abbrev dktX1_follow_1 : List UInt8 := dkwX1_follow_1 ++ []
def dkwX1_follow_0 : List UInt8 := [27, 28, 160, 0, 11, 187, 0, 130, 89, 183, 0, 132, 191, 42, 180, 0, 22, 27, 46, 2, 159, 0, 14, 42]
abbrev dktX1_follow_0 : List UInt8 := dkwX1_follow_0 ++ dktX1_follow_1
theorem dksX1_follow_0 : cX1_follow.data.toList.drop 0 = dktX1_follow_0 := by decide +kernel
theorem dksX1_follow_1 : cX1_follow.data.toList.drop 24 = dktX1_follow_1 := dk_seg dksX1_follow_0 24 rfl rfl
theorem dX1_follow_0 : decode cX1_follow 0 = .ok (.iload_n 1, 1) := dk_27 (dk_at dksX1_follow_0 0 rfl rfl)
theorem dX1_follow_1 : decode cX1_follow 1 = .ok (.iload_n 2, 1) := dk_28 (dk_at dksX1_follow_0 1 rfl rfl)
theorem dX1_follow_2 : decode cX1_follow 2 = .ok (.if_icmp .ne 11, 3) := dk_160 0 11 (dk_at dksX1_follow_0 2 rfl rfl)
theorem dX1_follow_5 : decode cX1_follow 5 = .ok (.new 130, 3) := dk_187 0 130 (dk_at dksX1_follow_0 5 rfl rfl)
theorem dX1_follow_8 : decode cX1_follow 8 = .ok (.dup, 1) := dk_89 (dk_at dksX1_follow_0 8 rfl rfl)
theorem dX1_follow_9 : decode cX1_follow 9 = .ok (.invokespecial 132, 3) := dk_183 0 132 (dk_at dksX1_follow_0 9 rfl rfl)
theorem dX1_follow_12 : decode cX1_follow 12 = .ok (.athrow, 1) := dk_191 (dk_at dksX1_follow_0 12 rfl rfl)
theorem dX1_follow_13 : decode cX1_follow 13 = .ok (.aload_n 0, 1) := dk_42 (dk_at dksX1_follow_0 13 rfl rfl)
theorem dX1_follow_14 : decode cX1_follow 14 = .ok (.getfield 22, 3) := dk_180 0 22 (dk_at dksX1_follow_0 14 rfl rfl)
theorem dX1_follow_17 : decode cX1_follow 17 = .ok (.iload_n 1, 1) := dk_27 (dk_at dksX1_follow_0 17 rfl rfl)
theorem dX1_follow_18 : decode cX1_follow 18 = .ok (.iaload, 1) := dk_46 (dk_at dksX1_follow_0 18 rfl rfl)
theorem dX1_follow_19 : decode cX1_follow 19 = .ok (.iconst (-1), 1) := dk_2 (dk_at dksX1_follow_0 19 rfl rfl)
theorem dX1_follow_20 : decode cX1_follow 20 = .ok (.if_icmp .eq 14, 3) := dk_159 0 14 (dk_at dksX1_follow_0 20 rfl rfl)
theorem dX1_follow_23 : decode cX1_follow 23 = .ok (.aload_n 0, 1) := dk_42 (dk_at dksX1_follow_0 23 rfl rfl)
theorem dX1_follow_24 : decode cX1_follow 24 = .ok (.aload_n 0, 1) := dk_42 (dk_at dksX1_follow_1 0 rfl rfl)
theorem dX1_follow_25 : decode cX1_follow 25 = .ok (.getfield 22, 3) := dk_180 0 22 (dk_at dksX1_follow_1 1 rfl rfl)
theorem dX1_follow_28 : decode cX1_follow 28 = .ok (.iload_n 1, 1) := dk_27 (dk_at dksX1_follow_1 4 rfl rfl)
theorem dX1_follow_29 : decode cX1_follow 29 = .ok (.iaload, 1) := dk_46 (dk_at dksX1_follow_1 5 rfl rfl)
theorem dX1_follow_30 : decode cX1_follow 30 = .ok (.iload_n 2, 1) := dk_28 (dk_at dksX1_follow_1 6 rfl rfl)
theorem dX1_follow_31 : decode cX1_follow 31 = .ok (.invokevirtual 133, 3) := dk_182 0 133 (dk_at dksX1_follow_1 7 rfl rfl)
theorem dX1_follow_34 : decode cX1_follow 34 = .ok (.return_, 1) := dk_177 (dk_at dksX1_follow_1 10 rfl rfl)
abbrev cX1_changes : ByteArray := prog_5_method_16_code
def yX1_changes : MethodName := ⟨RX1, "changes", "(II)I"⟩
def dkwX1_changes_3 : List UInt8 := [4, 21, 5, 120, 128, 62, 132, 5, 1, 167, 255, 221, 42, 29, 182, 0, 154, 172]
abbrev dktX1_changes_3 : List UInt8 := dkwX1_changes_3 ++ []
def dkwX1_changes_2 : List UInt8 := [16, 16, 162, 0, 34, 29, 42, 21, 5, 182, 0, 124, 25, 4, 21, 5, 46, 160, 0, 7, 3, 167, 0, 7]
abbrev dktX1_changes_2 : List UInt8 := dkwX1_changes_2 ++ dktX1_changes_3
def dkwX1_changes_1 : List UInt8 := [21, 5, 182, 0, 124, 79, 132, 5, 1, 167, 255, 235, 42, 180, 0, 22, 27, 28, 79, 3, 54, 5, 21, 5]
abbrev dktX1_changes_1 : List UInt8 := dkwX1_changes_1 ++ dktX1_changes_2
def dkwX1_changes_0 : List UInt8 := [3, 62, 16, 16, 188, 10, 58, 4, 3, 54, 5, 21, 5, 16, 16, 162, 0, 20, 25, 4, 21, 5, 42]
abbrev dktX1_changes_0 : List UInt8 := dkwX1_changes_0 ++ dktX1_changes_1
theorem dksX1_changes_0 : cX1_changes.data.toList.drop 0 = dktX1_changes_0 := by decide +kernel
theorem dksX1_changes_1 : cX1_changes.data.toList.drop 23 = dktX1_changes_1 := dk_seg dksX1_changes_0 23 rfl rfl
theorem dksX1_changes_2 : cX1_changes.data.toList.drop 47 = dktX1_changes_2 := dk_seg dksX1_changes_1 24 rfl rfl
theorem dksX1_changes_3 : cX1_changes.data.toList.drop 71 = dktX1_changes_3 := dk_seg dksX1_changes_2 24 rfl rfl
theorem dX1_changes_0 : decode cX1_changes 0 = .ok (.iconst 0, 1) := dk_3 (dk_at dksX1_changes_0 0 rfl rfl)
theorem dX1_changes_1 : decode cX1_changes 1 = .ok (.istore_n 3, 1) := dk_62 (dk_at dksX1_changes_0 1 rfl rfl)
theorem dX1_changes_2 : decode cX1_changes 2 = .ok (.bipush 16, 2) := dk_16 16 (dk_at dksX1_changes_0 2 rfl rfl)
theorem dX1_changes_4 : decode cX1_changes 4 = .ok (.newarray .int, 2) := dk_188_10 (dk_at dksX1_changes_0 4 rfl rfl)
theorem dX1_changes_6 : decode cX1_changes 6 = .ok (.astore 4, 2) := dk_58 4 (dk_at dksX1_changes_0 6 rfl rfl)
theorem dX1_changes_8 : decode cX1_changes 8 = .ok (.iconst 0, 1) := dk_3 (dk_at dksX1_changes_0 8 rfl rfl)
theorem dX1_changes_9 : decode cX1_changes 9 = .ok (.istore 5, 2) := dk_54 5 (dk_at dksX1_changes_0 9 rfl rfl)
theorem dX1_changes_11 : decode cX1_changes 11 = .ok (.iload 5, 2) := dk_21 5 (dk_at dksX1_changes_0 11 rfl rfl)
theorem dX1_changes_13 : decode cX1_changes 13 = .ok (.bipush 16, 2) := dk_16 16 (dk_at dksX1_changes_0 13 rfl rfl)
theorem dX1_changes_15 : decode cX1_changes 15 = .ok (.if_icmp .ge 20, 3) := dk_162 0 20 (dk_at dksX1_changes_0 15 rfl rfl)
theorem dX1_changes_18 : decode cX1_changes 18 = .ok (.aload 4, 2) := dk_25 4 (dk_at dksX1_changes_0 18 rfl rfl)
theorem dX1_changes_20 : decode cX1_changes 20 = .ok (.iload 5, 2) := dk_21 5 (dk_at dksX1_changes_0 20 rfl rfl)
theorem dX1_changes_22 : decode cX1_changes 22 = .ok (.aload_n 0, 1) := dk_42 (dk_at dksX1_changes_0 22 rfl rfl)
theorem dX1_changes_23 : decode cX1_changes 23 = .ok (.iload 5, 2) := dk_21 5 (dk_at dksX1_changes_1 0 rfl rfl)
theorem dX1_changes_25 : decode cX1_changes 25 = .ok (.invokevirtual 124, 3) := dk_182 0 124 (dk_at dksX1_changes_1 2 rfl rfl)
theorem dX1_changes_28 : decode cX1_changes 28 = .ok (.iastore, 1) := dk_79 (dk_at dksX1_changes_1 5 rfl rfl)
theorem dX1_changes_29 : decode cX1_changes 29 = .ok (.iinc 5 1, 3) := dk_132 5 1 (dk_at dksX1_changes_1 6 rfl rfl)
theorem dX1_changes_32 : decode cX1_changes 32 = .ok (.goto (-21), 3) := dk_167 255 235 (dk_at dksX1_changes_1 9 rfl rfl)
theorem dX1_changes_35 : decode cX1_changes 35 = .ok (.aload_n 0, 1) := dk_42 (dk_at dksX1_changes_1 12 rfl rfl)
theorem dX1_changes_36 : decode cX1_changes 36 = .ok (.getfield 22, 3) := dk_180 0 22 (dk_at dksX1_changes_1 13 rfl rfl)
theorem dX1_changes_39 : decode cX1_changes 39 = .ok (.iload_n 1, 1) := dk_27 (dk_at dksX1_changes_1 16 rfl rfl)
theorem dX1_changes_40 : decode cX1_changes 40 = .ok (.iload_n 2, 1) := dk_28 (dk_at dksX1_changes_1 17 rfl rfl)
theorem dX1_changes_41 : decode cX1_changes 41 = .ok (.iastore, 1) := dk_79 (dk_at dksX1_changes_1 18 rfl rfl)
theorem dX1_changes_42 : decode cX1_changes 42 = .ok (.iconst 0, 1) := dk_3 (dk_at dksX1_changes_1 19 rfl rfl)
theorem dX1_changes_43 : decode cX1_changes 43 = .ok (.istore 5, 2) := dk_54 5 (dk_at dksX1_changes_1 20 rfl rfl)
theorem dX1_changes_45 : decode cX1_changes 45 = .ok (.iload 5, 2) := dk_21 5 (dk_at dksX1_changes_1 22 rfl rfl)
theorem dX1_changes_47 : decode cX1_changes 47 = .ok (.bipush 16, 2) := dk_16 16 (dk_at dksX1_changes_2 0 rfl rfl)
theorem dX1_changes_49 : decode cX1_changes 49 = .ok (.if_icmp .ge 34, 3) := dk_162 0 34 (dk_at dksX1_changes_2 2 rfl rfl)
theorem dX1_changes_52 : decode cX1_changes 52 = .ok (.iload_n 3, 1) := dk_29 (dk_at dksX1_changes_2 5 rfl rfl)
theorem dX1_changes_53 : decode cX1_changes 53 = .ok (.aload_n 0, 1) := dk_42 (dk_at dksX1_changes_2 6 rfl rfl)
theorem dX1_changes_54 : decode cX1_changes 54 = .ok (.iload 5, 2) := dk_21 5 (dk_at dksX1_changes_2 7 rfl rfl)
theorem dX1_changes_56 : decode cX1_changes 56 = .ok (.invokevirtual 124, 3) := dk_182 0 124 (dk_at dksX1_changes_2 9 rfl rfl)
theorem dX1_changes_59 : decode cX1_changes 59 = .ok (.aload 4, 2) := dk_25 4 (dk_at dksX1_changes_2 12 rfl rfl)
theorem dX1_changes_61 : decode cX1_changes 61 = .ok (.iload 5, 2) := dk_21 5 (dk_at dksX1_changes_2 14 rfl rfl)
theorem dX1_changes_63 : decode cX1_changes 63 = .ok (.iaload, 1) := dk_46 (dk_at dksX1_changes_2 16 rfl rfl)
theorem dX1_changes_64 : decode cX1_changes 64 = .ok (.if_icmp .ne 7, 3) := dk_160 0 7 (dk_at dksX1_changes_2 17 rfl rfl)
theorem dX1_changes_67 : decode cX1_changes 67 = .ok (.iconst 0, 1) := dk_3 (dk_at dksX1_changes_2 20 rfl rfl)
theorem dX1_changes_68 : decode cX1_changes 68 = .ok (.goto 7, 3) := dk_167 0 7 (dk_at dksX1_changes_2 21 rfl rfl)
theorem dX1_changes_71 : decode cX1_changes 71 = .ok (.iconst 1, 1) := dk_4 (dk_at dksX1_changes_3 0 rfl rfl)
theorem dX1_changes_72 : decode cX1_changes 72 = .ok (.iload 5, 2) := dk_21 5 (dk_at dksX1_changes_3 1 rfl rfl)
theorem dX1_changes_74 : decode cX1_changes 74 = .ok (.ishl, 1) := dk_120 (dk_at dksX1_changes_3 3 rfl rfl)
theorem dX1_changes_75 : decode cX1_changes 75 = .ok (.ior, 1) := dk_128 (dk_at dksX1_changes_3 4 rfl rfl)
theorem dX1_changes_76 : decode cX1_changes 76 = .ok (.istore_n 3, 1) := dk_62 (dk_at dksX1_changes_3 5 rfl rfl)
theorem dX1_changes_77 : decode cX1_changes 77 = .ok (.iinc 5 1, 3) := dk_132 5 1 (dk_at dksX1_changes_3 6 rfl rfl)
theorem dX1_changes_80 : decode cX1_changes 80 = .ok (.goto (-35), 3) := dk_167 255 221 (dk_at dksX1_changes_3 9 rfl rfl)
theorem dX1_changes_83 : decode cX1_changes 83 = .ok (.aload_n 0, 1) := dk_42 (dk_at dksX1_changes_3 12 rfl rfl)
theorem dX1_changes_84 : decode cX1_changes 84 = .ok (.iload_n 3, 1) := dk_29 (dk_at dksX1_changes_3 13 rfl rfl)
theorem dX1_changes_85 : decode cX1_changes 85 = .ok (.invokevirtual 154, 3) := dk_182 0 154 (dk_at dksX1_changes_3 14 rfl rfl)
theorem dX1_changes_88 : decode cX1_changes 88 = .ok (.ireturn, 1) := dk_172 (dk_at dksX1_changes_3 17 rfl rfl)
abbrev cX1_shown : ByteArray := prog_5_method_11_code
def yX1_shown : MethodName := ⟨RX1, "shown", "(I)I"⟩
def dkwX1_shown_1 : List UInt8 := [172]
abbrev dktX1_shown_1 : List UInt8 := dkwX1_shown_1 ++ []
def dkwX1_shown_0 : List UInt8 := [42, 180, 0, 22, 27, 46, 2, 160, 0, 7, 27, 167, 0, 13, 42, 42, 180, 0, 22, 27, 46, 182, 0, 124]
abbrev dktX1_shown_0 : List UInt8 := dkwX1_shown_0 ++ dktX1_shown_1
theorem dksX1_shown_0 : cX1_shown.data.toList.drop 0 = dktX1_shown_0 := by decide +kernel
theorem dksX1_shown_1 : cX1_shown.data.toList.drop 24 = dktX1_shown_1 := dk_seg dksX1_shown_0 24 rfl rfl
theorem dX1_shown_0 : decode cX1_shown 0 = .ok (.aload_n 0, 1) := dk_42 (dk_at dksX1_shown_0 0 rfl rfl)
theorem dX1_shown_1 : decode cX1_shown 1 = .ok (.getfield 22, 3) := dk_180 0 22 (dk_at dksX1_shown_0 1 rfl rfl)
theorem dX1_shown_4 : decode cX1_shown 4 = .ok (.iload_n 1, 1) := dk_27 (dk_at dksX1_shown_0 4 rfl rfl)
theorem dX1_shown_5 : decode cX1_shown 5 = .ok (.iaload, 1) := dk_46 (dk_at dksX1_shown_0 5 rfl rfl)
theorem dX1_shown_6 : decode cX1_shown 6 = .ok (.iconst (-1), 1) := dk_2 (dk_at dksX1_shown_0 6 rfl rfl)
theorem dX1_shown_7 : decode cX1_shown 7 = .ok (.if_icmp .ne 7, 3) := dk_160 0 7 (dk_at dksX1_shown_0 7 rfl rfl)
theorem dX1_shown_10 : decode cX1_shown 10 = .ok (.iload_n 1, 1) := dk_27 (dk_at dksX1_shown_0 10 rfl rfl)
theorem dX1_shown_11 : decode cX1_shown 11 = .ok (.goto 13, 3) := dk_167 0 13 (dk_at dksX1_shown_0 11 rfl rfl)
theorem dX1_shown_14 : decode cX1_shown 14 = .ok (.aload_n 0, 1) := dk_42 (dk_at dksX1_shown_0 14 rfl rfl)
theorem dX1_shown_15 : decode cX1_shown 15 = .ok (.aload_n 0, 1) := dk_42 (dk_at dksX1_shown_0 15 rfl rfl)
theorem dX1_shown_16 : decode cX1_shown 16 = .ok (.getfield 22, 3) := dk_180 0 22 (dk_at dksX1_shown_0 16 rfl rfl)
theorem dX1_shown_19 : decode cX1_shown 19 = .ok (.iload_n 1, 1) := dk_27 (dk_at dksX1_shown_0 19 rfl rfl)
theorem dX1_shown_20 : decode cX1_shown 20 = .ok (.iaload, 1) := dk_46 (dk_at dksX1_shown_0 20 rfl rfl)
theorem dX1_shown_21 : decode cX1_shown 21 = .ok (.invokevirtual 124, 3) := dk_182 0 124 (dk_at dksX1_shown_0 21 rfl rfl)
theorem dX1_shown_24 : decode cX1_shown 24 = .ok (.ireturn, 1) := dk_172 (dk_at dksX1_shown_1 0 rfl rfl)
abbrev cX1_places : ByteArray := prog_5_method_14_code
def yX1_places : MethodName := ⟨RX1, "places", "(I)I"⟩
def dkwX1_places_3 : List UInt8 := [167, 255, 222, 132, 3, 1, 167, 255, 186, 28, 172]
abbrev dktX1_places_3 : List UInt8 := dkwX1_places_3 ++ []
def dkwX1_places_2 : List UInt8 := [185, 0, 147, 1, 0, 192, 0, 99, 58, 5, 28, 27, 25, 5, 182, 0, 151, 122, 4, 126, 96, 61]
abbrev dktX1_places_2 : List UInt8 := dkwX1_places_2 ++ dktX1_places_3
def dkwX1_places_1 : List UInt8 := [192, 0, 33, 180, 0, 91, 182, 0, 137, 58, 4, 25, 4, 185, 0, 141, 1, 0, 153, 0, 30, 25, 4]
abbrev dktX1_places_1 : List UInt8 := dkwX1_places_1 ++ dktX1_places_2
def dkwX1_places_0 : List UInt8 := [3, 61, 3, 62, 29, 42, 180, 0, 12, 182, 0, 29, 162, 0, 65, 42, 180, 0, 12, 29, 182, 0, 35]
abbrev dktX1_places_0 : List UInt8 := dkwX1_places_0 ++ dktX1_places_1
theorem dksX1_places_0 : cX1_places.data.toList.drop 0 = dktX1_places_0 := by decide +kernel
theorem dksX1_places_1 : cX1_places.data.toList.drop 23 = dktX1_places_1 := dk_seg dksX1_places_0 23 rfl rfl
theorem dksX1_places_2 : cX1_places.data.toList.drop 46 = dktX1_places_2 := dk_seg dksX1_places_1 23 rfl rfl
theorem dksX1_places_3 : cX1_places.data.toList.drop 68 = dktX1_places_3 := dk_seg dksX1_places_2 22 rfl rfl
theorem dX1_places_0 : decode cX1_places 0 = .ok (.iconst 0, 1) := dk_3 (dk_at dksX1_places_0 0 rfl rfl)
theorem dX1_places_1 : decode cX1_places 1 = .ok (.istore_n 2, 1) := dk_61 (dk_at dksX1_places_0 1 rfl rfl)
theorem dX1_places_2 : decode cX1_places 2 = .ok (.iconst 0, 1) := dk_3 (dk_at dksX1_places_0 2 rfl rfl)
theorem dX1_places_3 : decode cX1_places 3 = .ok (.istore_n 3, 1) := dk_62 (dk_at dksX1_places_0 3 rfl rfl)
theorem dX1_places_4 : decode cX1_places 4 = .ok (.iload_n 3, 1) := dk_29 (dk_at dksX1_places_0 4 rfl rfl)
theorem dX1_places_5 : decode cX1_places 5 = .ok (.aload_n 0, 1) := dk_42 (dk_at dksX1_places_0 5 rfl rfl)
theorem dX1_places_6 : decode cX1_places 6 = .ok (.getfield 12, 3) := dk_180 0 12 (dk_at dksX1_places_0 6 rfl rfl)
theorem dX1_places_9 : decode cX1_places 9 = .ok (.invokevirtual 29, 3) := dk_182 0 29 (dk_at dksX1_places_0 9 rfl rfl)
theorem dX1_places_12 : decode cX1_places 12 = .ok (.if_icmp .ge 65, 3) := dk_162 0 65 (dk_at dksX1_places_0 12 rfl rfl)
theorem dX1_places_15 : decode cX1_places 15 = .ok (.aload_n 0, 1) := dk_42 (dk_at dksX1_places_0 15 rfl rfl)
theorem dX1_places_16 : decode cX1_places 16 = .ok (.getfield 12, 3) := dk_180 0 12 (dk_at dksX1_places_0 16 rfl rfl)
theorem dX1_places_19 : decode cX1_places 19 = .ok (.iload_n 3, 1) := dk_29 (dk_at dksX1_places_0 19 rfl rfl)
theorem dX1_places_20 : decode cX1_places 20 = .ok (.invokevirtual 35, 3) := dk_182 0 35 (dk_at dksX1_places_0 20 rfl rfl)
theorem dX1_places_23 : decode cX1_places 23 = .ok (.checkcast 33, 3) := dk_192 0 33 (dk_at dksX1_places_1 0 rfl rfl)
theorem dX1_places_26 : decode cX1_places 26 = .ok (.getfield 91, 3) := dk_180 0 91 (dk_at dksX1_places_1 3 rfl rfl)
theorem dX1_places_29 : decode cX1_places 29 = .ok (.invokevirtual 137, 3) := dk_182 0 137 (dk_at dksX1_places_1 6 rfl rfl)
theorem dX1_places_32 : decode cX1_places 32 = .ok (.astore 4, 2) := dk_58 4 (dk_at dksX1_places_1 9 rfl rfl)
theorem dX1_places_34 : decode cX1_places 34 = .ok (.aload 4, 2) := dk_25 4 (dk_at dksX1_places_1 11 rfl rfl)
theorem dX1_places_36 : decode cX1_places 36 = .ok (.invokeinterface 141 1, 5) := by decide +kernel
theorem dX1_places_41 : decode cX1_places 41 = .ok (.ifCond .eq 30, 3) := dk_153 0 30 (dk_at dksX1_places_1 18 rfl rfl)
theorem dX1_places_44 : decode cX1_places 44 = .ok (.aload 4, 2) := dk_25 4 (dk_at dksX1_places_1 21 rfl rfl)
theorem dX1_places_46 : decode cX1_places 46 = .ok (.invokeinterface 147 1, 5) := by decide +kernel
theorem dX1_places_51 : decode cX1_places 51 = .ok (.checkcast 99, 3) := dk_192 0 99 (dk_at dksX1_places_2 5 rfl rfl)
theorem dX1_places_54 : decode cX1_places 54 = .ok (.astore 5, 2) := dk_58 5 (dk_at dksX1_places_2 8 rfl rfl)
theorem dX1_places_56 : decode cX1_places 56 = .ok (.iload_n 2, 1) := dk_28 (dk_at dksX1_places_2 10 rfl rfl)
theorem dX1_places_57 : decode cX1_places 57 = .ok (.iload_n 1, 1) := dk_27 (dk_at dksX1_places_2 11 rfl rfl)
theorem dX1_places_58 : decode cX1_places 58 = .ok (.aload 5, 2) := dk_25 5 (dk_at dksX1_places_2 12 rfl rfl)
theorem dX1_places_60 : decode cX1_places 60 = .ok (.invokevirtual 151, 3) := dk_182 0 151 (dk_at dksX1_places_2 14 rfl rfl)
theorem dX1_places_63 : decode cX1_places 63 = .ok (.ishr, 1) := dk_122 (dk_at dksX1_places_2 17 rfl rfl)
theorem dX1_places_64 : decode cX1_places 64 = .ok (.iconst 1, 1) := dk_4 (dk_at dksX1_places_2 18 rfl rfl)
theorem dX1_places_65 : decode cX1_places 65 = .ok (.iand, 1) := dk_126 (dk_at dksX1_places_2 19 rfl rfl)
theorem dX1_places_66 : decode cX1_places 66 = .ok (.iadd, 1) := dk_96 (dk_at dksX1_places_2 20 rfl rfl)
theorem dX1_places_67 : decode cX1_places 67 = .ok (.istore_n 2, 1) := dk_61 (dk_at dksX1_places_2 21 rfl rfl)
theorem dX1_places_68 : decode cX1_places 68 = .ok (.goto (-34), 3) := dk_167 255 222 (dk_at dksX1_places_3 0 rfl rfl)
theorem dX1_places_71 : decode cX1_places 71 = .ok (.iinc 3 1, 3) := dk_132 3 1 (dk_at dksX1_places_3 3 rfl rfl)
theorem dX1_places_74 : decode cX1_places 74 = .ok (.goto (-70), 3) := dk_167 255 186 (dk_at dksX1_places_3 6 rfl rfl)
theorem dX1_places_77 : decode cX1_places 77 = .ok (.iload_n 2, 1) := dk_28 (dk_at dksX1_places_3 9 rfl rfl)
theorem dX1_places_78 : decode cX1_places 78 = .ok (.ireturn, 1) := dk_172 (dk_at dksX1_places_3 10 rfl rfl)
abbrev cX1_uncorrects : ByteArray := prog_5_method_18_code
def yX1_uncorrects : MethodName := ⟨RX1, "uncorrects", "(I)I"⟩
def dkwX1_uncorrects_1 : List UInt8 := [18, 159, 184, 0, 57, 42, 27, 2, 182, 0, 163, 172]
abbrev dktX1_uncorrects_1 : List UInt8 := dkwX1_uncorrects_1 ++ []
def dkwX1_uncorrects_0 : List UInt8 := [27, 184, 0, 84, 18, 56, 184, 0, 57, 42, 180, 0, 22, 27, 46, 2, 159, 0, 7, 4, 167, 0, 4, 3]
abbrev dktX1_uncorrects_0 : List UInt8 := dkwX1_uncorrects_0 ++ dktX1_uncorrects_1
theorem dksX1_uncorrects_0 : cX1_uncorrects.data.toList.drop 0 = dktX1_uncorrects_0 := by decide +kernel
theorem dksX1_uncorrects_1 : cX1_uncorrects.data.toList.drop 24 = dktX1_uncorrects_1 := dk_seg dksX1_uncorrects_0 24 rfl rfl
theorem dX1_uncorrects_0 : decode cX1_uncorrects 0 = .ok (.iload_n 1, 1) := dk_27 (dk_at dksX1_uncorrects_0 0 rfl rfl)
theorem dX1_uncorrects_1 : decode cX1_uncorrects 1 = .ok (.invokestatic 84, 3) := dk_184 0 84 (dk_at dksX1_uncorrects_0 1 rfl rfl)
theorem dX1_uncorrects_4 : decode cX1_uncorrects 4 = .ok (.ldc 56, 2) := dk_18 56 (dk_at dksX1_uncorrects_0 4 rfl rfl)
theorem dX1_uncorrects_6 : decode cX1_uncorrects 6 = .ok (.invokestatic 57, 3) := dk_184 0 57 (dk_at dksX1_uncorrects_0 6 rfl rfl)
theorem dX1_uncorrects_9 : decode cX1_uncorrects 9 = .ok (.aload_n 0, 1) := dk_42 (dk_at dksX1_uncorrects_0 9 rfl rfl)
theorem dX1_uncorrects_10 : decode cX1_uncorrects 10 = .ok (.getfield 22, 3) := dk_180 0 22 (dk_at dksX1_uncorrects_0 10 rfl rfl)
theorem dX1_uncorrects_13 : decode cX1_uncorrects 13 = .ok (.iload_n 1, 1) := dk_27 (dk_at dksX1_uncorrects_0 13 rfl rfl)
theorem dX1_uncorrects_14 : decode cX1_uncorrects 14 = .ok (.iaload, 1) := dk_46 (dk_at dksX1_uncorrects_0 14 rfl rfl)
theorem dX1_uncorrects_15 : decode cX1_uncorrects 15 = .ok (.iconst (-1), 1) := dk_2 (dk_at dksX1_uncorrects_0 15 rfl rfl)
theorem dX1_uncorrects_16 : decode cX1_uncorrects 16 = .ok (.if_icmp .eq 7, 3) := dk_159 0 7 (dk_at dksX1_uncorrects_0 16 rfl rfl)
theorem dX1_uncorrects_19 : decode cX1_uncorrects 19 = .ok (.iconst 1, 1) := dk_4 (dk_at dksX1_uncorrects_0 19 rfl rfl)
theorem dX1_uncorrects_20 : decode cX1_uncorrects 20 = .ok (.goto 4, 3) := dk_167 0 4 (dk_at dksX1_uncorrects_0 20 rfl rfl)
theorem dX1_uncorrects_23 : decode cX1_uncorrects 23 = .ok (.iconst 0, 1) := dk_3 (dk_at dksX1_uncorrects_0 23 rfl rfl)
theorem dX1_uncorrects_24 : decode cX1_uncorrects 24 = .ok (.ldc 159, 2) := dk_18 159 (dk_at dksX1_uncorrects_1 0 rfl rfl)
theorem dX1_uncorrects_26 : decode cX1_uncorrects 26 = .ok (.invokestatic 57, 3) := dk_184 0 57 (dk_at dksX1_uncorrects_1 2 rfl rfl)
theorem dX1_uncorrects_29 : decode cX1_uncorrects 29 = .ok (.aload_n 0, 1) := dk_42 (dk_at dksX1_uncorrects_1 5 rfl rfl)
theorem dX1_uncorrects_30 : decode cX1_uncorrects 30 = .ok (.iload_n 1, 1) := dk_27 (dk_at dksX1_uncorrects_1 6 rfl rfl)
theorem dX1_uncorrects_31 : decode cX1_uncorrects 31 = .ok (.iconst (-1), 1) := dk_2 (dk_at dksX1_uncorrects_1 7 rfl rfl)
theorem dX1_uncorrects_32 : decode cX1_uncorrects 32 = .ok (.invokevirtual 163, 3) := dk_182 0 163 (dk_at dksX1_uncorrects_1 8 rfl rfl)
theorem dX1_uncorrects_35 : decode cX1_uncorrects 35 = .ok (.ireturn, 1) := dk_172 (dk_at dksX1_uncorrects_1 11 rfl rfl)
abbrev cX1_comesSpeaker : ByteArray := prog_5_method_19_code
def yX1_comesSpeaker : MethodName := ⟨RX1, "comesSpeaker", "(I)I"⟩
def dkwX1_comesSpeaker_2 : List UInt8 := [184, 0, 57, 42, 180, 0, 18, 28, 27, 79, 28, 172]
abbrev dktX1_comesSpeaker_2 : List UInt8 := dkwX1_comesSpeaker_2 ++ []
def dkwX1_comesSpeaker_1 : List UInt8 := [158, 0, 9, 132, 2, 1, 167, 255, 238, 28, 16, 6, 162, 0, 7, 4, 167, 0, 4, 3, 18, 74]
abbrev dktX1_comesSpeaker_1 : List UInt8 := dkwX1_comesSpeaker_1 ++ dktX1_comesSpeaker_2
def dkwX1_comesSpeaker_0 : List UInt8 := [27, 184, 0, 71, 18, 56, 184, 0, 57, 3, 61, 28, 16, 6, 162, 0, 18, 42, 180, 0, 18, 28, 46]
abbrev dktX1_comesSpeaker_0 : List UInt8 := dkwX1_comesSpeaker_0 ++ dktX1_comesSpeaker_1
theorem dksX1_comesSpeaker_0 : cX1_comesSpeaker.data.toList.drop 0 = dktX1_comesSpeaker_0 := by decide +kernel
theorem dksX1_comesSpeaker_1 : cX1_comesSpeaker.data.toList.drop 23 = dktX1_comesSpeaker_1 := dk_seg dksX1_comesSpeaker_0 23 rfl rfl
theorem dksX1_comesSpeaker_2 : cX1_comesSpeaker.data.toList.drop 45 = dktX1_comesSpeaker_2 := dk_seg dksX1_comesSpeaker_1 22 rfl rfl
theorem dX1_comesSpeaker_0 : decode cX1_comesSpeaker 0 = .ok (.iload_n 1, 1) := dk_27 (dk_at dksX1_comesSpeaker_0 0 rfl rfl)
theorem dX1_comesSpeaker_1 : decode cX1_comesSpeaker 1 = .ok (.invokestatic 71, 3) := dk_184 0 71 (dk_at dksX1_comesSpeaker_0 1 rfl rfl)
theorem dX1_comesSpeaker_4 : decode cX1_comesSpeaker 4 = .ok (.ldc 56, 2) := dk_18 56 (dk_at dksX1_comesSpeaker_0 4 rfl rfl)
theorem dX1_comesSpeaker_6 : decode cX1_comesSpeaker 6 = .ok (.invokestatic 57, 3) := dk_184 0 57 (dk_at dksX1_comesSpeaker_0 6 rfl rfl)
theorem dX1_comesSpeaker_9 : decode cX1_comesSpeaker 9 = .ok (.iconst 0, 1) := dk_3 (dk_at dksX1_comesSpeaker_0 9 rfl rfl)
theorem dX1_comesSpeaker_10 : decode cX1_comesSpeaker 10 = .ok (.istore_n 2, 1) := dk_61 (dk_at dksX1_comesSpeaker_0 10 rfl rfl)
theorem dX1_comesSpeaker_11 : decode cX1_comesSpeaker 11 = .ok (.iload_n 2, 1) := dk_28 (dk_at dksX1_comesSpeaker_0 11 rfl rfl)
theorem dX1_comesSpeaker_12 : decode cX1_comesSpeaker 12 = .ok (.bipush 6, 2) := dk_16 6 (dk_at dksX1_comesSpeaker_0 12 rfl rfl)
theorem dX1_comesSpeaker_14 : decode cX1_comesSpeaker 14 = .ok (.if_icmp .ge 18, 3) := dk_162 0 18 (dk_at dksX1_comesSpeaker_0 14 rfl rfl)
theorem dX1_comesSpeaker_17 : decode cX1_comesSpeaker 17 = .ok (.aload_n 0, 1) := dk_42 (dk_at dksX1_comesSpeaker_0 17 rfl rfl)
theorem dX1_comesSpeaker_18 : decode cX1_comesSpeaker 18 = .ok (.getfield 18, 3) := dk_180 0 18 (dk_at dksX1_comesSpeaker_0 18 rfl rfl)
theorem dX1_comesSpeaker_21 : decode cX1_comesSpeaker 21 = .ok (.iload_n 2, 1) := dk_28 (dk_at dksX1_comesSpeaker_0 21 rfl rfl)
theorem dX1_comesSpeaker_22 : decode cX1_comesSpeaker 22 = .ok (.iaload, 1) := dk_46 (dk_at dksX1_comesSpeaker_0 22 rfl rfl)
theorem dX1_comesSpeaker_23 : decode cX1_comesSpeaker 23 = .ok (.ifCond .le 9, 3) := dk_158 0 9 (dk_at dksX1_comesSpeaker_1 0 rfl rfl)
theorem dX1_comesSpeaker_26 : decode cX1_comesSpeaker 26 = .ok (.iinc 2 1, 3) := dk_132 2 1 (dk_at dksX1_comesSpeaker_1 3 rfl rfl)
theorem dX1_comesSpeaker_29 : decode cX1_comesSpeaker 29 = .ok (.goto (-18), 3) := dk_167 255 238 (dk_at dksX1_comesSpeaker_1 6 rfl rfl)
theorem dX1_comesSpeaker_32 : decode cX1_comesSpeaker 32 = .ok (.iload_n 2, 1) := dk_28 (dk_at dksX1_comesSpeaker_1 9 rfl rfl)
theorem dX1_comesSpeaker_33 : decode cX1_comesSpeaker 33 = .ok (.bipush 6, 2) := dk_16 6 (dk_at dksX1_comesSpeaker_1 10 rfl rfl)
theorem dX1_comesSpeaker_35 : decode cX1_comesSpeaker 35 = .ok (.if_icmp .ge 7, 3) := dk_162 0 7 (dk_at dksX1_comesSpeaker_1 12 rfl rfl)
theorem dX1_comesSpeaker_38 : decode cX1_comesSpeaker 38 = .ok (.iconst 1, 1) := dk_4 (dk_at dksX1_comesSpeaker_1 15 rfl rfl)
theorem dX1_comesSpeaker_39 : decode cX1_comesSpeaker 39 = .ok (.goto 4, 3) := dk_167 0 4 (dk_at dksX1_comesSpeaker_1 16 rfl rfl)
theorem dX1_comesSpeaker_42 : decode cX1_comesSpeaker 42 = .ok (.iconst 0, 1) := dk_3 (dk_at dksX1_comesSpeaker_1 19 rfl rfl)
theorem dX1_comesSpeaker_43 : decode cX1_comesSpeaker 43 = .ok (.ldc 74, 2) := dk_18 74 (dk_at dksX1_comesSpeaker_1 20 rfl rfl)
theorem dX1_comesSpeaker_45 : decode cX1_comesSpeaker 45 = .ok (.invokestatic 57, 3) := dk_184 0 57 (dk_at dksX1_comesSpeaker_2 0 rfl rfl)
theorem dX1_comesSpeaker_48 : decode cX1_comesSpeaker 48 = .ok (.aload_n 0, 1) := dk_42 (dk_at dksX1_comesSpeaker_2 3 rfl rfl)
theorem dX1_comesSpeaker_49 : decode cX1_comesSpeaker 49 = .ok (.getfield 18, 3) := dk_180 0 18 (dk_at dksX1_comesSpeaker_2 4 rfl rfl)
theorem dX1_comesSpeaker_52 : decode cX1_comesSpeaker 52 = .ok (.iload_n 2, 1) := dk_28 (dk_at dksX1_comesSpeaker_2 7 rfl rfl)
theorem dX1_comesSpeaker_53 : decode cX1_comesSpeaker 53 = .ok (.iload_n 1, 1) := dk_27 (dk_at dksX1_comesSpeaker_2 8 rfl rfl)
theorem dX1_comesSpeaker_54 : decode cX1_comesSpeaker 54 = .ok (.iastore, 1) := dk_79 (dk_at dksX1_comesSpeaker_2 9 rfl rfl)
theorem dX1_comesSpeaker_55 : decode cX1_comesSpeaker 55 = .ok (.iload_n 2, 1) := dk_28 (dk_at dksX1_comesSpeaker_2 10 rfl rfl)
theorem dX1_comesSpeaker_56 : decode cX1_comesSpeaker 56 = .ok (.ireturn, 1) := dk_172 (dk_at dksX1_comesSpeaker_2 11 rfl rfl)
abbrev cX1_gives : ByteArray := prog_5_method_22_code
def yX1_gives : MethodName := ⟨RX1, "gives", "(II)I"⟩
def dkwX1_gives_2 : List UInt8 := [28, 46, 172]
abbrev dktX1_gives_2 : List UInt8 := dkwX1_gives_2 ++ []
def dkwX1_gives_1 : List UInt8 := [4, 167, 0, 4, 3, 18, 159, 184, 0, 57, 45, 28, 181, 0, 81, 42, 28, 182, 0, 173, 42, 180, 0, 18]
abbrev dktX1_gives_1 : List UInt8 := dkwX1_gives_1 ++ dktX1_gives_2
def dkwX1_gives_0 : List UInt8 := [42, 28, 182, 0, 170, 18, 56, 184, 0, 57, 42, 27, 182, 0, 87, 78, 45, 180, 0, 81, 28, 159, 0, 7]
abbrev dktX1_gives_0 : List UInt8 := dkwX1_gives_0 ++ dktX1_gives_1
theorem dksX1_gives_0 : cX1_gives.data.toList.drop 0 = dktX1_gives_0 := by decide +kernel
theorem dksX1_gives_1 : cX1_gives.data.toList.drop 24 = dktX1_gives_1 := dk_seg dksX1_gives_0 24 rfl rfl
theorem dksX1_gives_2 : cX1_gives.data.toList.drop 48 = dktX1_gives_2 := dk_seg dksX1_gives_1 24 rfl rfl
theorem dX1_gives_0 : decode cX1_gives 0 = .ok (.aload_n 0, 1) := dk_42 (dk_at dksX1_gives_0 0 rfl rfl)
theorem dX1_gives_1 : decode cX1_gives 1 = .ok (.iload_n 2, 1) := dk_28 (dk_at dksX1_gives_0 1 rfl rfl)
theorem dX1_gives_2 : decode cX1_gives 2 = .ok (.invokevirtual 170, 3) := dk_182 0 170 (dk_at dksX1_gives_0 2 rfl rfl)
theorem dX1_gives_5 : decode cX1_gives 5 = .ok (.ldc 56, 2) := dk_18 56 (dk_at dksX1_gives_0 5 rfl rfl)
theorem dX1_gives_7 : decode cX1_gives 7 = .ok (.invokestatic 57, 3) := dk_184 0 57 (dk_at dksX1_gives_0 7 rfl rfl)
theorem dX1_gives_10 : decode cX1_gives 10 = .ok (.aload_n 0, 1) := dk_42 (dk_at dksX1_gives_0 10 rfl rfl)
theorem dX1_gives_11 : decode cX1_gives 11 = .ok (.iload_n 1, 1) := dk_27 (dk_at dksX1_gives_0 11 rfl rfl)
theorem dX1_gives_12 : decode cX1_gives 12 = .ok (.invokevirtual 87, 3) := dk_182 0 87 (dk_at dksX1_gives_0 12 rfl rfl)
theorem dX1_gives_15 : decode cX1_gives 15 = .ok (.astore_n 3, 1) := dk_78 (dk_at dksX1_gives_0 15 rfl rfl)
theorem dX1_gives_16 : decode cX1_gives 16 = .ok (.aload_n 3, 1) := dk_45 (dk_at dksX1_gives_0 16 rfl rfl)
theorem dX1_gives_17 : decode cX1_gives 17 = .ok (.getfield 81, 3) := dk_180 0 81 (dk_at dksX1_gives_0 17 rfl rfl)
theorem dX1_gives_20 : decode cX1_gives 20 = .ok (.iload_n 2, 1) := dk_28 (dk_at dksX1_gives_0 20 rfl rfl)
theorem dX1_gives_21 : decode cX1_gives 21 = .ok (.if_icmp .eq 7, 3) := dk_159 0 7 (dk_at dksX1_gives_0 21 rfl rfl)
theorem dX1_gives_24 : decode cX1_gives 24 = .ok (.iconst 1, 1) := dk_4 (dk_at dksX1_gives_1 0 rfl rfl)
theorem dX1_gives_25 : decode cX1_gives 25 = .ok (.goto 4, 3) := dk_167 0 4 (dk_at dksX1_gives_1 1 rfl rfl)
theorem dX1_gives_28 : decode cX1_gives 28 = .ok (.iconst 0, 1) := dk_3 (dk_at dksX1_gives_1 4 rfl rfl)
theorem dX1_gives_29 : decode cX1_gives 29 = .ok (.ldc 159, 2) := dk_18 159 (dk_at dksX1_gives_1 5 rfl rfl)
theorem dX1_gives_31 : decode cX1_gives 31 = .ok (.invokestatic 57, 3) := dk_184 0 57 (dk_at dksX1_gives_1 7 rfl rfl)
theorem dX1_gives_34 : decode cX1_gives 34 = .ok (.aload_n 3, 1) := dk_45 (dk_at dksX1_gives_1 10 rfl rfl)
theorem dX1_gives_35 : decode cX1_gives 35 = .ok (.iload_n 2, 1) := dk_28 (dk_at dksX1_gives_1 11 rfl rfl)
theorem dX1_gives_36 : decode cX1_gives 36 = .ok (.putfield 81, 3) := dk_181 0 81 (dk_at dksX1_gives_1 12 rfl rfl)
theorem dX1_gives_39 : decode cX1_gives 39 = .ok (.aload_n 0, 1) := dk_42 (dk_at dksX1_gives_1 15 rfl rfl)
theorem dX1_gives_40 : decode cX1_gives 40 = .ok (.iload_n 2, 1) := dk_28 (dk_at dksX1_gives_1 16 rfl rfl)
theorem dX1_gives_41 : decode cX1_gives 41 = .ok (.invokevirtual 173, 3) := dk_182 0 173 (dk_at dksX1_gives_1 17 rfl rfl)
theorem dX1_gives_44 : decode cX1_gives 44 = .ok (.aload_n 0, 1) := dk_42 (dk_at dksX1_gives_1 20 rfl rfl)
theorem dX1_gives_45 : decode cX1_gives 45 = .ok (.getfield 18, 3) := dk_180 0 18 (dk_at dksX1_gives_1 21 rfl rfl)
theorem dX1_gives_48 : decode cX1_gives 48 = .ok (.iload_n 2, 1) := dk_28 (dk_at dksX1_gives_2 0 rfl rfl)
theorem dX1_gives_49 : decode cX1_gives 49 = .ok (.iaload, 1) := dk_46 (dk_at dksX1_gives_2 1 rfl rfl)
theorem dX1_gives_50 : decode cX1_gives 50 = .ok (.ireturn, 1) := dk_172 (dk_at dksX1_gives_2 2 rfl rfl)
abbrev cX1_isSpeaker : ByteArray := prog_5_method_4_code
def yX1_isSpeaker : MethodName := ⟨RX1, "isSpeaker", "(I)Z"⟩
def dkwX1_isSpeaker_1 : List UInt8 := [167, 0, 4, 3, 172]
abbrev dktX1_isSpeaker_1 : List UInt8 := dkwX1_isSpeaker_1 ++ []
def dkwX1_isSpeaker_0 : List UInt8 := [27, 133, 9, 20, 0, 50, 184, 0, 46, 153, 0, 16, 42, 180, 0, 18, 27, 46, 158, 0, 7, 4]
abbrev dktX1_isSpeaker_0 : List UInt8 := dkwX1_isSpeaker_0 ++ dktX1_isSpeaker_1
theorem dksX1_isSpeaker_0 : cX1_isSpeaker.data.toList.drop 0 = dktX1_isSpeaker_0 := by decide +kernel
theorem dksX1_isSpeaker_1 : cX1_isSpeaker.data.toList.drop 22 = dktX1_isSpeaker_1 := dk_seg dksX1_isSpeaker_0 22 rfl rfl
theorem dX1_isSpeaker_0 : decode cX1_isSpeaker 0 = .ok (.iload_n 1, 1) := dk_27 (dk_at dksX1_isSpeaker_0 0 rfl rfl)
theorem dX1_isSpeaker_1 : decode cX1_isSpeaker 1 = .ok (.i2l, 1) := dk_133 (dk_at dksX1_isSpeaker_0 1 rfl rfl)
theorem dX1_isSpeaker_2 : decode cX1_isSpeaker 2 = .ok (.lconst 0, 1) := dk_9 (dk_at dksX1_isSpeaker_0 2 rfl rfl)
theorem dX1_isSpeaker_3 : decode cX1_isSpeaker 3 = .ok (.ldc2_w 50, 3) := dk_20 0 50 (dk_at dksX1_isSpeaker_0 3 rfl rfl)
theorem dX1_isSpeaker_6 : decode cX1_isSpeaker 6 = .ok (.invokestatic 46, 3) := dk_184 0 46 (dk_at dksX1_isSpeaker_0 6 rfl rfl)
theorem dX1_isSpeaker_9 : decode cX1_isSpeaker 9 = .ok (.ifCond .eq 16, 3) := dk_153 0 16 (dk_at dksX1_isSpeaker_0 9 rfl rfl)
theorem dX1_isSpeaker_12 : decode cX1_isSpeaker 12 = .ok (.aload_n 0, 1) := dk_42 (dk_at dksX1_isSpeaker_0 12 rfl rfl)
theorem dX1_isSpeaker_13 : decode cX1_isSpeaker 13 = .ok (.getfield 18, 3) := dk_180 0 18 (dk_at dksX1_isSpeaker_0 13 rfl rfl)
theorem dX1_isSpeaker_16 : decode cX1_isSpeaker 16 = .ok (.iload_n 1, 1) := dk_27 (dk_at dksX1_isSpeaker_0 16 rfl rfl)
theorem dX1_isSpeaker_17 : decode cX1_isSpeaker 17 = .ok (.iaload, 1) := dk_46 (dk_at dksX1_isSpeaker_0 17 rfl rfl)
theorem dX1_isSpeaker_18 : decode cX1_isSpeaker 18 = .ok (.ifCond .le 7, 3) := dk_158 0 7 (dk_at dksX1_isSpeaker_0 18 rfl rfl)
theorem dX1_isSpeaker_21 : decode cX1_isSpeaker 21 = .ok (.iconst 1, 1) := dk_4 (dk_at dksX1_isSpeaker_0 21 rfl rfl)
theorem dX1_isSpeaker_22 : decode cX1_isSpeaker 22 = .ok (.goto 4, 3) := dk_167 0 4 (dk_at dksX1_isSpeaker_1 0 rfl rfl)
theorem dX1_isSpeaker_25 : decode cX1_isSpeaker 25 = .ok (.iconst 0, 1) := dk_3 (dk_at dksX1_isSpeaker_1 3 rfl rfl)
theorem dX1_isSpeaker_26 : decode cX1_isSpeaker 26 = .ok (.ireturn, 1) := dk_172 (dk_at dksX1_isSpeaker_1 4 rfl rfl)
abbrev cX1_average : ByteArray := prog_5_method_21_code
def yX1_average : MethodName := ⟨RX1, "average", "(I)V"⟩
def dkwX1_average_3 : List UInt8 := [180, 0, 18, 27, 28, 154, 0, 12, 42, 180, 0, 18, 27, 46, 167, 0, 6, 29, 28, 108, 79, 177]
abbrev dktX1_average_3 : List UInt8 := dkwX1_average_3 ++ []
def dkwX1_average_2 : List UInt8 := [21, 4, 182, 0, 35, 192, 0, 33, 180, 0, 114, 167, 0, 4, 3, 96, 62, 132, 4, 1, 167, 255, 200, 42]
abbrev dktX1_average_2 : List UInt8 := dkwX1_average_2 ++ dktX1_average_3
def dkwX1_average_1 : List UInt8 := [42, 180, 0, 12, 21, 4, 182, 0, 35, 192, 0, 33, 180, 0, 81, 27, 160, 0, 21, 42, 180, 0, 12]
abbrev dktX1_average_1 : List UInt8 := dkwX1_average_1 ++ dktX1_average_2
def dkwX1_average_0 : List UInt8 := [42, 27, 182, 0, 167, 61, 3, 62, 3, 54, 4, 21, 4, 42, 180, 0, 12, 182, 0, 29, 162, 0, 50, 29]
abbrev dktX1_average_0 : List UInt8 := dkwX1_average_0 ++ dktX1_average_1
theorem dksX1_average_0 : cX1_average.data.toList.drop 0 = dktX1_average_0 := by decide +kernel
theorem dksX1_average_1 : cX1_average.data.toList.drop 24 = dktX1_average_1 := dk_seg dksX1_average_0 24 rfl rfl
theorem dksX1_average_2 : cX1_average.data.toList.drop 47 = dktX1_average_2 := dk_seg dksX1_average_1 23 rfl rfl
theorem dksX1_average_3 : cX1_average.data.toList.drop 71 = dktX1_average_3 := dk_seg dksX1_average_2 24 rfl rfl
theorem dX1_average_0 : decode cX1_average 0 = .ok (.aload_n 0, 1) := dk_42 (dk_at dksX1_average_0 0 rfl rfl)
theorem dX1_average_1 : decode cX1_average 1 = .ok (.iload_n 1, 1) := dk_27 (dk_at dksX1_average_0 1 rfl rfl)
theorem dX1_average_2 : decode cX1_average 2 = .ok (.invokevirtual 167, 3) := dk_182 0 167 (dk_at dksX1_average_0 2 rfl rfl)
theorem dX1_average_5 : decode cX1_average 5 = .ok (.istore_n 2, 1) := dk_61 (dk_at dksX1_average_0 5 rfl rfl)
theorem dX1_average_6 : decode cX1_average 6 = .ok (.iconst 0, 1) := dk_3 (dk_at dksX1_average_0 6 rfl rfl)
theorem dX1_average_7 : decode cX1_average 7 = .ok (.istore_n 3, 1) := dk_62 (dk_at dksX1_average_0 7 rfl rfl)
theorem dX1_average_8 : decode cX1_average 8 = .ok (.iconst 0, 1) := dk_3 (dk_at dksX1_average_0 8 rfl rfl)
theorem dX1_average_9 : decode cX1_average 9 = .ok (.istore 4, 2) := dk_54 4 (dk_at dksX1_average_0 9 rfl rfl)
theorem dX1_average_11 : decode cX1_average 11 = .ok (.iload 4, 2) := dk_21 4 (dk_at dksX1_average_0 11 rfl rfl)
theorem dX1_average_13 : decode cX1_average 13 = .ok (.aload_n 0, 1) := dk_42 (dk_at dksX1_average_0 13 rfl rfl)
theorem dX1_average_14 : decode cX1_average 14 = .ok (.getfield 12, 3) := dk_180 0 12 (dk_at dksX1_average_0 14 rfl rfl)
theorem dX1_average_17 : decode cX1_average 17 = .ok (.invokevirtual 29, 3) := dk_182 0 29 (dk_at dksX1_average_0 17 rfl rfl)
theorem dX1_average_20 : decode cX1_average 20 = .ok (.if_icmp .ge 50, 3) := dk_162 0 50 (dk_at dksX1_average_0 20 rfl rfl)
theorem dX1_average_23 : decode cX1_average 23 = .ok (.iload_n 3, 1) := dk_29 (dk_at dksX1_average_0 23 rfl rfl)
theorem dX1_average_24 : decode cX1_average 24 = .ok (.aload_n 0, 1) := dk_42 (dk_at dksX1_average_1 0 rfl rfl)
theorem dX1_average_25 : decode cX1_average 25 = .ok (.getfield 12, 3) := dk_180 0 12 (dk_at dksX1_average_1 1 rfl rfl)
theorem dX1_average_28 : decode cX1_average 28 = .ok (.iload 4, 2) := dk_21 4 (dk_at dksX1_average_1 4 rfl rfl)
theorem dX1_average_30 : decode cX1_average 30 = .ok (.invokevirtual 35, 3) := dk_182 0 35 (dk_at dksX1_average_1 6 rfl rfl)
theorem dX1_average_33 : decode cX1_average 33 = .ok (.checkcast 33, 3) := dk_192 0 33 (dk_at dksX1_average_1 9 rfl rfl)
theorem dX1_average_36 : decode cX1_average 36 = .ok (.getfield 81, 3) := dk_180 0 81 (dk_at dksX1_average_1 12 rfl rfl)
theorem dX1_average_39 : decode cX1_average 39 = .ok (.iload_n 1, 1) := dk_27 (dk_at dksX1_average_1 15 rfl rfl)
theorem dX1_average_40 : decode cX1_average 40 = .ok (.if_icmp .ne 21, 3) := dk_160 0 21 (dk_at dksX1_average_1 16 rfl rfl)
theorem dX1_average_43 : decode cX1_average 43 = .ok (.aload_n 0, 1) := dk_42 (dk_at dksX1_average_1 19 rfl rfl)
theorem dX1_average_44 : decode cX1_average 44 = .ok (.getfield 12, 3) := dk_180 0 12 (dk_at dksX1_average_1 20 rfl rfl)
theorem dX1_average_47 : decode cX1_average 47 = .ok (.iload 4, 2) := dk_21 4 (dk_at dksX1_average_2 0 rfl rfl)
theorem dX1_average_49 : decode cX1_average 49 = .ok (.invokevirtual 35, 3) := dk_182 0 35 (dk_at dksX1_average_2 2 rfl rfl)
theorem dX1_average_52 : decode cX1_average 52 = .ok (.checkcast 33, 3) := dk_192 0 33 (dk_at dksX1_average_2 5 rfl rfl)
theorem dX1_average_55 : decode cX1_average 55 = .ok (.getfield 114, 3) := dk_180 0 114 (dk_at dksX1_average_2 8 rfl rfl)
theorem dX1_average_58 : decode cX1_average 58 = .ok (.goto 4, 3) := dk_167 0 4 (dk_at dksX1_average_2 11 rfl rfl)
theorem dX1_average_61 : decode cX1_average 61 = .ok (.iconst 0, 1) := dk_3 (dk_at dksX1_average_2 14 rfl rfl)
theorem dX1_average_62 : decode cX1_average 62 = .ok (.iadd, 1) := dk_96 (dk_at dksX1_average_2 15 rfl rfl)
theorem dX1_average_63 : decode cX1_average 63 = .ok (.istore_n 3, 1) := dk_62 (dk_at dksX1_average_2 16 rfl rfl)
theorem dX1_average_64 : decode cX1_average 64 = .ok (.iinc 4 1, 3) := dk_132 4 1 (dk_at dksX1_average_2 17 rfl rfl)
theorem dX1_average_67 : decode cX1_average 67 = .ok (.goto (-56), 3) := dk_167 255 200 (dk_at dksX1_average_2 20 rfl rfl)
theorem dX1_average_70 : decode cX1_average 70 = .ok (.aload_n 0, 1) := dk_42 (dk_at dksX1_average_2 23 rfl rfl)
theorem dX1_average_71 : decode cX1_average 71 = .ok (.getfield 18, 3) := dk_180 0 18 (dk_at dksX1_average_3 0 rfl rfl)
theorem dX1_average_74 : decode cX1_average 74 = .ok (.iload_n 1, 1) := dk_27 (dk_at dksX1_average_3 3 rfl rfl)
theorem dX1_average_75 : decode cX1_average 75 = .ok (.iload_n 2, 1) := dk_28 (dk_at dksX1_average_3 4 rfl rfl)
theorem dX1_average_76 : decode cX1_average 76 = .ok (.ifCond .ne 12, 3) := dk_154 0 12 (dk_at dksX1_average_3 5 rfl rfl)
theorem dX1_average_79 : decode cX1_average 79 = .ok (.aload_n 0, 1) := dk_42 (dk_at dksX1_average_3 8 rfl rfl)
theorem dX1_average_80 : decode cX1_average 80 = .ok (.getfield 18, 3) := dk_180 0 18 (dk_at dksX1_average_3 9 rfl rfl)
theorem dX1_average_83 : decode cX1_average 83 = .ok (.iload_n 1, 1) := dk_27 (dk_at dksX1_average_3 12 rfl rfl)
theorem dX1_average_84 : decode cX1_average 84 = .ok (.iaload, 1) := dk_46 (dk_at dksX1_average_3 13 rfl rfl)
theorem dX1_average_85 : decode cX1_average 85 = .ok (.goto 6, 3) := dk_167 0 6 (dk_at dksX1_average_3 14 rfl rfl)
theorem dX1_average_88 : decode cX1_average 88 = .ok (.iload_n 3, 1) := dk_29 (dk_at dksX1_average_3 17 rfl rfl)
theorem dX1_average_89 : decode cX1_average 89 = .ok (.iload_n 2, 1) := dk_28 (dk_at dksX1_average_3 18 rfl rfl)
theorem dX1_average_90 : decode cX1_average 90 = .ok (.idiv, 1) := dk_108 (dk_at dksX1_average_3 19 rfl rfl)
theorem dX1_average_91 : decode cX1_average 91 = .ok (.iastore, 1) := dk_79 (dk_at dksX1_average_3 20 rfl rfl)
theorem dX1_average_92 : decode cX1_average 92 = .ok (.return_, 1) := dk_177 (dk_at dksX1_average_3 21 rfl rfl)
abbrev cX1_turnsOf : ByteArray := prog_5_method_20_code
def yX1_turnsOf : MethodName := ⟨RX1, "turnsOf", "(I)I"⟩
def dkwX1_turnsOf_2 : List UInt8 := [172]
abbrev dktX1_turnsOf_2 : List UInt8 := dkwX1_turnsOf_2 ++ []
def dkwX1_turnsOf_1 : List UInt8 := [192, 0, 33, 180, 0, 81, 27, 160, 0, 7, 4, 167, 0, 4, 3, 96, 61, 132, 3, 1, 167, 255, 216, 28]
abbrev dktX1_turnsOf_1 : List UInt8 := dkwX1_turnsOf_1 ++ dktX1_turnsOf_2
def dkwX1_turnsOf_0 : List UInt8 := [3, 61, 3, 62, 29, 42, 180, 0, 12, 182, 0, 29, 162, 0, 35, 28, 42, 180, 0, 12, 29, 182, 0, 35]
abbrev dktX1_turnsOf_0 : List UInt8 := dkwX1_turnsOf_0 ++ dktX1_turnsOf_1
theorem dksX1_turnsOf_0 : cX1_turnsOf.data.toList.drop 0 = dktX1_turnsOf_0 := by decide +kernel
theorem dksX1_turnsOf_1 : cX1_turnsOf.data.toList.drop 24 = dktX1_turnsOf_1 := dk_seg dksX1_turnsOf_0 24 rfl rfl
theorem dksX1_turnsOf_2 : cX1_turnsOf.data.toList.drop 48 = dktX1_turnsOf_2 := dk_seg dksX1_turnsOf_1 24 rfl rfl
theorem dX1_turnsOf_0 : decode cX1_turnsOf 0 = .ok (.iconst 0, 1) := dk_3 (dk_at dksX1_turnsOf_0 0 rfl rfl)
theorem dX1_turnsOf_1 : decode cX1_turnsOf 1 = .ok (.istore_n 2, 1) := dk_61 (dk_at dksX1_turnsOf_0 1 rfl rfl)
theorem dX1_turnsOf_2 : decode cX1_turnsOf 2 = .ok (.iconst 0, 1) := dk_3 (dk_at dksX1_turnsOf_0 2 rfl rfl)
theorem dX1_turnsOf_3 : decode cX1_turnsOf 3 = .ok (.istore_n 3, 1) := dk_62 (dk_at dksX1_turnsOf_0 3 rfl rfl)
theorem dX1_turnsOf_4 : decode cX1_turnsOf 4 = .ok (.iload_n 3, 1) := dk_29 (dk_at dksX1_turnsOf_0 4 rfl rfl)
theorem dX1_turnsOf_5 : decode cX1_turnsOf 5 = .ok (.aload_n 0, 1) := dk_42 (dk_at dksX1_turnsOf_0 5 rfl rfl)
theorem dX1_turnsOf_6 : decode cX1_turnsOf 6 = .ok (.getfield 12, 3) := dk_180 0 12 (dk_at dksX1_turnsOf_0 6 rfl rfl)
theorem dX1_turnsOf_9 : decode cX1_turnsOf 9 = .ok (.invokevirtual 29, 3) := dk_182 0 29 (dk_at dksX1_turnsOf_0 9 rfl rfl)
theorem dX1_turnsOf_12 : decode cX1_turnsOf 12 = .ok (.if_icmp .ge 35, 3) := dk_162 0 35 (dk_at dksX1_turnsOf_0 12 rfl rfl)
theorem dX1_turnsOf_15 : decode cX1_turnsOf 15 = .ok (.iload_n 2, 1) := dk_28 (dk_at dksX1_turnsOf_0 15 rfl rfl)
theorem dX1_turnsOf_16 : decode cX1_turnsOf 16 = .ok (.aload_n 0, 1) := dk_42 (dk_at dksX1_turnsOf_0 16 rfl rfl)
theorem dX1_turnsOf_17 : decode cX1_turnsOf 17 = .ok (.getfield 12, 3) := dk_180 0 12 (dk_at dksX1_turnsOf_0 17 rfl rfl)
theorem dX1_turnsOf_20 : decode cX1_turnsOf 20 = .ok (.iload_n 3, 1) := dk_29 (dk_at dksX1_turnsOf_0 20 rfl rfl)
theorem dX1_turnsOf_21 : decode cX1_turnsOf 21 = .ok (.invokevirtual 35, 3) := dk_182 0 35 (dk_at dksX1_turnsOf_0 21 rfl rfl)
theorem dX1_turnsOf_24 : decode cX1_turnsOf 24 = .ok (.checkcast 33, 3) := dk_192 0 33 (dk_at dksX1_turnsOf_1 0 rfl rfl)
theorem dX1_turnsOf_27 : decode cX1_turnsOf 27 = .ok (.getfield 81, 3) := dk_180 0 81 (dk_at dksX1_turnsOf_1 3 rfl rfl)
theorem dX1_turnsOf_30 : decode cX1_turnsOf 30 = .ok (.iload_n 1, 1) := dk_27 (dk_at dksX1_turnsOf_1 6 rfl rfl)
theorem dX1_turnsOf_31 : decode cX1_turnsOf 31 = .ok (.if_icmp .ne 7, 3) := dk_160 0 7 (dk_at dksX1_turnsOf_1 7 rfl rfl)
theorem dX1_turnsOf_34 : decode cX1_turnsOf 34 = .ok (.iconst 1, 1) := dk_4 (dk_at dksX1_turnsOf_1 10 rfl rfl)
theorem dX1_turnsOf_35 : decode cX1_turnsOf 35 = .ok (.goto 4, 3) := dk_167 0 4 (dk_at dksX1_turnsOf_1 11 rfl rfl)
theorem dX1_turnsOf_38 : decode cX1_turnsOf 38 = .ok (.iconst 0, 1) := dk_3 (dk_at dksX1_turnsOf_1 14 rfl rfl)
theorem dX1_turnsOf_39 : decode cX1_turnsOf 39 = .ok (.iadd, 1) := dk_96 (dk_at dksX1_turnsOf_1 15 rfl rfl)
theorem dX1_turnsOf_40 : decode cX1_turnsOf 40 = .ok (.istore_n 2, 1) := dk_61 (dk_at dksX1_turnsOf_1 16 rfl rfl)
theorem dX1_turnsOf_41 : decode cX1_turnsOf 41 = .ok (.iinc 3 1, 3) := dk_132 3 1 (dk_at dksX1_turnsOf_1 17 rfl rfl)
theorem dX1_turnsOf_44 : decode cX1_turnsOf 44 = .ok (.goto (-40), 3) := dk_167 255 216 (dk_at dksX1_turnsOf_1 20 rfl rfl)
theorem dX1_turnsOf_47 : decode cX1_turnsOf 47 = .ok (.iload_n 2, 1) := dk_28 (dk_at dksX1_turnsOf_1 23 rfl rfl)
theorem dX1_turnsOf_48 : decode cX1_turnsOf 48 = .ok (.ireturn, 1) := dk_172 (dk_at dksX1_turnsOf_2 0 rfl rfl)
abbrev cX1_joins : ByteArray := prog_5_method_23_code
def yX1_joins : MethodName := ⟨RX1, "joins", "(II)I"⟩
def dkwX1_joins_4 : List UInt8 := [42, 28, 182, 0, 173, 42, 28, 182, 0, 167, 172]
abbrev dktX1_joins_4 : List UInt8 := dkwX1_joins_4 ++ []
def dkwX1_joins_3 : List UInt8 := [167, 0, 8, 25, 4, 180, 0, 81, 181, 0, 81, 132, 3, 1, 167, 255, 206, 42, 180, 0, 18, 27, 3, 79]
abbrev dktX1_joins_3 : List UInt8 := dkwX1_joins_3 ++ dktX1_joins_4
def dkwX1_joins_2 : List UInt8 := [180, 0, 12, 29, 182, 0, 35, 192, 0, 33, 58, 4, 25, 4, 25, 4, 180, 0, 81, 27, 160, 0, 7, 28]
abbrev dktX1_joins_2 : List UInt8 := dkwX1_joins_2 ++ dktX1_joins_3
def dkwX1_joins_1 : List UInt8 := [167, 0, 4, 3, 18, 56, 184, 0, 57, 3, 62, 29, 42, 180, 0, 12, 182, 0, 29, 162, 0, 45, 42]
abbrev dktX1_joins_1 : List UInt8 := dkwX1_joins_1 ++ dktX1_joins_2
def dkwX1_joins_0 : List UInt8 := [42, 27, 182, 0, 170, 153, 0, 20, 42, 28, 182, 0, 170, 153, 0, 12, 27, 28, 159, 0, 7, 4]
abbrev dktX1_joins_0 : List UInt8 := dkwX1_joins_0 ++ dktX1_joins_1
theorem dksX1_joins_0 : cX1_joins.data.toList.drop 0 = dktX1_joins_0 := by decide +kernel
theorem dksX1_joins_1 : cX1_joins.data.toList.drop 22 = dktX1_joins_1 := dk_seg dksX1_joins_0 22 rfl rfl
theorem dksX1_joins_2 : cX1_joins.data.toList.drop 45 = dktX1_joins_2 := dk_seg dksX1_joins_1 23 rfl rfl
theorem dksX1_joins_3 : cX1_joins.data.toList.drop 69 = dktX1_joins_3 := dk_seg dksX1_joins_2 24 rfl rfl
theorem dksX1_joins_4 : cX1_joins.data.toList.drop 93 = dktX1_joins_4 := dk_seg dksX1_joins_3 24 rfl rfl
theorem dX1_joins_0 : decode cX1_joins 0 = .ok (.aload_n 0, 1) := dk_42 (dk_at dksX1_joins_0 0 rfl rfl)
theorem dX1_joins_1 : decode cX1_joins 1 = .ok (.iload_n 1, 1) := dk_27 (dk_at dksX1_joins_0 1 rfl rfl)
theorem dX1_joins_2 : decode cX1_joins 2 = .ok (.invokevirtual 170, 3) := dk_182 0 170 (dk_at dksX1_joins_0 2 rfl rfl)
theorem dX1_joins_5 : decode cX1_joins 5 = .ok (.ifCond .eq 20, 3) := dk_153 0 20 (dk_at dksX1_joins_0 5 rfl rfl)
theorem dX1_joins_8 : decode cX1_joins 8 = .ok (.aload_n 0, 1) := dk_42 (dk_at dksX1_joins_0 8 rfl rfl)
theorem dX1_joins_9 : decode cX1_joins 9 = .ok (.iload_n 2, 1) := dk_28 (dk_at dksX1_joins_0 9 rfl rfl)
theorem dX1_joins_10 : decode cX1_joins 10 = .ok (.invokevirtual 170, 3) := dk_182 0 170 (dk_at dksX1_joins_0 10 rfl rfl)
theorem dX1_joins_13 : decode cX1_joins 13 = .ok (.ifCond .eq 12, 3) := dk_153 0 12 (dk_at dksX1_joins_0 13 rfl rfl)
theorem dX1_joins_16 : decode cX1_joins 16 = .ok (.iload_n 1, 1) := dk_27 (dk_at dksX1_joins_0 16 rfl rfl)
theorem dX1_joins_17 : decode cX1_joins 17 = .ok (.iload_n 2, 1) := dk_28 (dk_at dksX1_joins_0 17 rfl rfl)
theorem dX1_joins_18 : decode cX1_joins 18 = .ok (.if_icmp .eq 7, 3) := dk_159 0 7 (dk_at dksX1_joins_0 18 rfl rfl)
theorem dX1_joins_21 : decode cX1_joins 21 = .ok (.iconst 1, 1) := dk_4 (dk_at dksX1_joins_0 21 rfl rfl)
theorem dX1_joins_22 : decode cX1_joins 22 = .ok (.goto 4, 3) := dk_167 0 4 (dk_at dksX1_joins_1 0 rfl rfl)
theorem dX1_joins_25 : decode cX1_joins 25 = .ok (.iconst 0, 1) := dk_3 (dk_at dksX1_joins_1 3 rfl rfl)
theorem dX1_joins_26 : decode cX1_joins 26 = .ok (.ldc 56, 2) := dk_18 56 (dk_at dksX1_joins_1 4 rfl rfl)
theorem dX1_joins_28 : decode cX1_joins 28 = .ok (.invokestatic 57, 3) := dk_184 0 57 (dk_at dksX1_joins_1 6 rfl rfl)
theorem dX1_joins_31 : decode cX1_joins 31 = .ok (.iconst 0, 1) := dk_3 (dk_at dksX1_joins_1 9 rfl rfl)
theorem dX1_joins_32 : decode cX1_joins 32 = .ok (.istore_n 3, 1) := dk_62 (dk_at dksX1_joins_1 10 rfl rfl)
theorem dX1_joins_33 : decode cX1_joins 33 = .ok (.iload_n 3, 1) := dk_29 (dk_at dksX1_joins_1 11 rfl rfl)
theorem dX1_joins_34 : decode cX1_joins 34 = .ok (.aload_n 0, 1) := dk_42 (dk_at dksX1_joins_1 12 rfl rfl)
theorem dX1_joins_35 : decode cX1_joins 35 = .ok (.getfield 12, 3) := dk_180 0 12 (dk_at dksX1_joins_1 13 rfl rfl)
theorem dX1_joins_38 : decode cX1_joins 38 = .ok (.invokevirtual 29, 3) := dk_182 0 29 (dk_at dksX1_joins_1 16 rfl rfl)
theorem dX1_joins_41 : decode cX1_joins 41 = .ok (.if_icmp .ge 45, 3) := dk_162 0 45 (dk_at dksX1_joins_1 19 rfl rfl)
theorem dX1_joins_44 : decode cX1_joins 44 = .ok (.aload_n 0, 1) := dk_42 (dk_at dksX1_joins_1 22 rfl rfl)
theorem dX1_joins_45 : decode cX1_joins 45 = .ok (.getfield 12, 3) := dk_180 0 12 (dk_at dksX1_joins_2 0 rfl rfl)
theorem dX1_joins_48 : decode cX1_joins 48 = .ok (.iload_n 3, 1) := dk_29 (dk_at dksX1_joins_2 3 rfl rfl)
theorem dX1_joins_49 : decode cX1_joins 49 = .ok (.invokevirtual 35, 3) := dk_182 0 35 (dk_at dksX1_joins_2 4 rfl rfl)
theorem dX1_joins_52 : decode cX1_joins 52 = .ok (.checkcast 33, 3) := dk_192 0 33 (dk_at dksX1_joins_2 7 rfl rfl)
theorem dX1_joins_55 : decode cX1_joins 55 = .ok (.astore 4, 2) := dk_58 4 (dk_at dksX1_joins_2 10 rfl rfl)
theorem dX1_joins_57 : decode cX1_joins 57 = .ok (.aload 4, 2) := dk_25 4 (dk_at dksX1_joins_2 12 rfl rfl)
theorem dX1_joins_59 : decode cX1_joins 59 = .ok (.aload 4, 2) := dk_25 4 (dk_at dksX1_joins_2 14 rfl rfl)
theorem dX1_joins_61 : decode cX1_joins 61 = .ok (.getfield 81, 3) := dk_180 0 81 (dk_at dksX1_joins_2 16 rfl rfl)
theorem dX1_joins_64 : decode cX1_joins 64 = .ok (.iload_n 1, 1) := dk_27 (dk_at dksX1_joins_2 19 rfl rfl)
theorem dX1_joins_65 : decode cX1_joins 65 = .ok (.if_icmp .ne 7, 3) := dk_160 0 7 (dk_at dksX1_joins_2 20 rfl rfl)
theorem dX1_joins_68 : decode cX1_joins 68 = .ok (.iload_n 2, 1) := dk_28 (dk_at dksX1_joins_2 23 rfl rfl)
theorem dX1_joins_69 : decode cX1_joins 69 = .ok (.goto 8, 3) := dk_167 0 8 (dk_at dksX1_joins_3 0 rfl rfl)
theorem dX1_joins_72 : decode cX1_joins 72 = .ok (.aload 4, 2) := dk_25 4 (dk_at dksX1_joins_3 3 rfl rfl)
theorem dX1_joins_74 : decode cX1_joins 74 = .ok (.getfield 81, 3) := dk_180 0 81 (dk_at dksX1_joins_3 5 rfl rfl)
theorem dX1_joins_77 : decode cX1_joins 77 = .ok (.putfield 81, 3) := dk_181 0 81 (dk_at dksX1_joins_3 8 rfl rfl)
theorem dX1_joins_80 : decode cX1_joins 80 = .ok (.iinc 3 1, 3) := dk_132 3 1 (dk_at dksX1_joins_3 11 rfl rfl)
theorem dX1_joins_83 : decode cX1_joins 83 = .ok (.goto (-50), 3) := dk_167 255 206 (dk_at dksX1_joins_3 14 rfl rfl)
theorem dX1_joins_86 : decode cX1_joins 86 = .ok (.aload_n 0, 1) := dk_42 (dk_at dksX1_joins_3 17 rfl rfl)
theorem dX1_joins_87 : decode cX1_joins 87 = .ok (.getfield 18, 3) := dk_180 0 18 (dk_at dksX1_joins_3 18 rfl rfl)
theorem dX1_joins_90 : decode cX1_joins 90 = .ok (.iload_n 1, 1) := dk_27 (dk_at dksX1_joins_3 21 rfl rfl)
theorem dX1_joins_91 : decode cX1_joins 91 = .ok (.iconst 0, 1) := dk_3 (dk_at dksX1_joins_3 22 rfl rfl)
theorem dX1_joins_92 : decode cX1_joins 92 = .ok (.iastore, 1) := dk_79 (dk_at dksX1_joins_3 23 rfl rfl)
theorem dX1_joins_93 : decode cX1_joins 93 = .ok (.aload_n 0, 1) := dk_42 (dk_at dksX1_joins_4 0 rfl rfl)
theorem dX1_joins_94 : decode cX1_joins 94 = .ok (.iload_n 2, 1) := dk_28 (dk_at dksX1_joins_4 1 rfl rfl)
theorem dX1_joins_95 : decode cX1_joins 95 = .ok (.invokevirtual 173, 3) := dk_182 0 173 (dk_at dksX1_joins_4 2 rfl rfl)
theorem dX1_joins_98 : decode cX1_joins 98 = .ok (.aload_n 0, 1) := dk_42 (dk_at dksX1_joins_4 5 rfl rfl)
theorem dX1_joins_99 : decode cX1_joins 99 = .ok (.iload_n 2, 1) := dk_28 (dk_at dksX1_joins_4 6 rfl rfl)
theorem dX1_joins_100 : decode cX1_joins 100 = .ok (.invokevirtual 167, 3) := dk_182 0 167 (dk_at dksX1_joins_4 7 rfl rfl)
theorem dX1_joins_103 : decode cX1_joins 103 = .ok (.ireturn, 1) := dk_172 (dk_at dksX1_joins_4 10 rfl rfl)
abbrev cX1_toleranceTo : ByteArray := prog_5_method_24_code
def yX1_toleranceTo : MethodName := ⟨RX1, "toleranceTo", "(I)I"⟩
def dkwX1_toleranceTo_1 : List UInt8 := [28, 172]
abbrev dktX1_toleranceTo_1 : List UInt8 := dkwX1_toleranceTo_1 ++ []
def dkwX1_toleranceTo_0 : List UInt8 := [27, 133, 9, 20, 0, 177, 184, 0, 46, 18, 56, 184, 0, 57, 42, 180, 0, 25, 61, 42, 27, 181, 0, 25]
abbrev dktX1_toleranceTo_0 : List UInt8 := dkwX1_toleranceTo_0 ++ dktX1_toleranceTo_1
theorem dksX1_toleranceTo_0 : cX1_toleranceTo.data.toList.drop 0 = dktX1_toleranceTo_0 := by decide +kernel
theorem dksX1_toleranceTo_1 : cX1_toleranceTo.data.toList.drop 24 = dktX1_toleranceTo_1 := dk_seg dksX1_toleranceTo_0 24 rfl rfl
theorem dX1_toleranceTo_0 : decode cX1_toleranceTo 0 = .ok (.iload_n 1, 1) := dk_27 (dk_at dksX1_toleranceTo_0 0 rfl rfl)
theorem dX1_toleranceTo_1 : decode cX1_toleranceTo 1 = .ok (.i2l, 1) := dk_133 (dk_at dksX1_toleranceTo_0 1 rfl rfl)
theorem dX1_toleranceTo_2 : decode cX1_toleranceTo 2 = .ok (.lconst 0, 1) := dk_9 (dk_at dksX1_toleranceTo_0 2 rfl rfl)
theorem dX1_toleranceTo_3 : decode cX1_toleranceTo 3 = .ok (.ldc2_w 177, 3) := dk_20 0 177 (dk_at dksX1_toleranceTo_0 3 rfl rfl)
theorem dX1_toleranceTo_6 : decode cX1_toleranceTo 6 = .ok (.invokestatic 46, 3) := dk_184 0 46 (dk_at dksX1_toleranceTo_0 6 rfl rfl)
theorem dX1_toleranceTo_9 : decode cX1_toleranceTo 9 = .ok (.ldc 56, 2) := dk_18 56 (dk_at dksX1_toleranceTo_0 9 rfl rfl)
theorem dX1_toleranceTo_11 : decode cX1_toleranceTo 11 = .ok (.invokestatic 57, 3) := dk_184 0 57 (dk_at dksX1_toleranceTo_0 11 rfl rfl)
theorem dX1_toleranceTo_14 : decode cX1_toleranceTo 14 = .ok (.aload_n 0, 1) := dk_42 (dk_at dksX1_toleranceTo_0 14 rfl rfl)
theorem dX1_toleranceTo_15 : decode cX1_toleranceTo 15 = .ok (.getfield 25, 3) := dk_180 0 25 (dk_at dksX1_toleranceTo_0 15 rfl rfl)
theorem dX1_toleranceTo_18 : decode cX1_toleranceTo 18 = .ok (.istore_n 2, 1) := dk_61 (dk_at dksX1_toleranceTo_0 18 rfl rfl)
theorem dX1_toleranceTo_19 : decode cX1_toleranceTo 19 = .ok (.aload_n 0, 1) := dk_42 (dk_at dksX1_toleranceTo_0 19 rfl rfl)
theorem dX1_toleranceTo_20 : decode cX1_toleranceTo 20 = .ok (.iload_n 1, 1) := dk_27 (dk_at dksX1_toleranceTo_0 20 rfl rfl)
theorem dX1_toleranceTo_21 : decode cX1_toleranceTo 21 = .ok (.putfield 25, 3) := dk_181 0 25 (dk_at dksX1_toleranceTo_0 21 rfl rfl)
theorem dX1_toleranceTo_24 : decode cX1_toleranceTo 24 = .ok (.iload_n 2, 1) := dk_28 (dk_at dksX1_toleranceTo_1 0 rfl rfl)
theorem dX1_toleranceTo_25 : decode cX1_toleranceTo 25 = .ok (.ireturn, 1) := dk_172 (dk_at dksX1_toleranceTo_1 1 rfl rfl)
abbrev cX1_meeting : ByteArray := prog_5_method_25_code
def yX1_meeting : MethodName := ⟨RX1, "meeting", "(LLectureTurns$Turn;)I"⟩
def dkwX1_meeting_2 : List UInt8 := [120, 167, 0, 4, 3, 128, 61, 132, 3, 1, 167, 255, 202, 28, 172]
abbrev dktX1_meeting_2 : List UInt8 := dkwX1_meeting_2 ++ []
def dkwX1_meeting_1 : List UInt8 := [43, 165, 0, 27, 42, 180, 0, 12, 29, 182, 0, 35, 192, 0, 33, 43, 182, 0, 179, 153, 0, 9, 4, 29]
abbrev dktX1_meeting_1 : List UInt8 := dkwX1_meeting_1 ++ dktX1_meeting_2
def dkwX1_meeting_0 : List UInt8 := [3, 61, 3, 62, 29, 42, 180, 0, 12, 182, 0, 29, 162, 0, 49, 28, 42, 180, 0, 12, 29, 182, 0, 35]
abbrev dktX1_meeting_0 : List UInt8 := dkwX1_meeting_0 ++ dktX1_meeting_1
theorem dksX1_meeting_0 : cX1_meeting.data.toList.drop 0 = dktX1_meeting_0 := by decide +kernel
theorem dksX1_meeting_1 : cX1_meeting.data.toList.drop 24 = dktX1_meeting_1 := dk_seg dksX1_meeting_0 24 rfl rfl
theorem dksX1_meeting_2 : cX1_meeting.data.toList.drop 48 = dktX1_meeting_2 := dk_seg dksX1_meeting_1 24 rfl rfl
theorem dX1_meeting_0 : decode cX1_meeting 0 = .ok (.iconst 0, 1) := dk_3 (dk_at dksX1_meeting_0 0 rfl rfl)
theorem dX1_meeting_1 : decode cX1_meeting 1 = .ok (.istore_n 2, 1) := dk_61 (dk_at dksX1_meeting_0 1 rfl rfl)
theorem dX1_meeting_2 : decode cX1_meeting 2 = .ok (.iconst 0, 1) := dk_3 (dk_at dksX1_meeting_0 2 rfl rfl)
theorem dX1_meeting_3 : decode cX1_meeting 3 = .ok (.istore_n 3, 1) := dk_62 (dk_at dksX1_meeting_0 3 rfl rfl)
theorem dX1_meeting_4 : decode cX1_meeting 4 = .ok (.iload_n 3, 1) := dk_29 (dk_at dksX1_meeting_0 4 rfl rfl)
theorem dX1_meeting_5 : decode cX1_meeting 5 = .ok (.aload_n 0, 1) := dk_42 (dk_at dksX1_meeting_0 5 rfl rfl)
theorem dX1_meeting_6 : decode cX1_meeting 6 = .ok (.getfield 12, 3) := dk_180 0 12 (dk_at dksX1_meeting_0 6 rfl rfl)
theorem dX1_meeting_9 : decode cX1_meeting 9 = .ok (.invokevirtual 29, 3) := dk_182 0 29 (dk_at dksX1_meeting_0 9 rfl rfl)
theorem dX1_meeting_12 : decode cX1_meeting 12 = .ok (.if_icmp .ge 49, 3) := dk_162 0 49 (dk_at dksX1_meeting_0 12 rfl rfl)
theorem dX1_meeting_15 : decode cX1_meeting 15 = .ok (.iload_n 2, 1) := dk_28 (dk_at dksX1_meeting_0 15 rfl rfl)
theorem dX1_meeting_16 : decode cX1_meeting 16 = .ok (.aload_n 0, 1) := dk_42 (dk_at dksX1_meeting_0 16 rfl rfl)
theorem dX1_meeting_17 : decode cX1_meeting 17 = .ok (.getfield 12, 3) := dk_180 0 12 (dk_at dksX1_meeting_0 17 rfl rfl)
theorem dX1_meeting_20 : decode cX1_meeting 20 = .ok (.iload_n 3, 1) := dk_29 (dk_at dksX1_meeting_0 20 rfl rfl)
theorem dX1_meeting_21 : decode cX1_meeting 21 = .ok (.invokevirtual 35, 3) := dk_182 0 35 (dk_at dksX1_meeting_0 21 rfl rfl)
theorem dX1_meeting_24 : decode cX1_meeting 24 = .ok (.aload_n 1, 1) := dk_43 (dk_at dksX1_meeting_1 0 rfl rfl)
theorem dX1_meeting_25 : decode cX1_meeting 25 = .ok (.if_acmp .eq 27, 3) := dk_165 0 27 (dk_at dksX1_meeting_1 1 rfl rfl)
theorem dX1_meeting_28 : decode cX1_meeting 28 = .ok (.aload_n 0, 1) := dk_42 (dk_at dksX1_meeting_1 4 rfl rfl)
theorem dX1_meeting_29 : decode cX1_meeting 29 = .ok (.getfield 12, 3) := dk_180 0 12 (dk_at dksX1_meeting_1 5 rfl rfl)
theorem dX1_meeting_32 : decode cX1_meeting 32 = .ok (.iload_n 3, 1) := dk_29 (dk_at dksX1_meeting_1 8 rfl rfl)
theorem dX1_meeting_33 : decode cX1_meeting 33 = .ok (.invokevirtual 35, 3) := dk_182 0 35 (dk_at dksX1_meeting_1 9 rfl rfl)
theorem dX1_meeting_36 : decode cX1_meeting 36 = .ok (.checkcast 33, 3) := dk_192 0 33 (dk_at dksX1_meeting_1 12 rfl rfl)
theorem dX1_meeting_39 : decode cX1_meeting 39 = .ok (.aload_n 1, 1) := dk_43 (dk_at dksX1_meeting_1 15 rfl rfl)
theorem dX1_meeting_40 : decode cX1_meeting 40 = .ok (.invokevirtual 179, 3) := dk_182 0 179 (dk_at dksX1_meeting_1 16 rfl rfl)
theorem dX1_meeting_43 : decode cX1_meeting 43 = .ok (.ifCond .eq 9, 3) := dk_153 0 9 (dk_at dksX1_meeting_1 19 rfl rfl)
theorem dX1_meeting_46 : decode cX1_meeting 46 = .ok (.iconst 1, 1) := dk_4 (dk_at dksX1_meeting_1 22 rfl rfl)
theorem dX1_meeting_47 : decode cX1_meeting 47 = .ok (.iload_n 3, 1) := dk_29 (dk_at dksX1_meeting_1 23 rfl rfl)
theorem dX1_meeting_48 : decode cX1_meeting 48 = .ok (.ishl, 1) := dk_120 (dk_at dksX1_meeting_2 0 rfl rfl)
theorem dX1_meeting_49 : decode cX1_meeting 49 = .ok (.goto 4, 3) := dk_167 0 4 (dk_at dksX1_meeting_2 1 rfl rfl)
theorem dX1_meeting_52 : decode cX1_meeting 52 = .ok (.iconst 0, 1) := dk_3 (dk_at dksX1_meeting_2 4 rfl rfl)
theorem dX1_meeting_53 : decode cX1_meeting 53 = .ok (.ior, 1) := dk_128 (dk_at dksX1_meeting_2 5 rfl rfl)
theorem dX1_meeting_54 : decode cX1_meeting 54 = .ok (.istore_n 2, 1) := dk_61 (dk_at dksX1_meeting_2 6 rfl rfl)
theorem dX1_meeting_55 : decode cX1_meeting 55 = .ok (.iinc 3 1, 3) := dk_132 3 1 (dk_at dksX1_meeting_2 7 rfl rfl)
theorem dX1_meeting_58 : decode cX1_meeting 58 = .ok (.goto (-54), 3) := dk_167 255 202 (dk_at dksX1_meeting_2 10 rfl rfl)
theorem dX1_meeting_61 : decode cX1_meeting 61 = .ok (.iload_n 2, 1) := dk_28 (dk_at dksX1_meeting_2 13 rfl rfl)
theorem dX1_meeting_62 : decode cX1_meeting 62 = .ok (.ireturn, 1) := dk_172 (dk_at dksX1_meeting_2 14 rfl rfl)
abbrev cX1_interrupted : ByteArray := prog_5_method_26_code
def yX1_interrupted : MethodName := ⟨RX1, "interrupted", "(LLectureTurns$Turn;)I"⟩
def dkwX1_interrupted_2 : List UInt8 := [167, 255, 214, 28, 172]
abbrev dktX1_interrupted_2 : List UInt8 := dkwX1_interrupted_2 ++ []
def dkwX1_interrupted_1 : List UInt8 := [182, 0, 35, 192, 0, 33, 182, 0, 183, 153, 0, 9, 4, 29, 120, 167, 0, 4, 3, 128, 61, 132, 3, 1]
abbrev dktX1_interrupted_1 : List UInt8 := dkwX1_interrupted_1 ++ dktX1_interrupted_2
def dkwX1_interrupted_0 : List UInt8 := [3, 61, 3, 62, 29, 42, 180, 0, 12, 182, 0, 29, 162, 0, 37, 28, 43, 42, 180, 0, 12, 29]
abbrev dktX1_interrupted_0 : List UInt8 := dkwX1_interrupted_0 ++ dktX1_interrupted_1
theorem dksX1_interrupted_0 : cX1_interrupted.data.toList.drop 0 = dktX1_interrupted_0 := by decide +kernel
theorem dksX1_interrupted_1 : cX1_interrupted.data.toList.drop 22 = dktX1_interrupted_1 := dk_seg dksX1_interrupted_0 22 rfl rfl
theorem dksX1_interrupted_2 : cX1_interrupted.data.toList.drop 46 = dktX1_interrupted_2 := dk_seg dksX1_interrupted_1 24 rfl rfl
theorem dX1_interrupted_0 : decode cX1_interrupted 0 = .ok (.iconst 0, 1) := dk_3 (dk_at dksX1_interrupted_0 0 rfl rfl)
theorem dX1_interrupted_1 : decode cX1_interrupted 1 = .ok (.istore_n 2, 1) := dk_61 (dk_at dksX1_interrupted_0 1 rfl rfl)
theorem dX1_interrupted_2 : decode cX1_interrupted 2 = .ok (.iconst 0, 1) := dk_3 (dk_at dksX1_interrupted_0 2 rfl rfl)
theorem dX1_interrupted_3 : decode cX1_interrupted 3 = .ok (.istore_n 3, 1) := dk_62 (dk_at dksX1_interrupted_0 3 rfl rfl)
theorem dX1_interrupted_4 : decode cX1_interrupted 4 = .ok (.iload_n 3, 1) := dk_29 (dk_at dksX1_interrupted_0 4 rfl rfl)
theorem dX1_interrupted_5 : decode cX1_interrupted 5 = .ok (.aload_n 0, 1) := dk_42 (dk_at dksX1_interrupted_0 5 rfl rfl)
theorem dX1_interrupted_6 : decode cX1_interrupted 6 = .ok (.getfield 12, 3) := dk_180 0 12 (dk_at dksX1_interrupted_0 6 rfl rfl)
theorem dX1_interrupted_9 : decode cX1_interrupted 9 = .ok (.invokevirtual 29, 3) := dk_182 0 29 (dk_at dksX1_interrupted_0 9 rfl rfl)
theorem dX1_interrupted_12 : decode cX1_interrupted 12 = .ok (.if_icmp .ge 37, 3) := dk_162 0 37 (dk_at dksX1_interrupted_0 12 rfl rfl)
theorem dX1_interrupted_15 : decode cX1_interrupted 15 = .ok (.iload_n 2, 1) := dk_28 (dk_at dksX1_interrupted_0 15 rfl rfl)
theorem dX1_interrupted_16 : decode cX1_interrupted 16 = .ok (.aload_n 1, 1) := dk_43 (dk_at dksX1_interrupted_0 16 rfl rfl)
theorem dX1_interrupted_17 : decode cX1_interrupted 17 = .ok (.aload_n 0, 1) := dk_42 (dk_at dksX1_interrupted_0 17 rfl rfl)
theorem dX1_interrupted_18 : decode cX1_interrupted 18 = .ok (.getfield 12, 3) := dk_180 0 12 (dk_at dksX1_interrupted_0 18 rfl rfl)
theorem dX1_interrupted_21 : decode cX1_interrupted 21 = .ok (.iload_n 3, 1) := dk_29 (dk_at dksX1_interrupted_0 21 rfl rfl)
theorem dX1_interrupted_22 : decode cX1_interrupted 22 = .ok (.invokevirtual 35, 3) := dk_182 0 35 (dk_at dksX1_interrupted_1 0 rfl rfl)
theorem dX1_interrupted_25 : decode cX1_interrupted 25 = .ok (.checkcast 33, 3) := dk_192 0 33 (dk_at dksX1_interrupted_1 3 rfl rfl)
theorem dX1_interrupted_28 : decode cX1_interrupted 28 = .ok (.invokevirtual 183, 3) := dk_182 0 183 (dk_at dksX1_interrupted_1 6 rfl rfl)
theorem dX1_interrupted_31 : decode cX1_interrupted 31 = .ok (.ifCond .eq 9, 3) := dk_153 0 9 (dk_at dksX1_interrupted_1 9 rfl rfl)
theorem dX1_interrupted_34 : decode cX1_interrupted 34 = .ok (.iconst 1, 1) := dk_4 (dk_at dksX1_interrupted_1 12 rfl rfl)
theorem dX1_interrupted_35 : decode cX1_interrupted 35 = .ok (.iload_n 3, 1) := dk_29 (dk_at dksX1_interrupted_1 13 rfl rfl)
theorem dX1_interrupted_36 : decode cX1_interrupted 36 = .ok (.ishl, 1) := dk_120 (dk_at dksX1_interrupted_1 14 rfl rfl)
theorem dX1_interrupted_37 : decode cX1_interrupted 37 = .ok (.goto 4, 3) := dk_167 0 4 (dk_at dksX1_interrupted_1 15 rfl rfl)
theorem dX1_interrupted_40 : decode cX1_interrupted 40 = .ok (.iconst 0, 1) := dk_3 (dk_at dksX1_interrupted_1 18 rfl rfl)
theorem dX1_interrupted_41 : decode cX1_interrupted 41 = .ok (.ior, 1) := dk_128 (dk_at dksX1_interrupted_1 19 rfl rfl)
theorem dX1_interrupted_42 : decode cX1_interrupted 42 = .ok (.istore_n 2, 1) := dk_61 (dk_at dksX1_interrupted_1 20 rfl rfl)
theorem dX1_interrupted_43 : decode cX1_interrupted 43 = .ok (.iinc 3 1, 3) := dk_132 3 1 (dk_at dksX1_interrupted_1 21 rfl rfl)
theorem dX1_interrupted_46 : decode cX1_interrupted 46 = .ok (.goto (-42), 3) := dk_167 255 214 (dk_at dksX1_interrupted_2 0 rfl rfl)
theorem dX1_interrupted_49 : decode cX1_interrupted 49 = .ok (.iload_n 2, 1) := dk_28 (dk_at dksX1_interrupted_2 3 rfl rfl)
theorem dX1_interrupted_50 : decode cX1_interrupted 50 = .ok (.ireturn, 1) := dk_172 (dk_at dksX1_interrupted_2 4 rfl rfl)
abbrev cX1_alone : ByteArray := prog_5_method_28_code
def yX1_alone : MethodName := ⟨RX1, "alone", "(LLectureTurns$Turn;)I"⟩
def dkwX1_alone_1 : List UInt8 := [160, 0, 7, 4, 167, 0, 4, 3, 96, 61, 132, 3, 1, 167, 255, 228, 28, 172]
abbrev dktX1_alone_1 : List UInt8 := dkwX1_alone_1 ++ []
def dkwX1_alone_0 : List UInt8 := [3, 61, 43, 180, 0, 108, 62, 29, 43, 180, 0, 111, 162, 0, 26, 28, 42, 29, 182, 0, 189, 4]
abbrev dktX1_alone_0 : List UInt8 := dkwX1_alone_0 ++ dktX1_alone_1
theorem dksX1_alone_0 : cX1_alone.data.toList.drop 0 = dktX1_alone_0 := by decide +kernel
theorem dksX1_alone_1 : cX1_alone.data.toList.drop 22 = dktX1_alone_1 := dk_seg dksX1_alone_0 22 rfl rfl
theorem dX1_alone_0 : decode cX1_alone 0 = .ok (.iconst 0, 1) := dk_3 (dk_at dksX1_alone_0 0 rfl rfl)
theorem dX1_alone_1 : decode cX1_alone 1 = .ok (.istore_n 2, 1) := dk_61 (dk_at dksX1_alone_0 1 rfl rfl)
theorem dX1_alone_2 : decode cX1_alone 2 = .ok (.aload_n 1, 1) := dk_43 (dk_at dksX1_alone_0 2 rfl rfl)
theorem dX1_alone_3 : decode cX1_alone 3 = .ok (.getfield 108, 3) := dk_180 0 108 (dk_at dksX1_alone_0 3 rfl rfl)
theorem dX1_alone_6 : decode cX1_alone 6 = .ok (.istore_n 3, 1) := dk_62 (dk_at dksX1_alone_0 6 rfl rfl)
theorem dX1_alone_7 : decode cX1_alone 7 = .ok (.iload_n 3, 1) := dk_29 (dk_at dksX1_alone_0 7 rfl rfl)
theorem dX1_alone_8 : decode cX1_alone 8 = .ok (.aload_n 1, 1) := dk_43 (dk_at dksX1_alone_0 8 rfl rfl)
theorem dX1_alone_9 : decode cX1_alone 9 = .ok (.getfield 111, 3) := dk_180 0 111 (dk_at dksX1_alone_0 9 rfl rfl)
theorem dX1_alone_12 : decode cX1_alone 12 = .ok (.if_icmp .ge 26, 3) := dk_162 0 26 (dk_at dksX1_alone_0 12 rfl rfl)
theorem dX1_alone_15 : decode cX1_alone 15 = .ok (.iload_n 2, 1) := dk_28 (dk_at dksX1_alone_0 15 rfl rfl)
theorem dX1_alone_16 : decode cX1_alone 16 = .ok (.aload_n 0, 1) := dk_42 (dk_at dksX1_alone_0 16 rfl rfl)
theorem dX1_alone_17 : decode cX1_alone 17 = .ok (.iload_n 3, 1) := dk_29 (dk_at dksX1_alone_0 17 rfl rfl)
theorem dX1_alone_18 : decode cX1_alone 18 = .ok (.invokevirtual 189, 3) := dk_182 0 189 (dk_at dksX1_alone_0 18 rfl rfl)
theorem dX1_alone_21 : decode cX1_alone 21 = .ok (.iconst 1, 1) := dk_4 (dk_at dksX1_alone_0 21 rfl rfl)
theorem dX1_alone_22 : decode cX1_alone 22 = .ok (.if_icmp .ne 7, 3) := dk_160 0 7 (dk_at dksX1_alone_1 0 rfl rfl)
theorem dX1_alone_25 : decode cX1_alone 25 = .ok (.iconst 1, 1) := dk_4 (dk_at dksX1_alone_1 3 rfl rfl)
theorem dX1_alone_26 : decode cX1_alone 26 = .ok (.goto 4, 3) := dk_167 0 4 (dk_at dksX1_alone_1 4 rfl rfl)
theorem dX1_alone_29 : decode cX1_alone 29 = .ok (.iconst 0, 1) := dk_3 (dk_at dksX1_alone_1 7 rfl rfl)
theorem dX1_alone_30 : decode cX1_alone 30 = .ok (.iadd, 1) := dk_96 (dk_at dksX1_alone_1 8 rfl rfl)
theorem dX1_alone_31 : decode cX1_alone 31 = .ok (.istore_n 2, 1) := dk_61 (dk_at dksX1_alone_1 9 rfl rfl)
theorem dX1_alone_32 : decode cX1_alone 32 = .ok (.iinc 3 1, 3) := dk_132 3 1 (dk_at dksX1_alone_1 10 rfl rfl)
theorem dX1_alone_35 : decode cX1_alone 35 = .ok (.goto (-28), 3) := dk_167 255 228 (dk_at dksX1_alone_1 13 rfl rfl)
theorem dX1_alone_38 : decode cX1_alone 38 = .ok (.iload_n 2, 1) := dk_28 (dk_at dksX1_alone_1 16 rfl rfl)
theorem dX1_alone_39 : decode cX1_alone 39 = .ok (.ireturn, 1) := dk_172 (dk_at dksX1_alone_1 17 rfl rfl)
abbrev cX1_going : ByteArray := prog_5_method_27_code
def yX1_going : MethodName := ⟨RX1, "going", "(I)I"⟩
def dkwX1_going_2 : List UInt8 := [172]
abbrev dktX1_going_2 : List UInt8 := dkwX1_going_2 ++ []
def dkwX1_going_1 : List UInt8 := [192, 0, 33, 27, 182, 0, 186, 153, 0, 7, 4, 167, 0, 4, 3, 96, 61, 132, 3, 1, 167, 255, 216, 28]
abbrev dktX1_going_1 : List UInt8 := dkwX1_going_1 ++ dktX1_going_2
def dkwX1_going_0 : List UInt8 := [3, 61, 3, 62, 29, 42, 180, 0, 12, 182, 0, 29, 162, 0, 35, 28, 42, 180, 0, 12, 29, 182, 0, 35]
abbrev dktX1_going_0 : List UInt8 := dkwX1_going_0 ++ dktX1_going_1
theorem dksX1_going_0 : cX1_going.data.toList.drop 0 = dktX1_going_0 := by decide +kernel
theorem dksX1_going_1 : cX1_going.data.toList.drop 24 = dktX1_going_1 := dk_seg dksX1_going_0 24 rfl rfl
theorem dksX1_going_2 : cX1_going.data.toList.drop 48 = dktX1_going_2 := dk_seg dksX1_going_1 24 rfl rfl
theorem dX1_going_0 : decode cX1_going 0 = .ok (.iconst 0, 1) := dk_3 (dk_at dksX1_going_0 0 rfl rfl)
theorem dX1_going_1 : decode cX1_going 1 = .ok (.istore_n 2, 1) := dk_61 (dk_at dksX1_going_0 1 rfl rfl)
theorem dX1_going_2 : decode cX1_going 2 = .ok (.iconst 0, 1) := dk_3 (dk_at dksX1_going_0 2 rfl rfl)
theorem dX1_going_3 : decode cX1_going 3 = .ok (.istore_n 3, 1) := dk_62 (dk_at dksX1_going_0 3 rfl rfl)
theorem dX1_going_4 : decode cX1_going 4 = .ok (.iload_n 3, 1) := dk_29 (dk_at dksX1_going_0 4 rfl rfl)
theorem dX1_going_5 : decode cX1_going 5 = .ok (.aload_n 0, 1) := dk_42 (dk_at dksX1_going_0 5 rfl rfl)
theorem dX1_going_6 : decode cX1_going 6 = .ok (.getfield 12, 3) := dk_180 0 12 (dk_at dksX1_going_0 6 rfl rfl)
theorem dX1_going_9 : decode cX1_going 9 = .ok (.invokevirtual 29, 3) := dk_182 0 29 (dk_at dksX1_going_0 9 rfl rfl)
theorem dX1_going_12 : decode cX1_going 12 = .ok (.if_icmp .ge 35, 3) := dk_162 0 35 (dk_at dksX1_going_0 12 rfl rfl)
theorem dX1_going_15 : decode cX1_going 15 = .ok (.iload_n 2, 1) := dk_28 (dk_at dksX1_going_0 15 rfl rfl)
theorem dX1_going_16 : decode cX1_going 16 = .ok (.aload_n 0, 1) := dk_42 (dk_at dksX1_going_0 16 rfl rfl)
theorem dX1_going_17 : decode cX1_going 17 = .ok (.getfield 12, 3) := dk_180 0 12 (dk_at dksX1_going_0 17 rfl rfl)
theorem dX1_going_20 : decode cX1_going 20 = .ok (.iload_n 3, 1) := dk_29 (dk_at dksX1_going_0 20 rfl rfl)
theorem dX1_going_21 : decode cX1_going 21 = .ok (.invokevirtual 35, 3) := dk_182 0 35 (dk_at dksX1_going_0 21 rfl rfl)
theorem dX1_going_24 : decode cX1_going 24 = .ok (.checkcast 33, 3) := dk_192 0 33 (dk_at dksX1_going_1 0 rfl rfl)
theorem dX1_going_27 : decode cX1_going 27 = .ok (.iload_n 1, 1) := dk_27 (dk_at dksX1_going_1 3 rfl rfl)
theorem dX1_going_28 : decode cX1_going 28 = .ok (.invokevirtual 186, 3) := dk_182 0 186 (dk_at dksX1_going_1 4 rfl rfl)
theorem dX1_going_31 : decode cX1_going 31 = .ok (.ifCond .eq 7, 3) := dk_153 0 7 (dk_at dksX1_going_1 7 rfl rfl)
theorem dX1_going_34 : decode cX1_going 34 = .ok (.iconst 1, 1) := dk_4 (dk_at dksX1_going_1 10 rfl rfl)
theorem dX1_going_35 : decode cX1_going 35 = .ok (.goto 4, 3) := dk_167 0 4 (dk_at dksX1_going_1 11 rfl rfl)
theorem dX1_going_38 : decode cX1_going 38 = .ok (.iconst 0, 1) := dk_3 (dk_at dksX1_going_1 14 rfl rfl)
theorem dX1_going_39 : decode cX1_going 39 = .ok (.iadd, 1) := dk_96 (dk_at dksX1_going_1 15 rfl rfl)
theorem dX1_going_40 : decode cX1_going 40 = .ok (.istore_n 2, 1) := dk_61 (dk_at dksX1_going_1 16 rfl rfl)
theorem dX1_going_41 : decode cX1_going 41 = .ok (.iinc 3 1, 3) := dk_132 3 1 (dk_at dksX1_going_1 17 rfl rfl)
theorem dX1_going_44 : decode cX1_going 44 = .ok (.goto (-40), 3) := dk_167 255 216 (dk_at dksX1_going_1 20 rfl rfl)
theorem dX1_going_47 : decode cX1_going 47 = .ok (.iload_n 2, 1) := dk_28 (dk_at dksX1_going_1 23 rfl rfl)
theorem dX1_going_48 : decode cX1_going 48 = .ok (.ireturn, 1) := dk_172 (dk_at dksX1_going_2 0 rfl rfl)
abbrev cX1_chain : ByteArray := prog_5_method_12_code
def yX1_chain : MethodName := ⟨RX1, "chain", "(I)I"⟩
def dkwX1_chain_1 : List UInt8 := [182, 0, 127, 96, 172]
abbrev dktX1_chain_1 : List UInt8 := dkwX1_chain_1 ++ []
def dkwX1_chain_0 : List UInt8 := [42, 180, 0, 22, 27, 46, 2, 160, 0, 7, 3, 167, 0, 15, 4, 42, 42, 180, 0, 22, 27, 46]
abbrev dktX1_chain_0 : List UInt8 := dkwX1_chain_0 ++ dktX1_chain_1
theorem dksX1_chain_0 : cX1_chain.data.toList.drop 0 = dktX1_chain_0 := by decide +kernel
theorem dksX1_chain_1 : cX1_chain.data.toList.drop 22 = dktX1_chain_1 := dk_seg dksX1_chain_0 22 rfl rfl
theorem dX1_chain_0 : decode cX1_chain 0 = .ok (.aload_n 0, 1) := dk_42 (dk_at dksX1_chain_0 0 rfl rfl)
theorem dX1_chain_1 : decode cX1_chain 1 = .ok (.getfield 22, 3) := dk_180 0 22 (dk_at dksX1_chain_0 1 rfl rfl)
theorem dX1_chain_4 : decode cX1_chain 4 = .ok (.iload_n 1, 1) := dk_27 (dk_at dksX1_chain_0 4 rfl rfl)
theorem dX1_chain_5 : decode cX1_chain 5 = .ok (.iaload, 1) := dk_46 (dk_at dksX1_chain_0 5 rfl rfl)
theorem dX1_chain_6 : decode cX1_chain 6 = .ok (.iconst (-1), 1) := dk_2 (dk_at dksX1_chain_0 6 rfl rfl)
theorem dX1_chain_7 : decode cX1_chain 7 = .ok (.if_icmp .ne 7, 3) := dk_160 0 7 (dk_at dksX1_chain_0 7 rfl rfl)
theorem dX1_chain_10 : decode cX1_chain 10 = .ok (.iconst 0, 1) := dk_3 (dk_at dksX1_chain_0 10 rfl rfl)
theorem dX1_chain_11 : decode cX1_chain 11 = .ok (.goto 15, 3) := dk_167 0 15 (dk_at dksX1_chain_0 11 rfl rfl)
theorem dX1_chain_14 : decode cX1_chain 14 = .ok (.iconst 1, 1) := dk_4 (dk_at dksX1_chain_0 14 rfl rfl)
theorem dX1_chain_15 : decode cX1_chain 15 = .ok (.aload_n 0, 1) := dk_42 (dk_at dksX1_chain_0 15 rfl rfl)
theorem dX1_chain_16 : decode cX1_chain 16 = .ok (.aload_n 0, 1) := dk_42 (dk_at dksX1_chain_0 16 rfl rfl)
theorem dX1_chain_17 : decode cX1_chain 17 = .ok (.getfield 22, 3) := dk_180 0 22 (dk_at dksX1_chain_0 17 rfl rfl)
theorem dX1_chain_20 : decode cX1_chain 20 = .ok (.iload_n 1, 1) := dk_27 (dk_at dksX1_chain_0 20 rfl rfl)
theorem dX1_chain_21 : decode cX1_chain 21 = .ok (.iaload, 1) := dk_46 (dk_at dksX1_chain_0 21 rfl rfl)
theorem dX1_chain_22 : decode cX1_chain 22 = .ok (.invokevirtual 127, 3) := dk_182 0 127 (dk_at dksX1_chain_1 0 rfl rfl)
theorem dX1_chain_25 : decode cX1_chain 25 = .ok (.iadd, 1) := dk_96 (dk_at dksX1_chain_1 3 rfl rfl)
theorem dX1_chain_26 : decode cX1_chain 26 = .ok (.ireturn, 1) := dk_172 (dk_at dksX1_chain_1 4 rfl rfl)
abbrev cX1_shownAs : ByteArray := prog_5_method_15_code
def yX1_shownAs : MethodName := ⟨RX1, "shownAs", "(I)I"⟩
def dkwX1_shownAs_1 : List UInt8 := [167, 0, 4, 3, 128, 61, 132, 3, 1, 167, 255, 228, 28, 172]
abbrev dktX1_shownAs_1 : List UInt8 := dkwX1_shownAs_1 ++ []
def dkwX1_shownAs_0 : List UInt8 := [3, 61, 3, 62, 29, 16, 16, 162, 0, 28, 28, 42, 29, 182, 0, 124, 27, 160, 0, 9, 4, 29, 120]
abbrev dktX1_shownAs_0 : List UInt8 := dkwX1_shownAs_0 ++ dktX1_shownAs_1
theorem dksX1_shownAs_0 : cX1_shownAs.data.toList.drop 0 = dktX1_shownAs_0 := by decide +kernel
theorem dksX1_shownAs_1 : cX1_shownAs.data.toList.drop 23 = dktX1_shownAs_1 := dk_seg dksX1_shownAs_0 23 rfl rfl
theorem dX1_shownAs_0 : decode cX1_shownAs 0 = .ok (.iconst 0, 1) := dk_3 (dk_at dksX1_shownAs_0 0 rfl rfl)
theorem dX1_shownAs_1 : decode cX1_shownAs 1 = .ok (.istore_n 2, 1) := dk_61 (dk_at dksX1_shownAs_0 1 rfl rfl)
theorem dX1_shownAs_2 : decode cX1_shownAs 2 = .ok (.iconst 0, 1) := dk_3 (dk_at dksX1_shownAs_0 2 rfl rfl)
theorem dX1_shownAs_3 : decode cX1_shownAs 3 = .ok (.istore_n 3, 1) := dk_62 (dk_at dksX1_shownAs_0 3 rfl rfl)
theorem dX1_shownAs_4 : decode cX1_shownAs 4 = .ok (.iload_n 3, 1) := dk_29 (dk_at dksX1_shownAs_0 4 rfl rfl)
theorem dX1_shownAs_5 : decode cX1_shownAs 5 = .ok (.bipush 16, 2) := dk_16 16 (dk_at dksX1_shownAs_0 5 rfl rfl)
theorem dX1_shownAs_7 : decode cX1_shownAs 7 = .ok (.if_icmp .ge 28, 3) := dk_162 0 28 (dk_at dksX1_shownAs_0 7 rfl rfl)
theorem dX1_shownAs_10 : decode cX1_shownAs 10 = .ok (.iload_n 2, 1) := dk_28 (dk_at dksX1_shownAs_0 10 rfl rfl)
theorem dX1_shownAs_11 : decode cX1_shownAs 11 = .ok (.aload_n 0, 1) := dk_42 (dk_at dksX1_shownAs_0 11 rfl rfl)
theorem dX1_shownAs_12 : decode cX1_shownAs 12 = .ok (.iload_n 3, 1) := dk_29 (dk_at dksX1_shownAs_0 12 rfl rfl)
theorem dX1_shownAs_13 : decode cX1_shownAs 13 = .ok (.invokevirtual 124, 3) := dk_182 0 124 (dk_at dksX1_shownAs_0 13 rfl rfl)
theorem dX1_shownAs_16 : decode cX1_shownAs 16 = .ok (.iload_n 1, 1) := dk_27 (dk_at dksX1_shownAs_0 16 rfl rfl)
theorem dX1_shownAs_17 : decode cX1_shownAs 17 = .ok (.if_icmp .ne 9, 3) := dk_160 0 9 (dk_at dksX1_shownAs_0 17 rfl rfl)
theorem dX1_shownAs_20 : decode cX1_shownAs 20 = .ok (.iconst 1, 1) := dk_4 (dk_at dksX1_shownAs_0 20 rfl rfl)
theorem dX1_shownAs_21 : decode cX1_shownAs 21 = .ok (.iload_n 3, 1) := dk_29 (dk_at dksX1_shownAs_0 21 rfl rfl)
theorem dX1_shownAs_22 : decode cX1_shownAs 22 = .ok (.ishl, 1) := dk_120 (dk_at dksX1_shownAs_0 22 rfl rfl)
theorem dX1_shownAs_23 : decode cX1_shownAs 23 = .ok (.goto 4, 3) := dk_167 0 4 (dk_at dksX1_shownAs_1 0 rfl rfl)
theorem dX1_shownAs_26 : decode cX1_shownAs 26 = .ok (.iconst 0, 1) := dk_3 (dk_at dksX1_shownAs_1 3 rfl rfl)
theorem dX1_shownAs_27 : decode cX1_shownAs 27 = .ok (.ior, 1) := dk_128 (dk_at dksX1_shownAs_1 4 rfl rfl)
theorem dX1_shownAs_28 : decode cX1_shownAs 28 = .ok (.istore_n 2, 1) := dk_61 (dk_at dksX1_shownAs_1 5 rfl rfl)
theorem dX1_shownAs_29 : decode cX1_shownAs 29 = .ok (.iinc 3 1, 3) := dk_132 3 1 (dk_at dksX1_shownAs_1 6 rfl rfl)
theorem dX1_shownAs_32 : decode cX1_shownAs 32 = .ok (.goto (-28), 3) := dk_167 255 228 (dk_at dksX1_shownAs_1 9 rfl rfl)
theorem dX1_shownAs_35 : decode cX1_shownAs 35 = .ok (.iload_n 2, 1) := dk_28 (dk_at dksX1_shownAs_1 12 rfl rfl)
theorem dX1_shownAs_36 : decode cX1_shownAs 36 = .ok (.ireturn, 1) := dk_172 (dk_at dksX1_shownAs_1 13 rfl rfl)
abbrev cX1_shows : ByteArray := prog_5_method_29_code
def yX1_shows : MethodName := ⟨RX1, "shows", "(LLectureTurns$Turn;)I"⟩
def dkwX1_shows_2 : List UInt8 := [167, 255, 222, 28, 172]
abbrev dktX1_shows_2 : List UInt8 := dkwX1_shows_2 ++ []
def dkwX1_shows_1 : List UInt8 := [185, 0, 147, 1, 0, 192, 0, 99, 58, 4, 28, 4, 42, 25, 4, 182, 0, 151, 182, 0, 124, 120, 128, 61]
abbrev dktX1_shows_1 : List UInt8 := dkwX1_shows_1 ++ dktX1_shows_2
def dkwX1_shows_0 : List UInt8 := [3, 61, 43, 180, 0, 91, 182, 0, 137, 78, 45, 185, 0, 141, 1, 0, 153, 0, 31, 45]
abbrev dktX1_shows_0 : List UInt8 := dkwX1_shows_0 ++ dktX1_shows_1
theorem dksX1_shows_0 : cX1_shows.data.toList.drop 0 = dktX1_shows_0 := by decide +kernel
theorem dksX1_shows_1 : cX1_shows.data.toList.drop 20 = dktX1_shows_1 := dk_seg dksX1_shows_0 20 rfl rfl
theorem dksX1_shows_2 : cX1_shows.data.toList.drop 44 = dktX1_shows_2 := dk_seg dksX1_shows_1 24 rfl rfl
theorem dX1_shows_0 : decode cX1_shows 0 = .ok (.iconst 0, 1) := dk_3 (dk_at dksX1_shows_0 0 rfl rfl)
theorem dX1_shows_1 : decode cX1_shows 1 = .ok (.istore_n 2, 1) := dk_61 (dk_at dksX1_shows_0 1 rfl rfl)
theorem dX1_shows_2 : decode cX1_shows 2 = .ok (.aload_n 1, 1) := dk_43 (dk_at dksX1_shows_0 2 rfl rfl)
theorem dX1_shows_3 : decode cX1_shows 3 = .ok (.getfield 91, 3) := dk_180 0 91 (dk_at dksX1_shows_0 3 rfl rfl)
theorem dX1_shows_6 : decode cX1_shows 6 = .ok (.invokevirtual 137, 3) := dk_182 0 137 (dk_at dksX1_shows_0 6 rfl rfl)
theorem dX1_shows_9 : decode cX1_shows 9 = .ok (.astore_n 3, 1) := dk_78 (dk_at dksX1_shows_0 9 rfl rfl)
theorem dX1_shows_10 : decode cX1_shows 10 = .ok (.aload_n 3, 1) := dk_45 (dk_at dksX1_shows_0 10 rfl rfl)
theorem dX1_shows_11 : decode cX1_shows 11 = .ok (.invokeinterface 141 1, 5) := by decide +kernel
theorem dX1_shows_16 : decode cX1_shows 16 = .ok (.ifCond .eq 31, 3) := dk_153 0 31 (dk_at dksX1_shows_0 16 rfl rfl)
theorem dX1_shows_19 : decode cX1_shows 19 = .ok (.aload_n 3, 1) := dk_45 (dk_at dksX1_shows_0 19 rfl rfl)
theorem dX1_shows_20 : decode cX1_shows 20 = .ok (.invokeinterface 147 1, 5) := by decide +kernel
theorem dX1_shows_25 : decode cX1_shows 25 = .ok (.checkcast 99, 3) := dk_192 0 99 (dk_at dksX1_shows_1 5 rfl rfl)
theorem dX1_shows_28 : decode cX1_shows 28 = .ok (.astore 4, 2) := dk_58 4 (dk_at dksX1_shows_1 8 rfl rfl)
theorem dX1_shows_30 : decode cX1_shows 30 = .ok (.iload_n 2, 1) := dk_28 (dk_at dksX1_shows_1 10 rfl rfl)
theorem dX1_shows_31 : decode cX1_shows 31 = .ok (.iconst 1, 1) := dk_4 (dk_at dksX1_shows_1 11 rfl rfl)
theorem dX1_shows_32 : decode cX1_shows 32 = .ok (.aload_n 0, 1) := dk_42 (dk_at dksX1_shows_1 12 rfl rfl)
theorem dX1_shows_33 : decode cX1_shows 33 = .ok (.aload 4, 2) := dk_25 4 (dk_at dksX1_shows_1 13 rfl rfl)
theorem dX1_shows_35 : decode cX1_shows 35 = .ok (.invokevirtual 151, 3) := dk_182 0 151 (dk_at dksX1_shows_1 15 rfl rfl)
theorem dX1_shows_38 : decode cX1_shows 38 = .ok (.invokevirtual 124, 3) := dk_182 0 124 (dk_at dksX1_shows_1 18 rfl rfl)
theorem dX1_shows_41 : decode cX1_shows 41 = .ok (.ishl, 1) := dk_120 (dk_at dksX1_shows_1 21 rfl rfl)
theorem dX1_shows_42 : decode cX1_shows 42 = .ok (.ior, 1) := dk_128 (dk_at dksX1_shows_1 22 rfl rfl)
theorem dX1_shows_43 : decode cX1_shows 43 = .ok (.istore_n 2, 1) := dk_61 (dk_at dksX1_shows_1 23 rfl rfl)
theorem dX1_shows_44 : decode cX1_shows 44 = .ok (.goto (-34), 3) := dk_167 255 222 (dk_at dksX1_shows_2 0 rfl rfl)
theorem dX1_shows_47 : decode cX1_shows 47 = .ok (.iload_n 2, 1) := dk_28 (dk_at dksX1_shows_2 3 rfl rfl)
theorem dX1_shows_48 : decode cX1_shows 48 = .ok (.ireturn, 1) := dk_172 (dk_at dksX1_shows_2 4 rfl rfl)
abbrev cX1_interruptions : ByteArray := prog_5_method_30_code
def yX1_interruptions : MethodName := ⟨RX1, "interruptions", "(II)I"⟩
def dkwX1_interruptions_6 : List UInt8 := [167, 255, 122, 29, 172]
abbrev dktX1_interruptions_6 : List UInt8 := dkwX1_interruptions_6 ++ []
def dkwX1_interruptions_5 : List UInt8 := [182, 0, 183, 153, 0, 7, 4, 167, 0, 4, 3, 96, 62, 132, 5, 1, 167, 255, 143, 132, 4, 1]
abbrev dktX1_interruptions_5 : List UInt8 := dkwX1_interruptions_5 ++ dktX1_interruptions_6
def dkwX1_interruptions_4 : List UInt8 := [180, 0, 12, 21, 4, 182, 0, 35, 192, 0, 33, 42, 180, 0, 12, 21, 5, 182, 0, 35, 192, 0, 33]
abbrev dktX1_interruptions_4 : List UInt8 := dkwX1_interruptions_4 ++ dktX1_interruptions_5
def dkwX1_interruptions_3 : List UInt8 := [192, 0, 33, 180, 0, 81, 28, 160, 0, 7, 4, 167, 0, 4, 3, 54, 6, 29, 21, 6, 153, 0, 37, 42]
abbrev dktX1_interruptions_3 : List UInt8 := dkwX1_interruptions_3 ++ dktX1_interruptions_4
def dkwX1_interruptions_2 : List UInt8 := [192, 0, 33, 180, 0, 81, 27, 160, 0, 31, 28, 2, 159, 0, 22, 42, 180, 0, 12, 21, 5, 182, 0, 35]
abbrev dktX1_interruptions_2 : List UInt8 := dkwX1_interruptions_2 ++ dktX1_interruptions_3
def dkwX1_interruptions_1 : List UInt8 := [180, 0, 12, 182, 0, 29, 162, 0, 107, 27, 2, 159, 0, 22, 42, 180, 0, 12, 21, 4, 182, 0, 35]
abbrev dktX1_interruptions_1 : List UInt8 := dkwX1_interruptions_1 ++ dktX1_interruptions_2
def dkwX1_interruptions_0 : List UInt8 := [3, 62, 3, 54, 4, 21, 4, 42, 180, 0, 12, 182, 0, 29, 162, 0, 128, 3, 54, 5, 21, 5, 42]
abbrev dktX1_interruptions_0 : List UInt8 := dkwX1_interruptions_0 ++ dktX1_interruptions_1
theorem dksX1_interruptions_0 : cX1_interruptions.data.toList.drop 0 = dktX1_interruptions_0 := by decide +kernel
theorem dksX1_interruptions_1 : cX1_interruptions.data.toList.drop 23 = dktX1_interruptions_1 := dk_seg dksX1_interruptions_0 23 rfl rfl
theorem dksX1_interruptions_2 : cX1_interruptions.data.toList.drop 46 = dktX1_interruptions_2 := dk_seg dksX1_interruptions_1 23 rfl rfl
theorem dksX1_interruptions_3 : cX1_interruptions.data.toList.drop 70 = dktX1_interruptions_3 := dk_seg dksX1_interruptions_2 24 rfl rfl
theorem dksX1_interruptions_4 : cX1_interruptions.data.toList.drop 94 = dktX1_interruptions_4 := dk_seg dksX1_interruptions_3 24 rfl rfl
theorem dksX1_interruptions_5 : cX1_interruptions.data.toList.drop 117 = dktX1_interruptions_5 := dk_seg dksX1_interruptions_4 23 rfl rfl
theorem dksX1_interruptions_6 : cX1_interruptions.data.toList.drop 139 = dktX1_interruptions_6 := dk_seg dksX1_interruptions_5 22 rfl rfl
theorem dX1_interruptions_0 : decode cX1_interruptions 0 = .ok (.iconst 0, 1) := dk_3 (dk_at dksX1_interruptions_0 0 rfl rfl)
theorem dX1_interruptions_1 : decode cX1_interruptions 1 = .ok (.istore_n 3, 1) := dk_62 (dk_at dksX1_interruptions_0 1 rfl rfl)
theorem dX1_interruptions_2 : decode cX1_interruptions 2 = .ok (.iconst 0, 1) := dk_3 (dk_at dksX1_interruptions_0 2 rfl rfl)
theorem dX1_interruptions_3 : decode cX1_interruptions 3 = .ok (.istore 4, 2) := dk_54 4 (dk_at dksX1_interruptions_0 3 rfl rfl)
theorem dX1_interruptions_5 : decode cX1_interruptions 5 = .ok (.iload 4, 2) := dk_21 4 (dk_at dksX1_interruptions_0 5 rfl rfl)
theorem dX1_interruptions_7 : decode cX1_interruptions 7 = .ok (.aload_n 0, 1) := dk_42 (dk_at dksX1_interruptions_0 7 rfl rfl)
theorem dX1_interruptions_8 : decode cX1_interruptions 8 = .ok (.getfield 12, 3) := dk_180 0 12 (dk_at dksX1_interruptions_0 8 rfl rfl)
theorem dX1_interruptions_11 : decode cX1_interruptions 11 = .ok (.invokevirtual 29, 3) := dk_182 0 29 (dk_at dksX1_interruptions_0 11 rfl rfl)
theorem dX1_interruptions_14 : decode cX1_interruptions 14 = .ok (.if_icmp .ge 128, 3) := dk_162 0 128 (dk_at dksX1_interruptions_0 14 rfl rfl)
theorem dX1_interruptions_17 : decode cX1_interruptions 17 = .ok (.iconst 0, 1) := dk_3 (dk_at dksX1_interruptions_0 17 rfl rfl)
theorem dX1_interruptions_18 : decode cX1_interruptions 18 = .ok (.istore 5, 2) := dk_54 5 (dk_at dksX1_interruptions_0 18 rfl rfl)
theorem dX1_interruptions_20 : decode cX1_interruptions 20 = .ok (.iload 5, 2) := dk_21 5 (dk_at dksX1_interruptions_0 20 rfl rfl)
theorem dX1_interruptions_22 : decode cX1_interruptions 22 = .ok (.aload_n 0, 1) := dk_42 (dk_at dksX1_interruptions_0 22 rfl rfl)
theorem dX1_interruptions_23 : decode cX1_interruptions 23 = .ok (.getfield 12, 3) := dk_180 0 12 (dk_at dksX1_interruptions_1 0 rfl rfl)
theorem dX1_interruptions_26 : decode cX1_interruptions 26 = .ok (.invokevirtual 29, 3) := dk_182 0 29 (dk_at dksX1_interruptions_1 3 rfl rfl)
theorem dX1_interruptions_29 : decode cX1_interruptions 29 = .ok (.if_icmp .ge 107, 3) := dk_162 0 107 (dk_at dksX1_interruptions_1 6 rfl rfl)
theorem dX1_interruptions_32 : decode cX1_interruptions 32 = .ok (.iload_n 1, 1) := dk_27 (dk_at dksX1_interruptions_1 9 rfl rfl)
theorem dX1_interruptions_33 : decode cX1_interruptions 33 = .ok (.iconst (-1), 1) := dk_2 (dk_at dksX1_interruptions_1 10 rfl rfl)
theorem dX1_interruptions_34 : decode cX1_interruptions 34 = .ok (.if_icmp .eq 22, 3) := dk_159 0 22 (dk_at dksX1_interruptions_1 11 rfl rfl)
theorem dX1_interruptions_37 : decode cX1_interruptions 37 = .ok (.aload_n 0, 1) := dk_42 (dk_at dksX1_interruptions_1 14 rfl rfl)
theorem dX1_interruptions_38 : decode cX1_interruptions 38 = .ok (.getfield 12, 3) := dk_180 0 12 (dk_at dksX1_interruptions_1 15 rfl rfl)
theorem dX1_interruptions_41 : decode cX1_interruptions 41 = .ok (.iload 4, 2) := dk_21 4 (dk_at dksX1_interruptions_1 18 rfl rfl)
theorem dX1_interruptions_43 : decode cX1_interruptions 43 = .ok (.invokevirtual 35, 3) := dk_182 0 35 (dk_at dksX1_interruptions_1 20 rfl rfl)
theorem dX1_interruptions_46 : decode cX1_interruptions 46 = .ok (.checkcast 33, 3) := dk_192 0 33 (dk_at dksX1_interruptions_2 0 rfl rfl)
theorem dX1_interruptions_49 : decode cX1_interruptions 49 = .ok (.getfield 81, 3) := dk_180 0 81 (dk_at dksX1_interruptions_2 3 rfl rfl)
theorem dX1_interruptions_52 : decode cX1_interruptions 52 = .ok (.iload_n 1, 1) := dk_27 (dk_at dksX1_interruptions_2 6 rfl rfl)
theorem dX1_interruptions_53 : decode cX1_interruptions 53 = .ok (.if_icmp .ne 31, 3) := dk_160 0 31 (dk_at dksX1_interruptions_2 7 rfl rfl)
theorem dX1_interruptions_56 : decode cX1_interruptions 56 = .ok (.iload_n 2, 1) := dk_28 (dk_at dksX1_interruptions_2 10 rfl rfl)
theorem dX1_interruptions_57 : decode cX1_interruptions 57 = .ok (.iconst (-1), 1) := dk_2 (dk_at dksX1_interruptions_2 11 rfl rfl)
theorem dX1_interruptions_58 : decode cX1_interruptions 58 = .ok (.if_icmp .eq 22, 3) := dk_159 0 22 (dk_at dksX1_interruptions_2 12 rfl rfl)
theorem dX1_interruptions_61 : decode cX1_interruptions 61 = .ok (.aload_n 0, 1) := dk_42 (dk_at dksX1_interruptions_2 15 rfl rfl)
theorem dX1_interruptions_62 : decode cX1_interruptions 62 = .ok (.getfield 12, 3) := dk_180 0 12 (dk_at dksX1_interruptions_2 16 rfl rfl)
theorem dX1_interruptions_65 : decode cX1_interruptions 65 = .ok (.iload 5, 2) := dk_21 5 (dk_at dksX1_interruptions_2 19 rfl rfl)
theorem dX1_interruptions_67 : decode cX1_interruptions 67 = .ok (.invokevirtual 35, 3) := dk_182 0 35 (dk_at dksX1_interruptions_2 21 rfl rfl)
theorem dX1_interruptions_70 : decode cX1_interruptions 70 = .ok (.checkcast 33, 3) := dk_192 0 33 (dk_at dksX1_interruptions_3 0 rfl rfl)
theorem dX1_interruptions_73 : decode cX1_interruptions 73 = .ok (.getfield 81, 3) := dk_180 0 81 (dk_at dksX1_interruptions_3 3 rfl rfl)
theorem dX1_interruptions_76 : decode cX1_interruptions 76 = .ok (.iload_n 2, 1) := dk_28 (dk_at dksX1_interruptions_3 6 rfl rfl)
theorem dX1_interruptions_77 : decode cX1_interruptions 77 = .ok (.if_icmp .ne 7, 3) := dk_160 0 7 (dk_at dksX1_interruptions_3 7 rfl rfl)
theorem dX1_interruptions_80 : decode cX1_interruptions 80 = .ok (.iconst 1, 1) := dk_4 (dk_at dksX1_interruptions_3 10 rfl rfl)
theorem dX1_interruptions_81 : decode cX1_interruptions 81 = .ok (.goto 4, 3) := dk_167 0 4 (dk_at dksX1_interruptions_3 11 rfl rfl)
theorem dX1_interruptions_84 : decode cX1_interruptions 84 = .ok (.iconst 0, 1) := dk_3 (dk_at dksX1_interruptions_3 14 rfl rfl)
theorem dX1_interruptions_85 : decode cX1_interruptions 85 = .ok (.istore 6, 2) := dk_54 6 (dk_at dksX1_interruptions_3 15 rfl rfl)
theorem dX1_interruptions_87 : decode cX1_interruptions 87 = .ok (.iload_n 3, 1) := dk_29 (dk_at dksX1_interruptions_3 17 rfl rfl)
theorem dX1_interruptions_88 : decode cX1_interruptions 88 = .ok (.iload 6, 2) := dk_21 6 (dk_at dksX1_interruptions_3 18 rfl rfl)
theorem dX1_interruptions_90 : decode cX1_interruptions 90 = .ok (.ifCond .eq 37, 3) := dk_153 0 37 (dk_at dksX1_interruptions_3 20 rfl rfl)
theorem dX1_interruptions_93 : decode cX1_interruptions 93 = .ok (.aload_n 0, 1) := dk_42 (dk_at dksX1_interruptions_3 23 rfl rfl)
theorem dX1_interruptions_94 : decode cX1_interruptions 94 = .ok (.getfield 12, 3) := dk_180 0 12 (dk_at dksX1_interruptions_4 0 rfl rfl)
theorem dX1_interruptions_97 : decode cX1_interruptions 97 = .ok (.iload 4, 2) := dk_21 4 (dk_at dksX1_interruptions_4 3 rfl rfl)
theorem dX1_interruptions_99 : decode cX1_interruptions 99 = .ok (.invokevirtual 35, 3) := dk_182 0 35 (dk_at dksX1_interruptions_4 5 rfl rfl)
theorem dX1_interruptions_102 : decode cX1_interruptions 102 = .ok (.checkcast 33, 3) := dk_192 0 33 (dk_at dksX1_interruptions_4 8 rfl rfl)
theorem dX1_interruptions_105 : decode cX1_interruptions 105 = .ok (.aload_n 0, 1) := dk_42 (dk_at dksX1_interruptions_4 11 rfl rfl)
theorem dX1_interruptions_106 : decode cX1_interruptions 106 = .ok (.getfield 12, 3) := dk_180 0 12 (dk_at dksX1_interruptions_4 12 rfl rfl)
theorem dX1_interruptions_109 : decode cX1_interruptions 109 = .ok (.iload 5, 2) := dk_21 5 (dk_at dksX1_interruptions_4 15 rfl rfl)
theorem dX1_interruptions_111 : decode cX1_interruptions 111 = .ok (.invokevirtual 35, 3) := dk_182 0 35 (dk_at dksX1_interruptions_4 17 rfl rfl)
theorem dX1_interruptions_114 : decode cX1_interruptions 114 = .ok (.checkcast 33, 3) := dk_192 0 33 (dk_at dksX1_interruptions_4 20 rfl rfl)
theorem dX1_interruptions_117 : decode cX1_interruptions 117 = .ok (.invokevirtual 183, 3) := dk_182 0 183 (dk_at dksX1_interruptions_5 0 rfl rfl)
theorem dX1_interruptions_120 : decode cX1_interruptions 120 = .ok (.ifCond .eq 7, 3) := dk_153 0 7 (dk_at dksX1_interruptions_5 3 rfl rfl)
theorem dX1_interruptions_123 : decode cX1_interruptions 123 = .ok (.iconst 1, 1) := dk_4 (dk_at dksX1_interruptions_5 6 rfl rfl)
theorem dX1_interruptions_124 : decode cX1_interruptions 124 = .ok (.goto 4, 3) := dk_167 0 4 (dk_at dksX1_interruptions_5 7 rfl rfl)
theorem dX1_interruptions_127 : decode cX1_interruptions 127 = .ok (.iconst 0, 1) := dk_3 (dk_at dksX1_interruptions_5 10 rfl rfl)
theorem dX1_interruptions_128 : decode cX1_interruptions 128 = .ok (.iadd, 1) := dk_96 (dk_at dksX1_interruptions_5 11 rfl rfl)
theorem dX1_interruptions_129 : decode cX1_interruptions 129 = .ok (.istore_n 3, 1) := dk_62 (dk_at dksX1_interruptions_5 12 rfl rfl)
theorem dX1_interruptions_130 : decode cX1_interruptions 130 = .ok (.iinc 5 1, 3) := dk_132 5 1 (dk_at dksX1_interruptions_5 13 rfl rfl)
theorem dX1_interruptions_133 : decode cX1_interruptions 133 = .ok (.goto (-113), 3) := dk_167 255 143 (dk_at dksX1_interruptions_5 16 rfl rfl)
theorem dX1_interruptions_136 : decode cX1_interruptions 136 = .ok (.iinc 4 1, 3) := dk_132 4 1 (dk_at dksX1_interruptions_5 19 rfl rfl)
theorem dX1_interruptions_139 : decode cX1_interruptions 139 = .ok (.goto (-134), 3) := dk_167 255 122 (dk_at dksX1_interruptions_6 0 rfl rfl)
theorem dX1_interruptions_142 : decode cX1_interruptions 142 = .ok (.iload_n 3, 1) := dk_29 (dk_at dksX1_interruptions_6 3 rfl rfl)
theorem dX1_interruptions_143 : decode cX1_interruptions 143 = .ok (.ireturn, 1) := dk_172 (dk_at dksX1_interruptions_6 4 rfl rfl)
abbrev cX1_lastEnd : ByteArray := prog_5_method_31_code
def yX1_lastEnd : MethodName := ⟨RX1, "lastEnd", "()I"⟩
def dkwX1_lastEnd_1 : List UInt8 := [192, 0, 33, 180, 0, 111, 184, 0, 192, 60, 132, 2, 1, 167, 255, 223, 27, 172]
abbrev dktX1_lastEnd_1 : List UInt8 := dkwX1_lastEnd_1 ++ []
def dkwX1_lastEnd_0 : List UInt8 := [3, 60, 3, 61, 28, 42, 180, 0, 12, 182, 0, 29, 162, 0, 28, 27, 42, 180, 0, 12, 28, 182, 0, 35]
abbrev dktX1_lastEnd_0 : List UInt8 := dkwX1_lastEnd_0 ++ dktX1_lastEnd_1
theorem dksX1_lastEnd_0 : cX1_lastEnd.data.toList.drop 0 = dktX1_lastEnd_0 := by decide +kernel
theorem dksX1_lastEnd_1 : cX1_lastEnd.data.toList.drop 24 = dktX1_lastEnd_1 := dk_seg dksX1_lastEnd_0 24 rfl rfl
theorem dX1_lastEnd_0 : decode cX1_lastEnd 0 = .ok (.iconst 0, 1) := dk_3 (dk_at dksX1_lastEnd_0 0 rfl rfl)
theorem dX1_lastEnd_1 : decode cX1_lastEnd 1 = .ok (.istore_n 1, 1) := dk_60 (dk_at dksX1_lastEnd_0 1 rfl rfl)
theorem dX1_lastEnd_2 : decode cX1_lastEnd 2 = .ok (.iconst 0, 1) := dk_3 (dk_at dksX1_lastEnd_0 2 rfl rfl)
theorem dX1_lastEnd_3 : decode cX1_lastEnd 3 = .ok (.istore_n 2, 1) := dk_61 (dk_at dksX1_lastEnd_0 3 rfl rfl)
theorem dX1_lastEnd_4 : decode cX1_lastEnd 4 = .ok (.iload_n 2, 1) := dk_28 (dk_at dksX1_lastEnd_0 4 rfl rfl)
theorem dX1_lastEnd_5 : decode cX1_lastEnd 5 = .ok (.aload_n 0, 1) := dk_42 (dk_at dksX1_lastEnd_0 5 rfl rfl)
theorem dX1_lastEnd_6 : decode cX1_lastEnd 6 = .ok (.getfield 12, 3) := dk_180 0 12 (dk_at dksX1_lastEnd_0 6 rfl rfl)
theorem dX1_lastEnd_9 : decode cX1_lastEnd 9 = .ok (.invokevirtual 29, 3) := dk_182 0 29 (dk_at dksX1_lastEnd_0 9 rfl rfl)
theorem dX1_lastEnd_12 : decode cX1_lastEnd 12 = .ok (.if_icmp .ge 28, 3) := dk_162 0 28 (dk_at dksX1_lastEnd_0 12 rfl rfl)
theorem dX1_lastEnd_15 : decode cX1_lastEnd 15 = .ok (.iload_n 1, 1) := dk_27 (dk_at dksX1_lastEnd_0 15 rfl rfl)
theorem dX1_lastEnd_16 : decode cX1_lastEnd 16 = .ok (.aload_n 0, 1) := dk_42 (dk_at dksX1_lastEnd_0 16 rfl rfl)
theorem dX1_lastEnd_17 : decode cX1_lastEnd 17 = .ok (.getfield 12, 3) := dk_180 0 12 (dk_at dksX1_lastEnd_0 17 rfl rfl)
theorem dX1_lastEnd_20 : decode cX1_lastEnd 20 = .ok (.iload_n 2, 1) := dk_28 (dk_at dksX1_lastEnd_0 20 rfl rfl)
theorem dX1_lastEnd_21 : decode cX1_lastEnd 21 = .ok (.invokevirtual 35, 3) := dk_182 0 35 (dk_at dksX1_lastEnd_0 21 rfl rfl)
theorem dX1_lastEnd_24 : decode cX1_lastEnd 24 = .ok (.checkcast 33, 3) := dk_192 0 33 (dk_at dksX1_lastEnd_1 0 rfl rfl)
theorem dX1_lastEnd_27 : decode cX1_lastEnd 27 = .ok (.getfield 111, 3) := dk_180 0 111 (dk_at dksX1_lastEnd_1 3 rfl rfl)
theorem dX1_lastEnd_30 : decode cX1_lastEnd 30 = .ok (.invokestatic 192, 3) := dk_184 0 192 (dk_at dksX1_lastEnd_1 6 rfl rfl)
theorem dX1_lastEnd_33 : decode cX1_lastEnd 33 = .ok (.istore_n 1, 1) := dk_60 (dk_at dksX1_lastEnd_1 9 rfl rfl)
theorem dX1_lastEnd_34 : decode cX1_lastEnd 34 = .ok (.iinc 2 1, 3) := dk_132 2 1 (dk_at dksX1_lastEnd_1 10 rfl rfl)
theorem dX1_lastEnd_37 : decode cX1_lastEnd 37 = .ok (.goto (-33), 3) := dk_167 255 223 (dk_at dksX1_lastEnd_1 13 rfl rfl)
theorem dX1_lastEnd_40 : decode cX1_lastEnd 40 = .ok (.iload_n 1, 1) := dk_27 (dk_at dksX1_lastEnd_1 16 rfl rfl)
theorem dX1_lastEnd_41 : decode cX1_lastEnd 41 = .ok (.ireturn, 1) := dk_172 (dk_at dksX1_lastEnd_1 17 rfl rfl)
theorem q67 : (Jvm.Cond.initialized "LectureTurns$Lecture") ∈ lw_all := lw_g (lw_at lw_m1 2 rfl) rfl
theorem q107 : (Jvm.Cond.instantiable "LectureTurns$Lecture" (4 : Nat)) ∈ lw_all := lw_g (lw_at lw_m1 42 rfl) rfl
theorem q109 : (Jvm.Cond.instanceMethod ({ cls := "LectureTurns$Lecture", name := "<init>", desc := "()V" } : Jvm.MethodName)) ∈ lw_all := lw_g (lw_at lw_m1 44 rfl) rfl
theorem q110 : (Jvm.Cond.code ({ cls := "LectureTurns$Lecture", name := "<init>", desc := "()V" } : Jvm.MethodName) prog_5_method_1_code (2 : Nat) (Option.none : Option Jvm.ClassFile.FieldType)) ∈ lw_all := lw_g (lw_at lw_m1 45 rfl) rfl
theorem q111 : (Jvm.Cond.methodLink "LectureTurns$Lecture" (3 : Nat) ({ cls := "java/lang/Object", name := "<init>", desc := "()V" } : Jvm.MethodName)) ∈ lw_all := lw_g (lw_at lw_m1 46 rfl) rfl
theorem q112 : (Jvm.Cond.classLink "LectureTurns$Lecture" (9 : Nat) "LectureTurns$Store") ∈ lw_all := lw_g (lw_at lw_m1 47 rfl) rfl
theorem q114 : (Jvm.Cond.methodLinkNest "LectureTurns$Lecture" (11 : Nat) ({ cls := "LectureTurns$Store", name := "<init>", desc := "()V" } : Jvm.MethodName) "LectureTurns") ∈ lw_tbl := lw_at lw_m1 49 rfl
theorem q151 : (Jvm.Cond.fieldLink "LectureTurns$Lecture" (12 : Nat) "LectureTurns$Lecture" "turns" "LLectureTurns$Store;") ∈ lw_all := lw_g (lw_at lw_m1 86 rfl) rfl
theorem q153 : (Jvm.Cond.fieldLink "LectureTurns$Lecture" (18 : Nat) "LectureTurns$Lecture" "pitches" "[I") ∈ lw_all := lw_g (lw_at lw_m1 88 rfl) rfl
theorem q155 : (Jvm.Cond.fieldLink "LectureTurns$Lecture" (22 : Nat) "LectureTurns$Lecture" "corrections" "[I") ∈ lw_all := lw_g (lw_at lw_m1 90 rfl) rfl
theorem q157 : (Jvm.Cond.fieldLink "LectureTurns$Lecture" (25 : Nat) "LectureTurns$Lecture" "tolerance" "I") ∈ lw_all := lw_g (lw_at lw_m1 92 rfl) rfl
theorem q159 : (Jvm.Cond.laysFinal "LectureTurns$Lecture" "LectureTurns$Lecture" "turns" "LLectureTurns$Store;") ∈ lw_all := lw_g (lw_at lw_m1 94 rfl) rfl
theorem q160 : (Jvm.Cond.soleField "LectureTurns$Lecture" "turns") ∈ lw_all := lw_g (lw_at lw_m1 95 rfl) rfl
theorem q161 : (Jvm.Cond.laysFinal "LectureTurns$Lecture" "LectureTurns$Lecture" "pitches" "[I") ∈ lw_all := lw_g (lw_at lw_m1 96 rfl) rfl
theorem q162 : (Jvm.Cond.soleField "LectureTurns$Lecture" "pitches") ∈ lw_all := lw_g (lw_at lw_m1 97 rfl) rfl
theorem q163 : (Jvm.Cond.laysFinal "LectureTurns$Lecture" "LectureTurns$Lecture" "corrections" "[I") ∈ lw_all := lw_g (lw_at lw_m1 98 rfl) rfl
theorem q164 : (Jvm.Cond.soleField "LectureTurns$Lecture" "corrections") ∈ lw_all := lw_g (lw_at lw_m1 99 rfl) rfl
theorem q165 : (Jvm.Cond.lays "LectureTurns$Lecture" "LectureTurns$Lecture" "tolerance" "I") ∈ lw_all := lw_g (lw_at lw_m1 100 rfl) rfl
theorem q166 : (Jvm.Cond.soleField "LectureTurns$Lecture" "tolerance") ∈ lw_all := lw_g (lw_at lw_m1 101 rfl) rfl
theorem q167 : (Jvm.Cond.superclass "LectureTurns$Lecture" "java/lang/Object") ∈ lw_all := lw_g (lw_at lw_m1 102 rfl) rfl
theorem q241 : (Jvm.Cond.instanceMethod ({ cls := "LectureTurns$Lecture", name := "<init>", desc := "(LLectureTurns$Lecture;)V" } : Jvm.MethodName)) ∈ lw_all := lw_g (lw_at lw_m1 176 rfl) rfl
theorem q242 : (Jvm.Cond.code ({ cls := "LectureTurns$Lecture", name := "<init>", desc := "(LLectureTurns$Lecture;)V" } : Jvm.MethodName) prog_5_method_2_code (4 : Nat) (Option.none : Option Jvm.ClassFile.FieldType)) ∈ lw_all := lw_g (lw_at lw_m1 177 rfl) rfl
theorem q243 : (Jvm.Cond.methodLink "LectureTurns$Lecture" (29 : Nat) ({ cls := "LectureTurns$Store", name := "size", desc := "()I" } : Jvm.MethodName)) ∈ lw_all := lw_g (lw_at lw_m1 178 rfl) rfl
theorem q251 : (Jvm.Cond.classLink "LectureTurns$Lecture" (33 : Nat) "LectureTurns$Turn") ∈ lw_all := lw_g (lw_at lw_m1 186 rfl) rfl
theorem q253 : (Jvm.Cond.methodLink "LectureTurns$Lecture" (35 : Nat) ({ cls := "LectureTurns$Store", name := "at", desc := "(I)LLectureTurns$Begun;" } : Jvm.MethodName)) ∈ lw_all := lw_g (lw_at lw_m1 188 rfl) rfl
theorem q272 : (Jvm.Cond.methodLink "LectureTurns$Lecture" (39 : Nat) ({ cls := "LectureTurns$Turn", name := "<init>", desc := "(LLectureTurns$Turn;)V" } : Jvm.MethodName)) ∈ lw_all := lw_g (lw_at lw_m1 207 rfl) rfl
theorem q282 : (Jvm.Cond.fieldLinkNest "LectureTurns$Lecture" (108 : Nat) "LectureTurns$Turn" "begin" "I" "LectureTurns") ∈ lw_tbl := lw_at lw_m1 217 rfl
theorem q285 : (Jvm.Cond.fieldLinkNest "LectureTurns$Lecture" (111 : Nat) "LectureTurns$Turn" "end" "I" "LectureTurns") ∈ lw_tbl := lw_at lw_m1 220 rfl
theorem q288 : (Jvm.Cond.fieldLinkNest "LectureTurns$Lecture" (114 : Nat) "LectureTurns$Turn" "pitch" "I" "LectureTurns") ∈ lw_tbl := lw_at lw_m1 223 rfl
theorem q291 : (Jvm.Cond.fieldLinkNest "LectureTurns$Lecture" (81 : Nat) "LectureTurns$Turn" "speaker" "I" "LectureTurns") ∈ lw_tbl := lw_at lw_m1 226 rfl
theorem q294 : (Jvm.Cond.fieldLinkNest "LectureTurns$Lecture" (91 : Nat) "LectureTurns$Turn" "terms" "Ljava/util/ArrayList;" "LectureTurns") ∈ lw_tbl := lw_at lw_m1 229 rfl
theorem q389 : (Jvm.Cond.selects "LectureTurns$Lecture" ({ cls := "java/lang/Object", name := "getClass", desc := "()Ljava/lang/Class;" } : Jvm.MethodName) ({ cls := "java/lang/Object", name := "getClass", desc := "()Ljava/lang/Class;" } : Jvm.MethodName)) ∈ lw_all := lw_g (lw_at lw_m2 84 rfl) rfl
theorem q414 : (Jvm.Cond.methodLink "LectureTurns$Lecture" (42 : Nat) ({ cls := "LectureTurns$Store", name := "lay", desc := "(LLectureTurns$Begun;)I" } : Jvm.MethodName)) ∈ lw_all := lw_g (lw_at lw_m2 109 rfl) rfl
theorem q441 : (Jvm.Cond.instanceMethod ({ cls := "LectureTurns$Lecture", name := "comes", desc := "(III)I" } : Jvm.MethodName)) ∈ lw_all := lw_g (lw_at lw_m2 136 rfl) rfl
theorem q442 : (Jvm.Cond.selects "LectureTurns$Lecture" ({ cls := "LectureTurns$Lecture", name := "comes", desc := "(III)I" } : Jvm.MethodName) ({ cls := "LectureTurns$Lecture", name := "comes", desc := "(III)I" } : Jvm.MethodName)) ∈ lw_all := lw_g (lw_at lw_m2 137 rfl) rfl
theorem q443 : (Jvm.Cond.code ({ cls := "LectureTurns$Lecture", name := "comes", desc := "(III)I" } : Jvm.MethodName) prog_5_method_7_code (5 : Nat) (Option.some Jvm.ClassFile.FieldType.int)) ∈ lw_all := lw_g (lw_at lw_m2 138 rfl) rfl
theorem q444 : (Jvm.Cond.constantLong "LectureTurns$Lecture" (67 : Nat) (1998 : Int64)) ∈ lw_all := lw_g (lw_at lw_m2 139 rfl) rfl
theorem q445 : (Jvm.Cond.methodLinkNest "LectureTurns$Lecture" (46 : Nat) ({ cls := "LectureTurns", name := "isBetween", desc := "(JJJ)Z" } : Jvm.MethodName) "LectureTurns") ∈ lw_tbl := lw_at lw_m2 140 rfl
theorem q448 : (Jvm.Cond.constantLong "LectureTurns$Lecture" (69 : Nat) (1999 : Int64)) ∈ lw_all := lw_g (lw_at lw_m2 143 rfl) rfl
theorem q449 : (Jvm.Cond.methodLinkNest "LectureTurns$Lecture" (71 : Nat) ({ cls := "LectureTurns", name := "isPitch", desc := "(I)Z" } : Jvm.MethodName) "LectureTurns") ∈ lw_tbl := lw_at lw_m2 144 rfl
theorem q455 : (Jvm.Cond.constant "LectureTurns$Lecture" (56 : Nat) (-1000001 : Int32)) ∈ lw_all := lw_g (lw_at lw_m2 150 rfl) rfl
theorem q456 : (Jvm.Cond.methodLinkNest "LectureTurns$Lecture" (57 : Nat) ({ cls := "LectureTurns", name := "need", desc := "(ZI)V" } : Jvm.MethodName) "LectureTurns") ∈ lw_tbl := lw_at lw_m2 151 rfl
theorem q525 : (Jvm.Cond.constant "LectureTurns$Lecture" (74 : Nat) (-1000003 : Int32)) ∈ lw_all := lw_g (lw_at lw_m2 220 rfl) rfl
theorem q526 : (Jvm.Cond.methodLink "LectureTurns$Lecture" (75 : Nat) ({ cls := "LectureTurns$Turn", name := "<init>", desc := "(III)V" } : Jvm.MethodName)) ∈ lw_all := lw_g (lw_at lw_m2 221 rfl) rfl
theorem q527 : (Jvm.Cond.methodLink "LectureTurns$Lecture" (78 : Nat) ({ cls := "LectureTurns$Lecture", name := "nearestTo", desc := "(I)I" } : Jvm.MethodName)) ∈ lw_all := lw_g (lw_at lw_m2 222 rfl) rfl
theorem q528 : (Jvm.Cond.instanceMethod ({ cls := "LectureTurns$Lecture", name := "nearestTo", desc := "(I)I" } : Jvm.MethodName)) ∈ lw_all := lw_g (lw_at lw_m2 223 rfl) rfl
theorem q529 : (Jvm.Cond.selects "LectureTurns$Lecture" ({ cls := "LectureTurns$Lecture", name := "nearestTo", desc := "(I)I" } : Jvm.MethodName) ({ cls := "LectureTurns$Lecture", name := "nearestTo", desc := "(I)I" } : Jvm.MethodName)) ∈ lw_all := lw_g (lw_at lw_m2 224 rfl) rfl
theorem q530 : (Jvm.Cond.code ({ cls := "LectureTurns$Lecture", name := "nearestTo", desc := "(I)I" } : Jvm.MethodName) prog_5_method_6_code (6 : Nat) (Option.some Jvm.ClassFile.FieldType.int)) ∈ lw_all := lw_g (lw_at lw_m2 225 rfl) rfl
theorem q531 : (Jvm.Cond.methodLink "LectureTurns$Lecture" (61 : Nat) ({ cls := "java/lang/Math", name := "abs", desc := "(I)I" } : Jvm.MethodName)) ∈ lw_all := lw_g (lw_at lw_m2 226 rfl) rfl
theorem q535 : (Jvm.Cond.instanceMethod ({ cls := "LectureTurns$Lecture", name := "says", desc := "(II)I" } : Jvm.MethodName)) ∈ lw_all := lw_g (lw_at lw_m2 230 rfl) rfl
theorem q536 : (Jvm.Cond.selects "LectureTurns$Lecture" ({ cls := "LectureTurns$Lecture", name := "says", desc := "(II)I" } : Jvm.MethodName) ({ cls := "LectureTurns$Lecture", name := "says", desc := "(II)I" } : Jvm.MethodName)) ∈ lw_all := lw_g (lw_at lw_m2 231 rfl) rfl
theorem q537 : (Jvm.Cond.code ({ cls := "LectureTurns$Lecture", name := "says", desc := "(II)I" } : Jvm.MethodName) prog_5_method_8_code (4 : Nat) (Option.some Jvm.ClassFile.FieldType.int)) ∈ lw_all := lw_g (lw_at lw_m2 232 rfl) rfl
theorem q538 : (Jvm.Cond.methodLinkNest "LectureTurns$Lecture" (84 : Nat) ({ cls := "LectureTurns", name := "isTerm", desc := "(I)Z" } : Jvm.MethodName) "LectureTurns") ∈ lw_tbl := lw_at lw_m2 233 rfl
theorem q542 : (Jvm.Cond.methodLink "LectureTurns$Lecture" (87 : Nat) ({ cls := "LectureTurns$Lecture", name := "needed", desc := "(I)LLectureTurns$Turn;" } : Jvm.MethodName)) ∈ lw_all := lw_g (lw_at lw_m2 237 rfl) rfl
theorem q543 : (Jvm.Cond.privateMethod ({ cls := "LectureTurns$Lecture", name := "needed", desc := "(I)LLectureTurns$Turn;" } : Jvm.MethodName)) ∈ lw_tbl := lw_at lw_m2 238 rfl
theorem q544 : (Jvm.Cond.instanceMethod ({ cls := "LectureTurns$Lecture", name := "needed", desc := "(I)LLectureTurns$Turn;" } : Jvm.MethodName)) ∈ lw_all := lw_g (lw_at lw_m2 239 rfl) rfl
theorem q545 : (Jvm.Cond.code ({ cls := "LectureTurns$Lecture", name := "needed", desc := "(I)LLectureTurns$Turn;" } : Jvm.MethodName) prog_5_method_5_code (2 : Nat) (Option.some (Jvm.ClassFile.FieldType.object "LectureTurns$Turn"))) ∈ lw_all := lw_g (lw_at lw_m3 0 rfl) rfl
theorem q546 : (Jvm.Cond.methodLink "LectureTurns$Lecture" (52 : Nat) ({ cls := "LectureTurns$Lecture", name := "isTurn", desc := "(I)Z" } : Jvm.MethodName)) ∈ lw_all := lw_g (lw_at lw_m3 1 rfl) rfl
theorem q547 : (Jvm.Cond.instanceMethod ({ cls := "LectureTurns$Lecture", name := "isTurn", desc := "(I)Z" } : Jvm.MethodName)) ∈ lw_all := lw_g (lw_at lw_m3 2 rfl) rfl
theorem q548 : (Jvm.Cond.selects "LectureTurns$Lecture" ({ cls := "LectureTurns$Lecture", name := "isTurn", desc := "(I)Z" } : Jvm.MethodName) ({ cls := "LectureTurns$Lecture", name := "isTurn", desc := "(I)Z" } : Jvm.MethodName)) ∈ lw_all := lw_g (lw_at lw_m3 3 rfl) rfl
theorem q549 : (Jvm.Cond.code ({ cls := "LectureTurns$Lecture", name := "isTurn", desc := "(I)Z" } : Jvm.MethodName) prog_5_method_3_code (2 : Nat) (Option.some Jvm.ClassFile.FieldType.boolean)) ∈ lw_all := lw_g (lw_at lw_m3 4 rfl) rfl
theorem q550 : (Jvm.Cond.methodLink "LectureTurns$Lecture" (95 : Nat) ({ cls := "java/util/ArrayList", name := "size", desc := "()I" } : Jvm.MethodName)) ∈ lw_all := lw_g (lw_at lw_m3 5 rfl) rfl
theorem q551 : (Jvm.Cond.methodLink "LectureTurns$Lecture" (98 : Nat) ({ cls := "java/lang/Integer", name := "valueOf", desc := "(I)Ljava/lang/Integer;" } : Jvm.MethodName)) ∈ lw_all := lw_g (lw_at lw_m3 6 rfl) rfl
theorem q571 : (Jvm.Cond.methodLink "LectureTurns$Lecture" (104 : Nat) ({ cls := "java/util/ArrayList", name := "add", desc := "(Ljava/lang/Object;)Z" } : Jvm.MethodName)) ∈ lw_all := lw_g (lw_at lw_m3 26 rfl) rfl
theorem q573 : (Jvm.Cond.instanceMethod ({ cls := "LectureTurns$Lecture", name := "parts", desc := "(III)I" } : Jvm.MethodName)) ∈ lw_all := lw_g (lw_at lw_m3 28 rfl) rfl
theorem q574 : (Jvm.Cond.selects "LectureTurns$Lecture" ({ cls := "LectureTurns$Lecture", name := "parts", desc := "(III)I" } : Jvm.MethodName) ({ cls := "LectureTurns$Lecture", name := "parts", desc := "(III)I" } : Jvm.MethodName)) ∈ lw_all := lw_g (lw_at lw_m3 29 rfl) rfl
theorem q575 : (Jvm.Cond.code ({ cls := "LectureTurns$Lecture", name := "parts", desc := "(III)I" } : Jvm.MethodName) prog_5_method_9_code (6 : Nat) (Option.some Jvm.ClassFile.FieldType.int)) ∈ lw_all := lw_g (lw_at lw_m3 30 rfl) rfl
theorem q576 : (Jvm.Cond.methodLink "LectureTurns$Lecture" (117 : Nat) ({ cls := "java/util/ArrayList", name := "remove", desc := "(I)Ljava/lang/Object;" } : Jvm.MethodName)) ∈ lw_all := lw_g (lw_at lw_m3 31 rfl) rfl
theorem q584 : (Jvm.Cond.classLink "LectureTurns$Lecture" (99 : Nat) "java/lang/Integer") ∈ lw_all := lw_g (lw_at lw_m3 39 rfl) rfl
theorem q586 : (Jvm.Cond.instanceMethod ({ cls := "LectureTurns$Lecture", name := "removes", desc := "(I)I" } : Jvm.MethodName)) ∈ lw_all := lw_g (lw_at lw_m3 41 rfl) rfl
theorem q587 : (Jvm.Cond.selects "LectureTurns$Lecture" ({ cls := "LectureTurns$Lecture", name := "removes", desc := "(I)I" } : Jvm.MethodName) ({ cls := "LectureTurns$Lecture", name := "removes", desc := "(I)I" } : Jvm.MethodName)) ∈ lw_all := lw_g (lw_at lw_m3 42 rfl) rfl
theorem q588 : (Jvm.Cond.code ({ cls := "LectureTurns$Lecture", name := "removes", desc := "(I)I" } : Jvm.MethodName) prog_5_method_10_code (3 : Nat) (Option.some Jvm.ClassFile.FieldType.int)) ∈ lw_all := lw_g (lw_at lw_m3 43 rfl) rfl
theorem q589 : (Jvm.Cond.methodLink "LectureTurns$Lecture" (121 : Nat) ({ cls := "LectureTurns$Store", name := "takes", desc := "(I)LLectureTurns$Begun;" } : Jvm.MethodName)) ∈ lw_all := lw_g (lw_at lw_m3 44 rfl) rfl
theorem q595 : (Jvm.Cond.instanceMethod ({ cls := "LectureTurns$Lecture", name := "corrects", desc := "(II)I" } : Jvm.MethodName)) ∈ lw_all := lw_g (lw_at lw_m3 50 rfl) rfl
theorem q596 : (Jvm.Cond.selects "LectureTurns$Lecture" ({ cls := "LectureTurns$Lecture", name := "corrects", desc := "(II)I" } : Jvm.MethodName) ({ cls := "LectureTurns$Lecture", name := "corrects", desc := "(II)I" } : Jvm.MethodName)) ∈ lw_all := lw_g (lw_at lw_m3 51 rfl) rfl
theorem q597 : (Jvm.Cond.codeWith ({ cls := "LectureTurns$Lecture", name := "corrects", desc := "(II)I" } : Jvm.MethodName) prog_5_method_17_code (4 : Nat) (Option.some Jvm.ClassFile.FieldType.int) [((29 : Nat), (35 : Nat), (38 : Nat), (130 : Nat))]) ∈ lw_all := lw_g (lw_at lw_m3 52 rfl) rfl
theorem q598 : (Jvm.Cond.classLink "LectureTurns$Lecture" (130 : Nat) "LectureTurns$Circle") ∈ lw_all := lw_g (lw_at lw_m3 53 rfl) rfl
theorem q599 : (Jvm.Cond.methodLink "LectureTurns$Lecture" (133 : Nat) ({ cls := "LectureTurns$Lecture", name := "follow", desc := "(II)V" } : Jvm.MethodName)) ∈ lw_all := lw_g (lw_at lw_m3 54 rfl) rfl
theorem q600 : (Jvm.Cond.privateMethod ({ cls := "LectureTurns$Lecture", name := "follow", desc := "(II)V" } : Jvm.MethodName)) ∈ lw_tbl := lw_at lw_m3 55 rfl
theorem q601 : (Jvm.Cond.instanceMethod ({ cls := "LectureTurns$Lecture", name := "follow", desc := "(II)V" } : Jvm.MethodName)) ∈ lw_all := lw_g (lw_at lw_m3 56 rfl) rfl
theorem q602 : (Jvm.Cond.code ({ cls := "LectureTurns$Lecture", name := "follow", desc := "(II)V" } : Jvm.MethodName) prog_5_method_13_code (3 : Nat) (Option.none : Option Jvm.ClassFile.FieldType)) ∈ lw_all := lw_g (lw_at lw_m3 57 rfl) rfl
theorem q611 : (Jvm.Cond.methodLink "LectureTurns$Lecture" (132 : Nat) ({ cls := "LectureTurns$Circle", name := "<init>", desc := "()V" } : Jvm.MethodName)) ∈ lw_all := lw_g (lw_at lw_m3 66 rfl) rfl
theorem q623 : (Jvm.Cond.classLink "LectureTurns$Lecture" (157 : Nat) "LectureTurns$Refused") ∈ lw_all := lw_g (lw_at lw_m3 78 rfl) rfl
theorem q624 : (Jvm.Cond.constant "LectureTurns$Lecture" (159 : Nat) (-1000002 : Int32)) ∈ lw_all := lw_g (lw_at lw_m3 79 rfl) rfl
theorem q625 : (Jvm.Cond.methodLink "LectureTurns$Lecture" (160 : Nat) ({ cls := "LectureTurns$Refused", name := "<init>", desc := "(ILjava/lang/Throwable;)V" } : Jvm.MethodName)) ∈ lw_all := lw_g (lw_at lw_m3 80 rfl) rfl
theorem q626 : (Jvm.Cond.methodLink "LectureTurns$Lecture" (163 : Nat) ({ cls := "LectureTurns$Lecture", name := "changes", desc := "(II)I" } : Jvm.MethodName)) ∈ lw_all := lw_g (lw_at lw_m3 81 rfl) rfl
theorem q627 : (Jvm.Cond.privateMethod ({ cls := "LectureTurns$Lecture", name := "changes", desc := "(II)I" } : Jvm.MethodName)) ∈ lw_tbl := lw_at lw_m3 82 rfl
theorem q628 : (Jvm.Cond.instanceMethod ({ cls := "LectureTurns$Lecture", name := "changes", desc := "(II)I" } : Jvm.MethodName)) ∈ lw_all := lw_g (lw_at lw_m3 83 rfl) rfl
theorem q629 : (Jvm.Cond.code ({ cls := "LectureTurns$Lecture", name := "changes", desc := "(II)I" } : Jvm.MethodName) prog_5_method_16_code (6 : Nat) (Option.some Jvm.ClassFile.FieldType.int)) ∈ lw_all := lw_g (lw_at lw_m3 84 rfl) rfl
theorem q630 : (Jvm.Cond.methodLink "LectureTurns$Lecture" (124 : Nat) ({ cls := "LectureTurns$Lecture", name := "shown", desc := "(I)I" } : Jvm.MethodName)) ∈ lw_all := lw_g (lw_at lw_m3 85 rfl) rfl
theorem q631 : (Jvm.Cond.instanceMethod ({ cls := "LectureTurns$Lecture", name := "shown", desc := "(I)I" } : Jvm.MethodName)) ∈ lw_all := lw_g (lw_at lw_m3 86 rfl) rfl
theorem q632 : (Jvm.Cond.selects "LectureTurns$Lecture" ({ cls := "LectureTurns$Lecture", name := "shown", desc := "(I)I" } : Jvm.MethodName) ({ cls := "LectureTurns$Lecture", name := "shown", desc := "(I)I" } : Jvm.MethodName)) ∈ lw_all := lw_g (lw_at lw_m3 87 rfl) rfl
theorem q633 : (Jvm.Cond.code ({ cls := "LectureTurns$Lecture", name := "shown", desc := "(I)I" } : Jvm.MethodName) prog_5_method_11_code (2 : Nat) (Option.some Jvm.ClassFile.FieldType.int)) ∈ lw_all := lw_g (lw_at lw_m3 88 rfl) rfl
theorem q634 : (Jvm.Cond.methodLink "LectureTurns$Lecture" (154 : Nat) ({ cls := "LectureTurns$Lecture", name := "places", desc := "(I)I" } : Jvm.MethodName)) ∈ lw_all := lw_g (lw_at lw_m3 89 rfl) rfl
theorem q635 : (Jvm.Cond.privateMethod ({ cls := "LectureTurns$Lecture", name := "places", desc := "(I)I" } : Jvm.MethodName)) ∈ lw_tbl := lw_at lw_m3 90 rfl
theorem q636 : (Jvm.Cond.instanceMethod ({ cls := "LectureTurns$Lecture", name := "places", desc := "(I)I" } : Jvm.MethodName)) ∈ lw_all := lw_g (lw_at lw_m3 91 rfl) rfl
theorem q637 : (Jvm.Cond.code ({ cls := "LectureTurns$Lecture", name := "places", desc := "(I)I" } : Jvm.MethodName) prog_5_method_14_code (6 : Nat) (Option.some Jvm.ClassFile.FieldType.int)) ∈ lw_all := lw_g (lw_at lw_m3 92 rfl) rfl
theorem q638 : (Jvm.Cond.methodLink "LectureTurns$Lecture" (137 : Nat) ({ cls := "java/util/ArrayList", name := "iterator", desc := "()Ljava/util/Iterator;" } : Jvm.MethodName)) ∈ lw_all := lw_g (lw_at lw_m3 93 rfl) rfl
theorem q639 : (Jvm.Cond.interfaceEntry "LectureTurns$Lecture" (141 : Nat)) ∈ lw_tbl := lw_at lw_m3 94 rfl
theorem q640 : (Jvm.Cond.methodLink "LectureTurns$Lecture" (141 : Nat) ({ cls := "java/util/Iterator", name := "hasNext", desc := "()Z" } : Jvm.MethodName)) ∈ lw_all := lw_g (lw_at lw_m3 95 rfl) rfl
theorem q641 : (Jvm.Cond.interfaceEntry "LectureTurns$Lecture" (147 : Nat)) ∈ lw_tbl := lw_at lw_m3 96 rfl
theorem q642 : (Jvm.Cond.methodLink "LectureTurns$Lecture" (147 : Nat) ({ cls := "java/util/Iterator", name := "next", desc := "()Ljava/lang/Object;" } : Jvm.MethodName)) ∈ lw_all := lw_g (lw_at lw_m3 97 rfl) rfl
theorem q643 : (Jvm.Cond.methodLink "LectureTurns$Lecture" (151 : Nat) ({ cls := "java/lang/Integer", name := "intValue", desc := "()I" } : Jvm.MethodName)) ∈ lw_all := lw_g (lw_at lw_m3 98 rfl) rfl
theorem q648 : (Jvm.Cond.instanceMethod ({ cls := "LectureTurns$Lecture", name := "uncorrects", desc := "(I)I" } : Jvm.MethodName)) ∈ lw_all := lw_g (lw_at lw_m3 103 rfl) rfl
theorem q649 : (Jvm.Cond.selects "LectureTurns$Lecture" ({ cls := "LectureTurns$Lecture", name := "uncorrects", desc := "(I)I" } : Jvm.MethodName) ({ cls := "LectureTurns$Lecture", name := "uncorrects", desc := "(I)I" } : Jvm.MethodName)) ∈ lw_all := lw_g (lw_at lw_m3 104 rfl) rfl
theorem q650 : (Jvm.Cond.code ({ cls := "LectureTurns$Lecture", name := "uncorrects", desc := "(I)I" } : Jvm.MethodName) prog_5_method_18_code (2 : Nat) (Option.some Jvm.ClassFile.FieldType.int)) ∈ lw_all := lw_g (lw_at lw_m3 105 rfl) rfl
theorem q652 : (Jvm.Cond.instanceMethod ({ cls := "LectureTurns$Lecture", name := "comesSpeaker", desc := "(I)I" } : Jvm.MethodName)) ∈ lw_all := lw_g (lw_at lw_m3 107 rfl) rfl
theorem q653 : (Jvm.Cond.selects "LectureTurns$Lecture" ({ cls := "LectureTurns$Lecture", name := "comesSpeaker", desc := "(I)I" } : Jvm.MethodName) ({ cls := "LectureTurns$Lecture", name := "comesSpeaker", desc := "(I)I" } : Jvm.MethodName)) ∈ lw_all := lw_g (lw_at lw_m3 108 rfl) rfl
theorem q654 : (Jvm.Cond.code ({ cls := "LectureTurns$Lecture", name := "comesSpeaker", desc := "(I)I" } : Jvm.MethodName) prog_5_method_19_code (3 : Nat) (Option.some Jvm.ClassFile.FieldType.int)) ∈ lw_all := lw_g (lw_at lw_m3 109 rfl) rfl
theorem q656 : (Jvm.Cond.instanceMethod ({ cls := "LectureTurns$Lecture", name := "gives", desc := "(II)I" } : Jvm.MethodName)) ∈ lw_all := lw_g (lw_at lw_m3 111 rfl) rfl
theorem q657 : (Jvm.Cond.selects "LectureTurns$Lecture" ({ cls := "LectureTurns$Lecture", name := "gives", desc := "(II)I" } : Jvm.MethodName) ({ cls := "LectureTurns$Lecture", name := "gives", desc := "(II)I" } : Jvm.MethodName)) ∈ lw_all := lw_g (lw_at lw_m3 112 rfl) rfl
theorem q658 : (Jvm.Cond.code ({ cls := "LectureTurns$Lecture", name := "gives", desc := "(II)I" } : Jvm.MethodName) prog_5_method_22_code (4 : Nat) (Option.some Jvm.ClassFile.FieldType.int)) ∈ lw_all := lw_g (lw_at lw_m3 113 rfl) rfl
theorem q659 : (Jvm.Cond.methodLink "LectureTurns$Lecture" (170 : Nat) ({ cls := "LectureTurns$Lecture", name := "isSpeaker", desc := "(I)Z" } : Jvm.MethodName)) ∈ lw_all := lw_g (lw_at lw_m3 114 rfl) rfl
theorem q660 : (Jvm.Cond.instanceMethod ({ cls := "LectureTurns$Lecture", name := "isSpeaker", desc := "(I)Z" } : Jvm.MethodName)) ∈ lw_all := lw_g (lw_at lw_m3 115 rfl) rfl
theorem q661 : (Jvm.Cond.selects "LectureTurns$Lecture" ({ cls := "LectureTurns$Lecture", name := "isSpeaker", desc := "(I)Z" } : Jvm.MethodName) ({ cls := "LectureTurns$Lecture", name := "isSpeaker", desc := "(I)Z" } : Jvm.MethodName)) ∈ lw_all := lw_g (lw_at lw_m3 116 rfl) rfl
theorem q662 : (Jvm.Cond.code ({ cls := "LectureTurns$Lecture", name := "isSpeaker", desc := "(I)Z" } : Jvm.MethodName) prog_5_method_4_code (2 : Nat) (Option.some Jvm.ClassFile.FieldType.boolean)) ∈ lw_all := lw_g (lw_at lw_m3 117 rfl) rfl
theorem q663 : (Jvm.Cond.constantLong "LectureTurns$Lecture" (50 : Nat) (5 : Int64)) ∈ lw_all := lw_g (lw_at lw_m3 118 rfl) rfl
theorem q664 : (Jvm.Cond.methodLink "LectureTurns$Lecture" (173 : Nat) ({ cls := "LectureTurns$Lecture", name := "average", desc := "(I)V" } : Jvm.MethodName)) ∈ lw_all := lw_g (lw_at lw_m3 119 rfl) rfl
theorem q665 : (Jvm.Cond.privateMethod ({ cls := "LectureTurns$Lecture", name := "average", desc := "(I)V" } : Jvm.MethodName)) ∈ lw_tbl := lw_at lw_m3 120 rfl
theorem q666 : (Jvm.Cond.instanceMethod ({ cls := "LectureTurns$Lecture", name := "average", desc := "(I)V" } : Jvm.MethodName)) ∈ lw_all := lw_g (lw_at lw_m3 121 rfl) rfl
theorem q667 : (Jvm.Cond.code ({ cls := "LectureTurns$Lecture", name := "average", desc := "(I)V" } : Jvm.MethodName) prog_5_method_21_code (5 : Nat) (Option.none : Option Jvm.ClassFile.FieldType)) ∈ lw_all := lw_g (lw_at lw_m3 122 rfl) rfl
theorem q668 : (Jvm.Cond.methodLink "LectureTurns$Lecture" (167 : Nat) ({ cls := "LectureTurns$Lecture", name := "turnsOf", desc := "(I)I" } : Jvm.MethodName)) ∈ lw_all := lw_g (lw_at lw_m3 123 rfl) rfl
theorem q669 : (Jvm.Cond.instanceMethod ({ cls := "LectureTurns$Lecture", name := "turnsOf", desc := "(I)I" } : Jvm.MethodName)) ∈ lw_all := lw_g (lw_at lw_m3 124 rfl) rfl
theorem q670 : (Jvm.Cond.selects "LectureTurns$Lecture" ({ cls := "LectureTurns$Lecture", name := "turnsOf", desc := "(I)I" } : Jvm.MethodName) ({ cls := "LectureTurns$Lecture", name := "turnsOf", desc := "(I)I" } : Jvm.MethodName)) ∈ lw_all := lw_g (lw_at lw_m3 125 rfl) rfl
theorem q671 : (Jvm.Cond.code ({ cls := "LectureTurns$Lecture", name := "turnsOf", desc := "(I)I" } : Jvm.MethodName) prog_5_method_20_code (4 : Nat) (Option.some Jvm.ClassFile.FieldType.int)) ∈ lw_all := lw_g (lw_at lw_m3 126 rfl) rfl
theorem q673 : (Jvm.Cond.instanceMethod ({ cls := "LectureTurns$Lecture", name := "joins", desc := "(II)I" } : Jvm.MethodName)) ∈ lw_all := lw_g (lw_at lw_m3 128 rfl) rfl
theorem q674 : (Jvm.Cond.selects "LectureTurns$Lecture" ({ cls := "LectureTurns$Lecture", name := "joins", desc := "(II)I" } : Jvm.MethodName) ({ cls := "LectureTurns$Lecture", name := "joins", desc := "(II)I" } : Jvm.MethodName)) ∈ lw_all := lw_g (lw_at lw_m3 129 rfl) rfl
theorem q675 : (Jvm.Cond.code ({ cls := "LectureTurns$Lecture", name := "joins", desc := "(II)I" } : Jvm.MethodName) prog_5_method_23_code (5 : Nat) (Option.some Jvm.ClassFile.FieldType.int)) ∈ lw_all := lw_g (lw_at lw_m3 130 rfl) rfl
theorem q677 : (Jvm.Cond.instanceMethod ({ cls := "LectureTurns$Lecture", name := "toleranceTo", desc := "(I)I" } : Jvm.MethodName)) ∈ lw_all := lw_g (lw_at lw_m3 132 rfl) rfl
theorem q678 : (Jvm.Cond.selects "LectureTurns$Lecture" ({ cls := "LectureTurns$Lecture", name := "toleranceTo", desc := "(I)I" } : Jvm.MethodName) ({ cls := "LectureTurns$Lecture", name := "toleranceTo", desc := "(I)I" } : Jvm.MethodName)) ∈ lw_all := lw_g (lw_at lw_m3 133 rfl) rfl
theorem q679 : (Jvm.Cond.code ({ cls := "LectureTurns$Lecture", name := "toleranceTo", desc := "(I)I" } : Jvm.MethodName) prog_5_method_24_code (3 : Nat) (Option.some Jvm.ClassFile.FieldType.int)) ∈ lw_all := lw_g (lw_at lw_m3 134 rfl) rfl
theorem q680 : (Jvm.Cond.constantLong "LectureTurns$Lecture" (177 : Nat) (200 : Int64)) ∈ lw_all := lw_g (lw_at lw_m3 135 rfl) rfl
theorem q790 : (Jvm.Cond.instanceMethod ({ cls := "LectureTurns$Lecture", name := "meeting", desc := "(LLectureTurns$Turn;)I" } : Jvm.MethodName)) ∈ lw_all := lw_g (lw_at lw_m4 5 rfl) rfl
theorem q791 : (Jvm.Cond.selects "LectureTurns$Lecture" ({ cls := "LectureTurns$Lecture", name := "meeting", desc := "(LLectureTurns$Turn;)I" } : Jvm.MethodName) ({ cls := "LectureTurns$Lecture", name := "meeting", desc := "(LLectureTurns$Turn;)I" } : Jvm.MethodName)) ∈ lw_all := lw_g (lw_at lw_m4 6 rfl) rfl
theorem q792 : (Jvm.Cond.code ({ cls := "LectureTurns$Lecture", name := "meeting", desc := "(LLectureTurns$Turn;)I" } : Jvm.MethodName) prog_5_method_25_code (4 : Nat) (Option.some Jvm.ClassFile.FieldType.int)) ∈ lw_all := lw_g (lw_at lw_m4 7 rfl) rfl
theorem q793 : (Jvm.Cond.methodLink "LectureTurns$Lecture" (179 : Nat) ({ cls := "LectureTurns$Turn", name := "meets", desc := "(LLectureTurns$Turn;)Z" } : Jvm.MethodName)) ∈ lw_all := lw_g (lw_at lw_m4 8 rfl) rfl
theorem q800 : (Jvm.Cond.instanceMethod ({ cls := "LectureTurns$Lecture", name := "interrupted", desc := "(LLectureTurns$Turn;)I" } : Jvm.MethodName)) ∈ lw_all := lw_g (lw_at lw_m4 15 rfl) rfl
theorem q801 : (Jvm.Cond.selects "LectureTurns$Lecture" ({ cls := "LectureTurns$Lecture", name := "interrupted", desc := "(LLectureTurns$Turn;)I" } : Jvm.MethodName) ({ cls := "LectureTurns$Lecture", name := "interrupted", desc := "(LLectureTurns$Turn;)I" } : Jvm.MethodName)) ∈ lw_all := lw_g (lw_at lw_m4 16 rfl) rfl
theorem q802 : (Jvm.Cond.code ({ cls := "LectureTurns$Lecture", name := "interrupted", desc := "(LLectureTurns$Turn;)I" } : Jvm.MethodName) prog_5_method_26_code (4 : Nat) (Option.some Jvm.ClassFile.FieldType.int)) ∈ lw_all := lw_g (lw_at lw_m4 17 rfl) rfl
theorem q803 : (Jvm.Cond.methodLink "LectureTurns$Lecture" (183 : Nat) ({ cls := "LectureTurns$Turn", name := "breaksInto", desc := "(LLectureTurns$Turn;)Z" } : Jvm.MethodName)) ∈ lw_all := lw_g (lw_at lw_m4 18 rfl) rfl
theorem q810 : (Jvm.Cond.instanceMethod ({ cls := "LectureTurns$Lecture", name := "alone", desc := "(LLectureTurns$Turn;)I" } : Jvm.MethodName)) ∈ lw_all := lw_g (lw_at lw_m4 25 rfl) rfl
theorem q811 : (Jvm.Cond.selects "LectureTurns$Lecture" ({ cls := "LectureTurns$Lecture", name := "alone", desc := "(LLectureTurns$Turn;)I" } : Jvm.MethodName) ({ cls := "LectureTurns$Lecture", name := "alone", desc := "(LLectureTurns$Turn;)I" } : Jvm.MethodName)) ∈ lw_all := lw_g (lw_at lw_m4 26 rfl) rfl
theorem q812 : (Jvm.Cond.code ({ cls := "LectureTurns$Lecture", name := "alone", desc := "(LLectureTurns$Turn;)I" } : Jvm.MethodName) prog_5_method_28_code (4 : Nat) (Option.some Jvm.ClassFile.FieldType.int)) ∈ lw_all := lw_g (lw_at lw_m4 27 rfl) rfl
theorem q813 : (Jvm.Cond.methodLink "LectureTurns$Lecture" (189 : Nat) ({ cls := "LectureTurns$Lecture", name := "going", desc := "(I)I" } : Jvm.MethodName)) ∈ lw_all := lw_g (lw_at lw_m4 28 rfl) rfl
theorem q814 : (Jvm.Cond.instanceMethod ({ cls := "LectureTurns$Lecture", name := "going", desc := "(I)I" } : Jvm.MethodName)) ∈ lw_all := lw_g (lw_at lw_m4 29 rfl) rfl
theorem q815 : (Jvm.Cond.selects "LectureTurns$Lecture" ({ cls := "LectureTurns$Lecture", name := "going", desc := "(I)I" } : Jvm.MethodName) ({ cls := "LectureTurns$Lecture", name := "going", desc := "(I)I" } : Jvm.MethodName)) ∈ lw_all := lw_g (lw_at lw_m4 30 rfl) rfl
theorem q816 : (Jvm.Cond.code ({ cls := "LectureTurns$Lecture", name := "going", desc := "(I)I" } : Jvm.MethodName) prog_5_method_27_code (4 : Nat) (Option.some Jvm.ClassFile.FieldType.int)) ∈ lw_all := lw_g (lw_at lw_m4 31 rfl) rfl
theorem q817 : (Jvm.Cond.methodLink "LectureTurns$Lecture" (186 : Nat) ({ cls := "LectureTurns$Turn", name := "goesOn", desc := "(I)Z" } : Jvm.MethodName)) ∈ lw_all := lw_g (lw_at lw_m4 32 rfl) rfl
theorem q840 : (Jvm.Cond.instanceMethod ({ cls := "LectureTurns$Lecture", name := "chain", desc := "(I)I" } : Jvm.MethodName)) ∈ lw_all := lw_g (lw_at lw_m4 55 rfl) rfl
theorem q841 : (Jvm.Cond.selects "LectureTurns$Lecture" ({ cls := "LectureTurns$Lecture", name := "chain", desc := "(I)I" } : Jvm.MethodName) ({ cls := "LectureTurns$Lecture", name := "chain", desc := "(I)I" } : Jvm.MethodName)) ∈ lw_all := lw_g (lw_at lw_m4 56 rfl) rfl
theorem q842 : (Jvm.Cond.code ({ cls := "LectureTurns$Lecture", name := "chain", desc := "(I)I" } : Jvm.MethodName) prog_5_method_12_code (2 : Nat) (Option.some Jvm.ClassFile.FieldType.int)) ∈ lw_all := lw_g (lw_at lw_m4 57 rfl) rfl
theorem q843 : (Jvm.Cond.methodLink "LectureTurns$Lecture" (127 : Nat) ({ cls := "LectureTurns$Lecture", name := "chain", desc := "(I)I" } : Jvm.MethodName)) ∈ lw_all := lw_g (lw_at lw_m4 58 rfl) rfl
theorem q845 : (Jvm.Cond.instanceMethod ({ cls := "LectureTurns$Lecture", name := "shownAs", desc := "(I)I" } : Jvm.MethodName)) ∈ lw_all := lw_g (lw_at lw_m4 60 rfl) rfl
theorem q846 : (Jvm.Cond.selects "LectureTurns$Lecture" ({ cls := "LectureTurns$Lecture", name := "shownAs", desc := "(I)I" } : Jvm.MethodName) ({ cls := "LectureTurns$Lecture", name := "shownAs", desc := "(I)I" } : Jvm.MethodName)) ∈ lw_all := lw_g (lw_at lw_m4 61 rfl) rfl
theorem q847 : (Jvm.Cond.code ({ cls := "LectureTurns$Lecture", name := "shownAs", desc := "(I)I" } : Jvm.MethodName) prog_5_method_15_code (4 : Nat) (Option.some Jvm.ClassFile.FieldType.int)) ∈ lw_all := lw_g (lw_at lw_m4 62 rfl) rfl
theorem q855 : (Jvm.Cond.instanceMethod ({ cls := "LectureTurns$Lecture", name := "shows", desc := "(LLectureTurns$Turn;)I" } : Jvm.MethodName)) ∈ lw_all := lw_g (lw_at lw_m4 70 rfl) rfl
theorem q856 : (Jvm.Cond.selects "LectureTurns$Lecture" ({ cls := "LectureTurns$Lecture", name := "shows", desc := "(LLectureTurns$Turn;)I" } : Jvm.MethodName) ({ cls := "LectureTurns$Lecture", name := "shows", desc := "(LLectureTurns$Turn;)I" } : Jvm.MethodName)) ∈ lw_all := lw_g (lw_at lw_m4 71 rfl) rfl
theorem q857 : (Jvm.Cond.code ({ cls := "LectureTurns$Lecture", name := "shows", desc := "(LLectureTurns$Turn;)I" } : Jvm.MethodName) prog_5_method_29_code (5 : Nat) (Option.some Jvm.ClassFile.FieldType.int)) ∈ lw_all := lw_g (lw_at lw_m4 72 rfl) rfl
theorem q873 : (Jvm.Cond.instanceMethod ({ cls := "LectureTurns$Lecture", name := "interruptions", desc := "(II)I" } : Jvm.MethodName)) ∈ lw_all := lw_g (lw_at lw_m4 88 rfl) rfl
theorem q874 : (Jvm.Cond.selects "LectureTurns$Lecture" ({ cls := "LectureTurns$Lecture", name := "interruptions", desc := "(II)I" } : Jvm.MethodName) ({ cls := "LectureTurns$Lecture", name := "interruptions", desc := "(II)I" } : Jvm.MethodName)) ∈ lw_all := lw_g (lw_at lw_m4 89 rfl) rfl
theorem q875 : (Jvm.Cond.code ({ cls := "LectureTurns$Lecture", name := "interruptions", desc := "(II)I" } : Jvm.MethodName) prog_5_method_30_code (7 : Nat) (Option.some Jvm.ClassFile.FieldType.int)) ∈ lw_all := lw_g (lw_at lw_m4 90 rfl) rfl
theorem q925 : (Jvm.Cond.instanceMethod ({ cls := "LectureTurns$Lecture", name := "lastEnd", desc := "()I" } : Jvm.MethodName)) ∈ lw_all := lw_g (lw_at lw_m4 140 rfl) rfl
theorem q926 : (Jvm.Cond.selects "LectureTurns$Lecture" ({ cls := "LectureTurns$Lecture", name := "lastEnd", desc := "()I" } : Jvm.MethodName) ({ cls := "LectureTurns$Lecture", name := "lastEnd", desc := "()I" } : Jvm.MethodName)) ∈ lw_all := lw_g (lw_at lw_m4 141 rfl) rfl
theorem q927 : (Jvm.Cond.code ({ cls := "LectureTurns$Lecture", name := "lastEnd", desc := "()I" } : Jvm.MethodName) prog_5_method_31_code (3 : Nat) (Option.some Jvm.ClassFile.FieldType.int)) ∈ lw_all := lw_g (lw_at lw_m4 142 rfl) rfl
theorem q928 : (Jvm.Cond.methodLink "LectureTurns$Lecture" (192 : Nat) ({ cls := "java/lang/Math", name := "max", desc := "(II)I" } : Jvm.MethodName)) ∈ lw_all := lw_g (lw_at lw_m4 143 rfl) rfl
theorem q1630 : (Jvm.Cond.castable "LectureTurns$Lecture" "java/lang/Object") ∈ lw_tbl := lw_at lw_m7 125 rfl
theorem in_X1 : ∀ w ∈ wsX10, w ∈ lw_all := lw_in wsX10 [159, 161, 163, 165] (by decide +kernel) (by decide +kernel)
