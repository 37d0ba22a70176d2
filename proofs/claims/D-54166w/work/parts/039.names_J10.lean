/-! java/util/ArrayList$Itr -/
set_option maxRecDepth 100000
def RJ10 : String := "java/util/ArrayList$Itr"
def TJ10 : u_T := fun k => match k with
  | 0 => ("java/util/ArrayList$Itr", "cursor", "I", false)
  | 1 => ("java/util/ArrayList$Itr", "lastRet", "I", false)
  | 2 => ("java/util/ArrayList$Itr", "expectedModCount", "I", false)
  | _ => ("java/util/ArrayList$Itr", "this$0", "Ljava/util/ArrayList;", true)
def tyJ10 : Nat → FieldType := fun k => match k with
  | 0 => .int
  | 1 => .int
  | 2 => .int
  | _ => .object "java/util/ArrayList"
abbrev wsJ100 : List Cond := u_ws RJ10 TJ10 4
theorem nmJ10 : ∀ a, a < 4 → ∀ b, b < 4 → a ≠ b → (TJ10 a).2.1 ≠ (TJ10 b).2.1 := by decide +kernel
theorem tyJ10_ok : ∀ k, k < 4 → parseFieldDescriptor (TJ10 k).2.2.1 = some (tyJ10 k) := by decide +kernel
abbrev cJ10_init : ByteArray := prog_39_method_1_code
def yJ10_init : MethodName := ⟨RJ10, "<init>", "(Ljava/util/ArrayList;)V"⟩
def dkwJ10_init_1 : List UInt8 := [181, 0, 22, 177]
abbrev dktJ10_init_1 : List UInt8 := dkwJ10_init_1 ++ []
def dkwJ10_init_0 : List UInt8 := [42, 43, 181, 0, 1, 42, 183, 0, 7, 42, 2, 181, 0, 13, 42, 42, 180, 0, 1, 180, 0, 17]
abbrev dktJ10_init_0 : List UInt8 := dkwJ10_init_0 ++ dktJ10_init_1
theorem dksJ10_init_0 : cJ10_init.data.toList.drop 0 = dktJ10_init_0 := by decide +kernel
theorem dksJ10_init_1 : cJ10_init.data.toList.drop 22 = dktJ10_init_1 := dk_seg dksJ10_init_0 22 rfl rfl
theorem dJ10_init_0 : decode cJ10_init 0 = .ok (.aload_n 0, 1) := dk_42 (dk_at dksJ10_init_0 0 rfl rfl)
theorem dJ10_init_1 : decode cJ10_init 1 = .ok (.aload_n 1, 1) := dk_43 (dk_at dksJ10_init_0 1 rfl rfl)
theorem dJ10_init_2 : decode cJ10_init 2 = .ok (.putfield 1, 3) := dk_181 0 1 (dk_at dksJ10_init_0 2 rfl rfl)
theorem dJ10_init_5 : decode cJ10_init 5 = .ok (.aload_n 0, 1) := dk_42 (dk_at dksJ10_init_0 5 rfl rfl)
theorem dJ10_init_6 : decode cJ10_init 6 = .ok (.invokespecial 7, 3) := dk_183 0 7 (dk_at dksJ10_init_0 6 rfl rfl)
theorem dJ10_init_9 : decode cJ10_init 9 = .ok (.aload_n 0, 1) := dk_42 (dk_at dksJ10_init_0 9 rfl rfl)
theorem dJ10_init_10 : decode cJ10_init 10 = .ok (.iconst (-1), 1) := dk_2 (dk_at dksJ10_init_0 10 rfl rfl)
theorem dJ10_init_11 : decode cJ10_init 11 = .ok (.putfield 13, 3) := dk_181 0 13 (dk_at dksJ10_init_0 11 rfl rfl)
theorem dJ10_init_14 : decode cJ10_init 14 = .ok (.aload_n 0, 1) := dk_42 (dk_at dksJ10_init_0 14 rfl rfl)
theorem dJ10_init_15 : decode cJ10_init 15 = .ok (.aload_n 0, 1) := dk_42 (dk_at dksJ10_init_0 15 rfl rfl)
theorem dJ10_init_16 : decode cJ10_init 16 = .ok (.getfield 1, 3) := dk_180 0 1 (dk_at dksJ10_init_0 16 rfl rfl)
theorem dJ10_init_19 : decode cJ10_init 19 = .ok (.getfield 17, 3) := dk_180 0 17 (dk_at dksJ10_init_0 19 rfl rfl)
theorem dJ10_init_22 : decode cJ10_init 22 = .ok (.putfield 22, 3) := dk_181 0 22 (dk_at dksJ10_init_1 0 rfl rfl)
theorem dJ10_init_25 : decode cJ10_init 25 = .ok (.return_, 1) := dk_177 (dk_at dksJ10_init_1 3 rfl rfl)
abbrev cJ10_hasNext : ByteArray := prog_39_method_2_code
def yJ10_hasNext : MethodName := ⟨RJ10, "hasNext", "()Z"⟩
def dkwJ10_hasNext_0 : List UInt8 := [42, 180, 0, 25, 42, 180, 0, 1, 180, 0, 28, 159, 0, 7, 4, 167, 0, 4, 3, 172]
abbrev dktJ10_hasNext_0 : List UInt8 := dkwJ10_hasNext_0 ++ []
theorem dksJ10_hasNext_0 : cJ10_hasNext.data.toList.drop 0 = dktJ10_hasNext_0 := by decide +kernel
theorem dJ10_hasNext_0 : decode cJ10_hasNext 0 = .ok (.aload_n 0, 1) := dk_42 (dk_at dksJ10_hasNext_0 0 rfl rfl)
theorem dJ10_hasNext_1 : decode cJ10_hasNext 1 = .ok (.getfield 25, 3) := dk_180 0 25 (dk_at dksJ10_hasNext_0 1 rfl rfl)
theorem dJ10_hasNext_4 : decode cJ10_hasNext 4 = .ok (.aload_n 0, 1) := dk_42 (dk_at dksJ10_hasNext_0 4 rfl rfl)
theorem dJ10_hasNext_5 : decode cJ10_hasNext 5 = .ok (.getfield 1, 3) := dk_180 0 1 (dk_at dksJ10_hasNext_0 5 rfl rfl)
theorem dJ10_hasNext_8 : decode cJ10_hasNext 8 = .ok (.getfield 28, 3) := dk_180 0 28 (dk_at dksJ10_hasNext_0 8 rfl rfl)
theorem dJ10_hasNext_11 : decode cJ10_hasNext 11 = .ok (.if_icmp .eq 7, 3) := dk_159 0 7 (dk_at dksJ10_hasNext_0 11 rfl rfl)
theorem dJ10_hasNext_14 : decode cJ10_hasNext 14 = .ok (.iconst 1, 1) := dk_4 (dk_at dksJ10_hasNext_0 14 rfl rfl)
theorem dJ10_hasNext_15 : decode cJ10_hasNext 15 = .ok (.goto 4, 3) := dk_167 0 4 (dk_at dksJ10_hasNext_0 15 rfl rfl)
theorem dJ10_hasNext_18 : decode cJ10_hasNext 18 = .ok (.iconst 0, 1) := dk_3 (dk_at dksJ10_hasNext_0 18 rfl rfl)
theorem dJ10_hasNext_19 : decode cJ10_hasNext 19 = .ok (.ireturn, 1) := dk_172 (dk_at dksJ10_hasNext_0 19 rfl rfl)
abbrev cJ10_next : ByteArray := prog_39_method_3_code
def yJ10_next : MethodName := ⟨RJ10, "next", "()Ljava/lang/Object;"⟩
def dkwJ10_next_2 : List UInt8 := [183, 0, 43, 191, 42, 27, 4, 96, 181, 0, 25, 44, 42, 27, 90, 181, 0, 13, 50, 176]
abbrev dktJ10_next_2 : List UInt8 := dkwJ10_next_2 ++ []
def dkwJ10_next_1 : List UInt8 := [183, 0, 36, 191, 42, 180, 0, 1, 180, 0, 37, 77, 27, 44, 190, 161, 0, 11, 187, 0, 41, 89]
abbrev dktJ10_next_1 : List UInt8 := dkwJ10_next_1 ++ dktJ10_next_2
def dkwJ10_next_0 : List UInt8 := [42, 182, 0, 31, 42, 180, 0, 25, 60, 27, 42, 180, 0, 1, 180, 0, 28, 161, 0, 11, 187, 0, 34, 89]
abbrev dktJ10_next_0 : List UInt8 := dkwJ10_next_0 ++ dktJ10_next_1
theorem dksJ10_next_0 : cJ10_next.data.toList.drop 0 = dktJ10_next_0 := by decide +kernel
theorem dksJ10_next_1 : cJ10_next.data.toList.drop 24 = dktJ10_next_1 := dk_seg dksJ10_next_0 24 rfl rfl
theorem dksJ10_next_2 : cJ10_next.data.toList.drop 46 = dktJ10_next_2 := dk_seg dksJ10_next_1 22 rfl rfl
theorem dJ10_next_0 : decode cJ10_next 0 = .ok (.aload_n 0, 1) := dk_42 (dk_at dksJ10_next_0 0 rfl rfl)
theorem dJ10_next_1 : decode cJ10_next 1 = .ok (.invokevirtual 31, 3) := dk_182 0 31 (dk_at dksJ10_next_0 1 rfl rfl)
theorem dJ10_next_4 : decode cJ10_next 4 = .ok (.aload_n 0, 1) := dk_42 (dk_at dksJ10_next_0 4 rfl rfl)
theorem dJ10_next_5 : decode cJ10_next 5 = .ok (.getfield 25, 3) := dk_180 0 25 (dk_at dksJ10_next_0 5 rfl rfl)
theorem dJ10_next_8 : decode cJ10_next 8 = .ok (.istore_n 1, 1) := dk_60 (dk_at dksJ10_next_0 8 rfl rfl)
theorem dJ10_next_9 : decode cJ10_next 9 = .ok (.iload_n 1, 1) := dk_27 (dk_at dksJ10_next_0 9 rfl rfl)
theorem dJ10_next_10 : decode cJ10_next 10 = .ok (.aload_n 0, 1) := dk_42 (dk_at dksJ10_next_0 10 rfl rfl)
theorem dJ10_next_11 : decode cJ10_next 11 = .ok (.getfield 1, 3) := dk_180 0 1 (dk_at dksJ10_next_0 11 rfl rfl)
theorem dJ10_next_14 : decode cJ10_next 14 = .ok (.getfield 28, 3) := dk_180 0 28 (dk_at dksJ10_next_0 14 rfl rfl)
theorem dJ10_next_17 : decode cJ10_next 17 = .ok (.if_icmp .lt 11, 3) := dk_161 0 11 (dk_at dksJ10_next_0 17 rfl rfl)
theorem dJ10_next_20 : decode cJ10_next 20 = .ok (.new 34, 3) := dk_187 0 34 (dk_at dksJ10_next_0 20 rfl rfl)
theorem dJ10_next_23 : decode cJ10_next 23 = .ok (.dup, 1) := dk_89 (dk_at dksJ10_next_0 23 rfl rfl)
theorem dJ10_next_24 : decode cJ10_next 24 = .ok (.invokespecial 36, 3) := dk_183 0 36 (dk_at dksJ10_next_1 0 rfl rfl)
theorem dJ10_next_27 : decode cJ10_next 27 = .ok (.athrow, 1) := dk_191 (dk_at dksJ10_next_1 3 rfl rfl)
theorem dJ10_next_28 : decode cJ10_next 28 = .ok (.aload_n 0, 1) := dk_42 (dk_at dksJ10_next_1 4 rfl rfl)
theorem dJ10_next_29 : decode cJ10_next 29 = .ok (.getfield 1, 3) := dk_180 0 1 (dk_at dksJ10_next_1 5 rfl rfl)
theorem dJ10_next_32 : decode cJ10_next 32 = .ok (.getfield 37, 3) := dk_180 0 37 (dk_at dksJ10_next_1 8 rfl rfl)
theorem dJ10_next_35 : decode cJ10_next 35 = .ok (.astore_n 2, 1) := dk_77 (dk_at dksJ10_next_1 11 rfl rfl)
theorem dJ10_next_36 : decode cJ10_next 36 = .ok (.iload_n 1, 1) := dk_27 (dk_at dksJ10_next_1 12 rfl rfl)
theorem dJ10_next_37 : decode cJ10_next 37 = .ok (.aload_n 2, 1) := dk_44 (dk_at dksJ10_next_1 13 rfl rfl)
theorem dJ10_next_38 : decode cJ10_next 38 = .ok (.arraylength, 1) := dk_190 (dk_at dksJ10_next_1 14 rfl rfl)
theorem dJ10_next_39 : decode cJ10_next 39 = .ok (.if_icmp .lt 11, 3) := dk_161 0 11 (dk_at dksJ10_next_1 15 rfl rfl)
theorem dJ10_next_42 : decode cJ10_next 42 = .ok (.new 41, 3) := dk_187 0 41 (dk_at dksJ10_next_1 18 rfl rfl)
theorem dJ10_next_45 : decode cJ10_next 45 = .ok (.dup, 1) := dk_89 (dk_at dksJ10_next_1 21 rfl rfl)
theorem dJ10_next_46 : decode cJ10_next 46 = .ok (.invokespecial 43, 3) := dk_183 0 43 (dk_at dksJ10_next_2 0 rfl rfl)
theorem dJ10_next_49 : decode cJ10_next 49 = .ok (.athrow, 1) := dk_191 (dk_at dksJ10_next_2 3 rfl rfl)
theorem dJ10_next_50 : decode cJ10_next 50 = .ok (.aload_n 0, 1) := dk_42 (dk_at dksJ10_next_2 4 rfl rfl)
theorem dJ10_next_51 : decode cJ10_next 51 = .ok (.iload_n 1, 1) := dk_27 (dk_at dksJ10_next_2 5 rfl rfl)
theorem dJ10_next_52 : decode cJ10_next 52 = .ok (.iconst 1, 1) := dk_4 (dk_at dksJ10_next_2 6 rfl rfl)
theorem dJ10_next_53 : decode cJ10_next 53 = .ok (.iadd, 1) := dk_96 (dk_at dksJ10_next_2 7 rfl rfl)
theorem dJ10_next_54 : decode cJ10_next 54 = .ok (.putfield 25, 3) := dk_181 0 25 (dk_at dksJ10_next_2 8 rfl rfl)
theorem dJ10_next_57 : decode cJ10_next 57 = .ok (.aload_n 2, 1) := dk_44 (dk_at dksJ10_next_2 11 rfl rfl)
theorem dJ10_next_58 : decode cJ10_next 58 = .ok (.aload_n 0, 1) := dk_42 (dk_at dksJ10_next_2 12 rfl rfl)
theorem dJ10_next_59 : decode cJ10_next 59 = .ok (.iload_n 1, 1) := dk_27 (dk_at dksJ10_next_2 13 rfl rfl)
theorem dJ10_next_60 : decode cJ10_next 60 = .ok (.dup_x1, 1) := dk_90 (dk_at dksJ10_next_2 14 rfl rfl)
theorem dJ10_next_61 : decode cJ10_next 61 = .ok (.putfield 13, 3) := dk_181 0 13 (dk_at dksJ10_next_2 15 rfl rfl)
theorem dJ10_next_64 : decode cJ10_next 64 = .ok (.aaload, 1) := dk_50 (dk_at dksJ10_next_2 18 rfl rfl)
theorem dJ10_next_65 : decode cJ10_next 65 = .ok (.areturn, 1) := dk_176 (dk_at dksJ10_next_2 19 rfl rfl)
abbrev cJ10_checkForComodification : ByteArray := prog_39_method_6_code
def yJ10_checkForComodification : MethodName := ⟨RJ10, "checkForComodification", "()V"⟩
def dkwJ10_checkForComodification_0 : List UInt8 := [42, 180, 0, 1, 180, 0, 17, 42, 180, 0, 22, 159, 0, 11, 187, 0, 41, 89, 183, 0, 43, 191, 177]
abbrev dktJ10_checkForComodification_0 : List UInt8 := dkwJ10_checkForComodification_0 ++ []
theorem dksJ10_checkForComodification_0 : cJ10_checkForComodification.data.toList.drop 0 = dktJ10_checkForComodification_0 := by decide +kernel
theorem dJ10_checkForComodification_0 : decode cJ10_checkForComodification 0 = .ok (.aload_n 0, 1) := dk_42 (dk_at dksJ10_checkForComodification_0 0 rfl rfl)
theorem dJ10_checkForComodification_1 : decode cJ10_checkForComodification 1 = .ok (.getfield 1, 3) := dk_180 0 1 (dk_at dksJ10_checkForComodification_0 1 rfl rfl)
theorem dJ10_checkForComodification_4 : decode cJ10_checkForComodification 4 = .ok (.getfield 17, 3) := dk_180 0 17 (dk_at dksJ10_checkForComodification_0 4 rfl rfl)
theorem dJ10_checkForComodification_7 : decode cJ10_checkForComodification 7 = .ok (.aload_n 0, 1) := dk_42 (dk_at dksJ10_checkForComodification_0 7 rfl rfl)
theorem dJ10_checkForComodification_8 : decode cJ10_checkForComodification 8 = .ok (.getfield 22, 3) := dk_180 0 22 (dk_at dksJ10_checkForComodification_0 8 rfl rfl)
theorem dJ10_checkForComodification_11 : decode cJ10_checkForComodification 11 = .ok (.if_icmp .eq 11, 3) := dk_159 0 11 (dk_at dksJ10_checkForComodification_0 11 rfl rfl)
theorem dJ10_checkForComodification_14 : decode cJ10_checkForComodification 14 = .ok (.new 41, 3) := dk_187 0 41 (dk_at dksJ10_checkForComodification_0 14 rfl rfl)
theorem dJ10_checkForComodification_17 : decode cJ10_checkForComodification 17 = .ok (.dup, 1) := dk_89 (dk_at dksJ10_checkForComodification_0 17 rfl rfl)
theorem dJ10_checkForComodification_18 : decode cJ10_checkForComodification 18 = .ok (.invokespecial 43, 3) := dk_183 0 43 (dk_at dksJ10_checkForComodification_0 18 rfl rfl)
theorem dJ10_checkForComodification_21 : decode cJ10_checkForComodification 21 = .ok (.athrow, 1) := dk_191 (dk_at dksJ10_checkForComodification_0 21 rfl rfl)
theorem dJ10_checkForComodification_22 : decode cJ10_checkForComodification 22 = .ok (.return_, 1) := dk_177 (dk_at dksJ10_checkForComodification_0 22 rfl rfl)
theorem q81 : (Jvm.Cond.initialized "java/util/ArrayList$Itr") ∈ lw_all := lw_g (lw_at lw_m1 16 rfl) rfl
theorem q133 : (Jvm.Cond.fieldLink "java/util/ArrayList$Itr" (37 : Nat) "java/util/ArrayList" "elementData" "[Ljava/lang/Object;") ∈ lw_all := lw_g (lw_at lw_m1 68 rfl) rfl
theorem q134 : (Jvm.Cond.fieldLinkNest "java/util/ArrayList$Itr" (28 : Nat) "java/util/ArrayList" "size" "I" "java/util/ArrayList") ∈ lw_tbl := lw_at lw_m1 69 rfl
theorem q137 : (Jvm.Cond.fieldLink "java/util/ArrayList$Itr" (17 : Nat) "java/util/ArrayList" "modCount" "I") ∈ lw_all := lw_g (lw_at lw_m1 72 rfl) rfl
theorem q312 : (Jvm.Cond.instantiable "java/util/ArrayList$Itr" (4 : Nat)) ∈ lw_all := lw_g (lw_at lw_m2 7 rfl) rfl
theorem q314 : (Jvm.Cond.instanceMethod ({ cls := "java/util/ArrayList$Itr", name := "<init>", desc := "(Ljava/util/ArrayList;)V" } : Jvm.MethodName)) ∈ lw_all := lw_g (lw_at lw_m2 9 rfl) rfl
theorem q315 : (Jvm.Cond.code ({ cls := "java/util/ArrayList$Itr", name := "<init>", desc := "(Ljava/util/ArrayList;)V" } : Jvm.MethodName) prog_39_method_1_code (2 : Nat) (Option.none : Option Jvm.ClassFile.FieldType)) ∈ lw_all := lw_g (lw_at lw_m2 10 rfl) rfl
theorem q316 : (Jvm.Cond.methodLink "java/util/ArrayList$Itr" (7 : Nat) ({ cls := "java/lang/Object", name := "<init>", desc := "()V" } : Jvm.MethodName)) ∈ lw_all := lw_g (lw_at lw_m2 11 rfl) rfl
theorem q317 : (Jvm.Cond.fieldLink "java/util/ArrayList$Itr" (25 : Nat) "java/util/ArrayList$Itr" "cursor" "I") ∈ lw_all := lw_g (lw_at lw_m2 12 rfl) rfl
theorem q318 : (Jvm.Cond.fieldLink "java/util/ArrayList$Itr" (13 : Nat) "java/util/ArrayList$Itr" "lastRet" "I") ∈ lw_all := lw_g (lw_at lw_m2 13 rfl) rfl
theorem q319 : (Jvm.Cond.fieldLink "java/util/ArrayList$Itr" (22 : Nat) "java/util/ArrayList$Itr" "expectedModCount" "I") ∈ lw_all := lw_g (lw_at lw_m2 14 rfl) rfl
theorem q320 : (Jvm.Cond.fieldLink "java/util/ArrayList$Itr" (1 : Nat) "java/util/ArrayList$Itr" "this$0" "Ljava/util/ArrayList;") ∈ lw_all := lw_g (lw_at lw_m2 15 rfl) rfl
theorem q321 : (Jvm.Cond.lays "java/util/ArrayList$Itr" "java/util/ArrayList$Itr" "cursor" "I") ∈ lw_all := lw_g (lw_at lw_m2 16 rfl) rfl
theorem q322 : (Jvm.Cond.soleField "java/util/ArrayList$Itr" "cursor") ∈ lw_all := lw_g (lw_at lw_m2 17 rfl) rfl
theorem q323 : (Jvm.Cond.lays "java/util/ArrayList$Itr" "java/util/ArrayList$Itr" "lastRet" "I") ∈ lw_all := lw_g (lw_at lw_m2 18 rfl) rfl
theorem q324 : (Jvm.Cond.soleField "java/util/ArrayList$Itr" "lastRet") ∈ lw_all := lw_g (lw_at lw_m2 19 rfl) rfl
theorem q325 : (Jvm.Cond.lays "java/util/ArrayList$Itr" "java/util/ArrayList$Itr" "expectedModCount" "I") ∈ lw_all := lw_g (lw_at lw_m2 20 rfl) rfl
theorem q326 : (Jvm.Cond.soleField "java/util/ArrayList$Itr" "expectedModCount") ∈ lw_all := lw_g (lw_at lw_m2 21 rfl) rfl
theorem q327 : (Jvm.Cond.laysFinal "java/util/ArrayList$Itr" "java/util/ArrayList$Itr" "this$0" "Ljava/util/ArrayList;") ∈ lw_all := lw_g (lw_at lw_m2 22 rfl) rfl
theorem q328 : (Jvm.Cond.soleField "java/util/ArrayList$Itr" "this$0") ∈ lw_all := lw_g (lw_at lw_m2 23 rfl) rfl
theorem q329 : (Jvm.Cond.superclass "java/util/ArrayList$Itr" "java/lang/Object") ∈ lw_all := lw_g (lw_at lw_m2 24 rfl) rfl
theorem q334 : (Jvm.Cond.castable "java/util/ArrayList$Itr" "java/util/Iterator") ∈ lw_tbl := lw_at lw_m2 29 rfl
theorem q335 : (Jvm.Cond.selects "java/util/ArrayList$Itr" ({ cls := "java/util/Iterator", name := "hasNext", desc := "()Z" } : Jvm.MethodName) ({ cls := "java/util/ArrayList$Itr", name := "hasNext", desc := "()Z" } : Jvm.MethodName)) ∈ lw_all := lw_g (lw_at lw_m2 30 rfl) rfl
theorem q336 : (Jvm.Cond.unhidden "java/util/ArrayList$Itr" "hasNext" "()Z") ∈ lw_tbl := lw_at lw_m2 31 rfl
theorem q337 : (Jvm.Cond.instanceMethod ({ cls := "java/util/ArrayList$Itr", name := "hasNext", desc := "()Z" } : Jvm.MethodName)) ∈ lw_all := lw_g (lw_at lw_m2 32 rfl) rfl
theorem q338 : (Jvm.Cond.publicMethod ({ cls := "java/util/ArrayList$Itr", name := "hasNext", desc := "()Z" } : Jvm.MethodName)) ∈ lw_tbl := lw_at lw_m2 33 rfl
theorem q339 : (Jvm.Cond.code ({ cls := "java/util/ArrayList$Itr", name := "hasNext", desc := "()Z" } : Jvm.MethodName) prog_39_method_2_code (1 : Nat) (Option.some Jvm.ClassFile.FieldType.boolean)) ∈ lw_all := lw_g (lw_at lw_m2 34 rfl) rfl
theorem q344 : (Jvm.Cond.selects "java/util/ArrayList$Itr" ({ cls := "java/util/Iterator", name := "next", desc := "()Ljava/lang/Object;" } : Jvm.MethodName) ({ cls := "java/util/ArrayList$Itr", name := "next", desc := "()Ljava/lang/Object;" } : Jvm.MethodName)) ∈ lw_all := lw_g (lw_at lw_m2 39 rfl) rfl
theorem q345 : (Jvm.Cond.unhidden "java/util/ArrayList$Itr" "next" "()Ljava/lang/Object;") ∈ lw_tbl := lw_at lw_m2 40 rfl
theorem q346 : (Jvm.Cond.instanceMethod ({ cls := "java/util/ArrayList$Itr", name := "next", desc := "()Ljava/lang/Object;" } : Jvm.MethodName)) ∈ lw_all := lw_g (lw_at lw_m2 41 rfl) rfl
theorem q347 : (Jvm.Cond.publicMethod ({ cls := "java/util/ArrayList$Itr", name := "next", desc := "()Ljava/lang/Object;" } : Jvm.MethodName)) ∈ lw_tbl := lw_at lw_m2 42 rfl
theorem q348 : (Jvm.Cond.code ({ cls := "java/util/ArrayList$Itr", name := "next", desc := "()Ljava/lang/Object;" } : Jvm.MethodName) prog_39_method_3_code (3 : Nat) (Option.some (Jvm.ClassFile.FieldType.object "java/lang/Object"))) ∈ lw_all := lw_g (lw_at lw_m2 43 rfl) rfl
theorem q349 : (Jvm.Cond.methodLink "java/util/ArrayList$Itr" (31 : Nat) ({ cls := "java/util/ArrayList$Itr", name := "checkForComodification", desc := "()V" } : Jvm.MethodName)) ∈ lw_all := lw_g (lw_at lw_m2 44 rfl) rfl
theorem q350 : (Jvm.Cond.instanceMethod ({ cls := "java/util/ArrayList$Itr", name := "checkForComodification", desc := "()V" } : Jvm.MethodName)) ∈ lw_all := lw_g (lw_at lw_m2 45 rfl) rfl
theorem q351 : (Jvm.Cond.selects "java/util/ArrayList$Itr" ({ cls := "java/util/ArrayList$Itr", name := "checkForComodification", desc := "()V" } : Jvm.MethodName) ({ cls := "java/util/ArrayList$Itr", name := "checkForComodification", desc := "()V" } : Jvm.MethodName)) ∈ lw_all := lw_g (lw_at lw_m2 46 rfl) rfl
theorem q352 : (Jvm.Cond.code ({ cls := "java/util/ArrayList$Itr", name := "checkForComodification", desc := "()V" } : Jvm.MethodName) prog_39_method_6_code (1 : Nat) (Option.none : Option Jvm.ClassFile.FieldType)) ∈ lw_all := lw_g (lw_at lw_m2 47 rfl) rfl
theorem q399 : (Jvm.Cond.selects "java/util/ArrayList$Itr" ({ cls := "java/lang/Object", name := "getClass", desc := "()Ljava/lang/Class;" } : Jvm.MethodName) ({ cls := "java/lang/Object", name := "getClass", desc := "()Ljava/lang/Class;" } : Jvm.MethodName)) ∈ lw_all := lw_g (lw_at lw_m2 94 rfl) rfl
theorem q1637 : (Jvm.Cond.castable "java/util/ArrayList$Itr" "java/lang/Object") ∈ lw_tbl := lw_at lw_m7 132 rfl
theorem in_J10 : ∀ w ∈ wsJ100, w ∈ lw_all := lw_in wsJ100 [321, 323, 325, 327] (by decide +kernel) (by decide +kernel)
