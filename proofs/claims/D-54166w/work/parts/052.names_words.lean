theorem q65 : (Jvm.Cond.initialized "LectureTurnsLaw") ∈ lw_all := lw_g (lw_at lw_m1 0 rfl) rfl
set_option maxRecDepth 100000
theorem q98 : (Jvm.Cond.classLink "LectureTurnsLaw" (7 : Nat) "LectureTurns") ∈ lw_all := lw_g (lw_at lw_m1 33 rfl) rfl
theorem q100 : (Jvm.Cond.methodLink "LectureTurnsLaw" (9 : Nat) ({ cls := "LectureTurns", name := "<init>", desc := "()V" } : Jvm.MethodName)) ∈ lw_all := lw_g (lw_at lw_m1 35 rfl) rfl
theorem q231 : (Jvm.Cond.methodLink "LectureTurnsLaw" (13 : Nat) ({ cls := "LectureTurns", name := "turn", desc := "(III)I" } : Jvm.MethodName)) ∈ lw_all := lw_g (lw_at lw_m1 166 rfl) rfl
theorem q722 : (Jvm.Cond.methodLink "LectureTurnsLaw" (18 : Nat) ({ cls := "LectureTurns", name := "say", desc := "(II)I" } : Jvm.MethodName)) ∈ lw_all := lw_g (lw_at lw_m3 177 rfl) rfl
theorem q726 : (Jvm.Cond.methodLink "LectureTurnsLaw" (23 : Nat) ({ cls := "LectureTurns", name := "part", desc := "(III)I" } : Jvm.MethodName)) ∈ lw_all := lw_g (lw_at lw_m3 181 rfl) rfl
theorem q730 : (Jvm.Cond.methodLink "LectureTurnsLaw" (27 : Nat) ({ cls := "LectureTurns", name := "remove", desc := "(I)I" } : Jvm.MethodName)) ∈ lw_all := lw_g (lw_at lw_m3 185 rfl) rfl
theorem q734 : (Jvm.Cond.methodLink "LectureTurnsLaw" (32 : Nat) ({ cls := "LectureTurns", name := "correct", desc := "(II)I" } : Jvm.MethodName)) ∈ lw_all := lw_g (lw_at lw_m3 189 rfl) rfl
theorem q738 : (Jvm.Cond.methodLink "LectureTurnsLaw" (36 : Nat) ({ cls := "LectureTurns", name := "uncorrect", desc := "(I)I" } : Jvm.MethodName)) ∈ lw_all := lw_g (lw_at lw_m3 193 rfl) rfl
theorem q742 : (Jvm.Cond.methodLink "LectureTurnsLaw" (40 : Nat) ({ cls := "LectureTurns", name := "speaker", desc := "(I)I" } : Jvm.MethodName)) ∈ lw_all := lw_g (lw_at lw_m3 197 rfl) rfl
theorem q746 : (Jvm.Cond.methodLink "LectureTurnsLaw" (44 : Nat) ({ cls := "LectureTurns", name := "give", desc := "(II)I" } : Jvm.MethodName)) ∈ lw_all := lw_g (lw_at lw_m3 201 rfl) rfl
theorem q750 : (Jvm.Cond.methodLink "LectureTurnsLaw" (48 : Nat) ({ cls := "LectureTurns", name := "join", desc := "(II)I" } : Jvm.MethodName)) ∈ lw_all := lw_g (lw_at lw_m3 205 rfl) rfl
theorem q754 : (Jvm.Cond.methodLink "LectureTurnsLaw" (52 : Nat) ({ cls := "LectureTurns", name := "set", desc := "(II)I" } : Jvm.MethodName)) ∈ lw_all := lw_g (lw_at lw_m3 209 rfl) rfl
theorem q759 : (Jvm.Cond.methodLink "LectureTurnsLaw" (56 : Nat) ({ cls := "LectureTurns", name := "turnOf", desc := "(II)I" } : Jvm.MethodName)) ∈ lw_all := lw_g (lw_at lw_m3 214 rfl) rfl
theorem q825 : (Jvm.Cond.methodLink "LectureTurnsLaw" (60 : Nat) ({ cls := "LectureTurns", name := "termAt", desc := "(III)I" } : Jvm.MethodName)) ∈ lw_all := lw_g (lw_at lw_m4 40 rfl) rfl
theorem q833 : (Jvm.Cond.methodLink "LectureTurnsLaw" (64 : Nat) ({ cls := "LectureTurns", name := "termOf", desc := "(II)I" } : Jvm.MethodName)) ∈ lw_all := lw_g (lw_at lw_m4 48 rfl) rfl
theorem q858 : (Jvm.Cond.methodLink "LectureTurnsLaw" (68 : Nat) ({ cls := "LectureTurns", name := "speakerOf", desc := "(II)I" } : Jvm.MethodName)) ∈ lw_all := lw_g (lw_at lw_m4 73 rfl) rfl
theorem q887 : (Jvm.Cond.methodLink "LectureTurnsLaw" (72 : Nat) ({ cls := "LectureTurns", name := "during", desc := "(II)I" } : Jvm.MethodName)) ∈ lw_all := lw_g (lw_at lw_m4 102 rfl) rfl
theorem q893 : (Jvm.Cond.methodLink "LectureTurnsLaw" (76 : Nat) ({ cls := "LectureTurns", name := "interrupts", desc := "(II)I" } : Jvm.MethodName)) ∈ lw_all := lw_g (lw_at lw_m4 108 rfl) rfl
theorem q897 : (Jvm.Cond.methodLink "LectureTurnsLaw" (80 : Nat) ({ cls := "LectureTurns", name := "nearest", desc := "(I)I" } : Jvm.MethodName)) ∈ lw_all := lw_g (lw_at lw_m4 112 rfl) rfl
theorem q903 : (Jvm.Cond.methodLink "LectureTurnsLaw" (84 : Nat) ({ cls := "LectureTurns", name := "would", desc := "(II)I" } : Jvm.MethodName)) ∈ lw_all := lw_g (lw_at lw_m4 118 rfl) rfl
theorem q907 : (Jvm.Cond.methodLink "LectureTurnsLaw" (88 : Nat) ({ cls := "LectureTurns", name := "together", desc := "(I)I" } : Jvm.MethodName)) ∈ lw_all := lw_g (lw_at lw_m4 122 rfl) rfl
theorem q920 : (Jvm.Cond.methodLink "LectureTurnsLaw" (92 : Nat) ({ cls := "LectureTurns", name := "silence", desc := "(I)I" } : Jvm.MethodName)) ∈ lw_all := lw_g (lw_at lw_m4 135 rfl) rfl
theorem q930 : (Jvm.Cond.methodLink "LectureTurnsLaw" (96 : Nat) ({ cls := "LectureTurns", name := "doubtful", desc := "(I)I" } : Jvm.MethodName)) ∈ lw_all := lw_g (lw_at lw_m4 145 rfl) rfl
theorem q935 : (Jvm.Cond.methodLink "LectureTurnsLaw" (100 : Nat) ({ cls := "LectureTurns", name := "count", desc := "(I)I" } : Jvm.MethodName)) ∈ lw_all := lw_g (lw_at lw_m4 150 rfl) rfl
theorem q964 : (Jvm.Cond.methodLink "LectureTurnsLaw" (104 : Nat) ({ cls := "LectureTurns", name := "undo", desc := "()I" } : Jvm.MethodName)) ∈ lw_all := lw_g (lw_at lw_m4 179 rfl) rfl
theorem q984 : (Jvm.Cond.methodLink "LectureTurnsLaw" (109 : Nat) ({ cls := "LectureTurns", name := "type", desc := "(I)I" } : Jvm.MethodName)) ∈ lw_all := lw_g (lw_at lw_m4 199 rfl) rfl
theorem q1069 : (Jvm.Cond.methodLink "LectureTurnsLaw" (113 : Nat) ({ cls := "LectureTurns", name := "clearText", desc := "()I" } : Jvm.MethodName)) ∈ lw_all := lw_g (lw_at lw_m5 44 rfl) rfl
theorem q1093 : (Jvm.Cond.methodLink "LectureTurnsLaw" (117 : Nat) ({ cls := "LectureTurns", name := "fault", desc := "(I)I" } : Jvm.MethodName)) ∈ lw_all := lw_g (lw_at lw_m5 68 rfl) rfl
theorem q1263 : (Jvm.Cond.methodLink "LectureTurnsLaw" (121 : Nat) ({ cls := "LectureTurns", name := "play", desc := "()I" } : Jvm.MethodName)) ∈ lw_all := lw_g (lw_at lw_m5 238 rfl) rfl
theorem q1267 : (Jvm.Cond.classLink "LectureTurnsLaw" (10 : Nat) "LectureTurnsModel") ∈ lw_all := lw_g (lw_at lw_m6 2 rfl) rfl
theorem q1269 : (Jvm.Cond.methodLink "LectureTurnsLaw" (12 : Nat) ({ cls := "LectureTurnsModel", name := "<init>", desc := "()V" } : Jvm.MethodName)) ∈ lw_all := lw_g (lw_at lw_m6 4 rfl) rfl
theorem q1322 : (Jvm.Cond.methodLink "LectureTurnsLaw" (17 : Nat) ({ cls := "LectureTurnsModel", name := "turn", desc := "(III)I" } : Jvm.MethodName)) ∈ lw_all := lw_g (lw_at lw_m6 57 rfl) rfl
theorem q1354 : (Jvm.Cond.methodLink "LectureTurnsLaw" (22 : Nat) ({ cls := "LectureTurnsModel", name := "say", desc := "(II)I" } : Jvm.MethodName)) ∈ lw_all := lw_g (lw_at lw_m6 89 rfl) rfl
theorem q1365 : (Jvm.Cond.methodLink "LectureTurnsLaw" (26 : Nat) ({ cls := "LectureTurnsModel", name := "part", desc := "(III)I" } : Jvm.MethodName)) ∈ lw_all := lw_g (lw_at lw_m6 100 rfl) rfl
theorem q1369 : (Jvm.Cond.methodLink "LectureTurnsLaw" (31 : Nat) ({ cls := "LectureTurnsModel", name := "remove", desc := "(I)I" } : Jvm.MethodName)) ∈ lw_all := lw_g (lw_at lw_m6 104 rfl) rfl
theorem q1373 : (Jvm.Cond.methodLink "LectureTurnsLaw" (35 : Nat) ({ cls := "LectureTurnsModel", name := "correct", desc := "(II)I" } : Jvm.MethodName)) ∈ lw_all := lw_g (lw_at lw_m6 108 rfl) rfl
theorem q1394 : (Jvm.Cond.methodLink "LectureTurnsLaw" (39 : Nat) ({ cls := "LectureTurnsModel", name := "uncorrect", desc := "(I)I" } : Jvm.MethodName)) ∈ lw_all := lw_g (lw_at lw_m6 129 rfl) rfl
theorem q1398 : (Jvm.Cond.methodLink "LectureTurnsLaw" (43 : Nat) ({ cls := "LectureTurnsModel", name := "speaker", desc := "(I)I" } : Jvm.MethodName)) ∈ lw_all := lw_g (lw_at lw_m6 133 rfl) rfl
theorem q1402 : (Jvm.Cond.methodLink "LectureTurnsLaw" (47 : Nat) ({ cls := "LectureTurnsModel", name := "give", desc := "(II)I" } : Jvm.MethodName)) ∈ lw_all := lw_g (lw_at lw_m6 137 rfl) rfl
theorem q1418 : (Jvm.Cond.methodLink "LectureTurnsLaw" (51 : Nat) ({ cls := "LectureTurnsModel", name := "join", desc := "(II)I" } : Jvm.MethodName)) ∈ lw_all := lw_g (lw_at lw_m6 153 rfl) rfl
theorem q1422 : (Jvm.Cond.methodLink "LectureTurnsLaw" (55 : Nat) ({ cls := "LectureTurnsModel", name := "set", desc := "(II)I" } : Jvm.MethodName)) ∈ lw_all := lw_g (lw_at lw_m6 157 rfl) rfl
theorem q1426 : (Jvm.Cond.methodLink "LectureTurnsLaw" (59 : Nat) ({ cls := "LectureTurnsModel", name := "turnOf", desc := "(II)I" } : Jvm.MethodName)) ∈ lw_all := lw_g (lw_at lw_m6 161 rfl) rfl
theorem q1455 : (Jvm.Cond.methodLink "LectureTurnsLaw" (63 : Nat) ({ cls := "LectureTurnsModel", name := "termAt", desc := "(III)I" } : Jvm.MethodName)) ∈ lw_all := lw_g (lw_at lw_m6 190 rfl) rfl
theorem q1459 : (Jvm.Cond.methodLink "LectureTurnsLaw" (67 : Nat) ({ cls := "LectureTurnsModel", name := "termOf", desc := "(II)I" } : Jvm.MethodName)) ∈ lw_all := lw_g (lw_at lw_m6 194 rfl) rfl
theorem q1479 : (Jvm.Cond.methodLink "LectureTurnsLaw" (71 : Nat) ({ cls := "LectureTurnsModel", name := "speakerOf", desc := "(II)I" } : Jvm.MethodName)) ∈ lw_all := lw_g (lw_at lw_m6 214 rfl) rfl
theorem q1501 : (Jvm.Cond.methodLink "LectureTurnsLaw" (75 : Nat) ({ cls := "LectureTurnsModel", name := "during", desc := "(II)I" } : Jvm.MethodName)) ∈ lw_all := lw_g (lw_at lw_m6 236 rfl) rfl
theorem q1509 : (Jvm.Cond.methodLink "LectureTurnsLaw" (79 : Nat) ({ cls := "LectureTurnsModel", name := "interrupts", desc := "(II)I" } : Jvm.MethodName)) ∈ lw_all := lw_g (lw_at lw_m7 4 rfl) rfl
theorem q1513 : (Jvm.Cond.methodLink "LectureTurnsLaw" (83 : Nat) ({ cls := "LectureTurnsModel", name := "nearest", desc := "(I)I" } : Jvm.MethodName)) ∈ lw_all := lw_g (lw_at lw_m7 8 rfl) rfl
theorem q1517 : (Jvm.Cond.methodLink "LectureTurnsLaw" (87 : Nat) ({ cls := "LectureTurnsModel", name := "would", desc := "(II)I" } : Jvm.MethodName)) ∈ lw_all := lw_g (lw_at lw_m7 12 rfl) rfl
theorem q1521 : (Jvm.Cond.methodLink "LectureTurnsLaw" (91 : Nat) ({ cls := "LectureTurnsModel", name := "together", desc := "(I)I" } : Jvm.MethodName)) ∈ lw_all := lw_g (lw_at lw_m7 16 rfl) rfl
theorem q1529 : (Jvm.Cond.methodLink "LectureTurnsLaw" (95 : Nat) ({ cls := "LectureTurnsModel", name := "silence", desc := "(I)I" } : Jvm.MethodName)) ∈ lw_all := lw_g (lw_at lw_m7 24 rfl) rfl
theorem q1537 : (Jvm.Cond.methodLink "LectureTurnsLaw" (99 : Nat) ({ cls := "LectureTurnsModel", name := "doubtful", desc := "(I)I" } : Jvm.MethodName)) ∈ lw_all := lw_g (lw_at lw_m7 32 rfl) rfl
theorem q1541 : (Jvm.Cond.methodLink "LectureTurnsLaw" (103 : Nat) ({ cls := "LectureTurnsModel", name := "count", desc := "(I)I" } : Jvm.MethodName)) ∈ lw_all := lw_g (lw_at lw_m7 36 rfl) rfl
theorem q1564 : (Jvm.Cond.methodLink "LectureTurnsLaw" (108 : Nat) ({ cls := "LectureTurnsModel", name := "undo", desc := "()I" } : Jvm.MethodName)) ∈ lw_all := lw_g (lw_at lw_m7 59 rfl) rfl
theorem q1568 : (Jvm.Cond.methodLink "LectureTurnsLaw" (112 : Nat) ({ cls := "LectureTurnsModel", name := "type", desc := "(I)I" } : Jvm.MethodName)) ∈ lw_all := lw_g (lw_at lw_m7 63 rfl) rfl
theorem q1572 : (Jvm.Cond.methodLink "LectureTurnsLaw" (116 : Nat) ({ cls := "LectureTurnsModel", name := "clearText", desc := "()I" } : Jvm.MethodName)) ∈ lw_all := lw_g (lw_at lw_m7 67 rfl) rfl
theorem q1576 : (Jvm.Cond.methodLink "LectureTurnsLaw" (120 : Nat) ({ cls := "LectureTurnsModel", name := "fault", desc := "(I)I" } : Jvm.MethodName)) ∈ lw_all := lw_g (lw_at lw_m7 71 rfl) rfl
theorem q1615 : (Jvm.Cond.methodLink "LectureTurnsLaw" (124 : Nat) ({ cls := "LectureTurnsModel", name := "play", desc := "()I" } : Jvm.MethodName)) ∈ lw_all := lw_g (lw_at lw_m7 110 rfl) rfl
theorem q420 : (Jvm.Cond.interfaceMethod "LectureTurns$Begun" "LectureTurns$Begun" "begins" "()I") ∈ lw_tbl := lw_at lw_m2 115 rfl
set_option maxRecDepth 100000
theorem q421 : (Jvm.Cond.declares ({ cls := "LectureTurns$Begun", name := "begins", desc := "()I" } : Jvm.MethodName)) ∈ lw_tbl := lw_at lw_m2 116 rfl
theorem q823 : (Jvm.Cond.interfaceMethod "LectureTurns$Told" "LectureTurns$Told" "now" "()I") ∈ lw_tbl := lw_at lw_m4 38 rfl
set_option maxRecDepth 100000
theorem q824 : (Jvm.Cond.declares ({ cls := "LectureTurns$Told", name := "now", desc := "()I" } : Jvm.MethodName)) ∈ lw_tbl := lw_at lw_m4 39 rfl
theorem q1628 : (Jvm.Cond.castable "LectureTurns$Told" "java/lang/Object") ∈ lw_tbl := lw_at lw_m7 123 rfl
theorem q1012 : (Jvm.Cond.sameMethod "[B" "java/lang/Object" "clone" "()Ljava/lang/Object;") ∈ lw_all := lw_g (lw_at lw_m4 227 rfl) rfl
set_option maxRecDepth 100000
theorem q1015 : (Jvm.Cond.selects "[B" ({ cls := "[B", name := "clone", desc := "()Ljava/lang/Object;" } : Jvm.MethodName) ({ cls := "java/lang/Object", name := "clone", desc := "()Ljava/lang/Object;" } : Jvm.MethodName)) ∈ lw_all := lw_g (lw_at lw_m4 230 rfl) rfl
theorem q1016 : (Jvm.Cond.castable "[B" "java/lang/Cloneable") ∈ lw_tbl := lw_at lw_m4 231 rfl
theorem q1650 : (Jvm.Cond.castable "[B" "java/lang/Object") ∈ lw_tbl := lw_at lw_m7 145 rfl
theorem q1648 : (Jvm.Cond.castable "[I" "java/lang/Object") ∈ lw_tbl := lw_at lw_m7 143 rfl
set_option maxRecDepth 100000
theorem q1651 : (Jvm.Cond.castable "[LLectureTurns$Told;" "java/lang/Object") ∈ lw_tbl := lw_at lw_m7 146 rfl
set_option maxRecDepth 100000
theorem q1645 : (Jvm.Cond.sameMethod "[Ljava/lang/Object;" "java/lang/Object" "getClass" "()Ljava/lang/Class;") ∈ lw_all := lw_g (lw_at lw_m7 140 rfl) rfl
set_option maxRecDepth 100000
theorem q1646 : (Jvm.Cond.selects "[Ljava/lang/Object;" ({ cls := "java/lang/Object", name := "getClass", desc := "()Ljava/lang/Class;" } : Jvm.MethodName) ({ cls := "java/lang/Object", name := "getClass", desc := "()Ljava/lang/Class;" } : Jvm.MethodName)) ∈ lw_all := lw_g (lw_at lw_m7 141 rfl) rfl
theorem q1649 : (Jvm.Cond.castable "[Ljava/lang/Object;" "java/lang/Object") ∈ lw_tbl := lw_at lw_m7 144 rfl
theorem q91 : (Jvm.Cond.initialized "java/lang/Integer$IntegerCache") ∈ lw_all := lw_g (lw_at lw_m1 26 rfl) rfl
set_option maxRecDepth 100000
theorem q555 : (Jvm.Cond.laysStatic "java/lang/Integer$IntegerCache" "high" "I") ∈ lw_tbl := lw_at lw_m3 10 rfl
theorem q557 : (Jvm.Cond.laysStatic "java/lang/Integer$IntegerCache" "cache" "[Ljava/lang/Integer;") ∈ lw_tbl := lw_at lw_m3 12 rfl
theorem q85 : (Jvm.Cond.initialized "java/lang/System") ∈ lw_all := lw_g (lw_at lw_m1 20 rfl) rfl
set_option maxRecDepth 100000
theorem q410 : (Jvm.Cond.static ({ cls := "java/lang/System", name := "arraycopy", desc := "(Ljava/lang/Object;ILjava/lang/Object;II)V" } : Jvm.MethodName)) ∈ lw_all := lw_g (lw_at lw_m2 105 rfl) rfl
theorem q411 : (Jvm.Cond.native ({ cls := "java/lang/System", name := "arraycopy", desc := "(Ljava/lang/Object;ILjava/lang/Object;II)V" } : Jvm.MethodName)) ∈ lw_all := lw_g (lw_at lw_m2 106 rfl) rfl
theorem q332 : (Jvm.Cond.interfaceMethod "java/util/Iterator" "java/util/Iterator" "hasNext" "()Z") ∈ lw_tbl := lw_at lw_m2 27 rfl
set_option maxRecDepth 100000
theorem q333 : (Jvm.Cond.declares ({ cls := "java/util/Iterator", name := "hasNext", desc := "()Z" } : Jvm.MethodName)) ∈ lw_tbl := lw_at lw_m2 28 rfl
theorem q342 : (Jvm.Cond.interfaceMethod "java/util/Iterator" "java/util/Iterator" "next" "()Ljava/lang/Object;") ∈ lw_tbl := lw_at lw_m2 37 rfl
theorem q343 : (Jvm.Cond.declares ({ cls := "java/util/Iterator", name := "next", desc := "()Ljava/lang/Object;" } : Jvm.MethodName)) ∈ lw_tbl := lw_at lw_m2 38 rfl
theorem q168 : (Jvm.Cond.arrayClass Jvm.ClassFile.FieldType.int) ∈ lw_all := lw_g (lw_at lw_m1 103 rfl) rfl
set_option maxRecDepth 100000
theorem q176 : (Jvm.Cond.arrayOver (Jvm.ClassFile.FieldType.object "java/lang/Object")) ∈ lw_tbl := lw_at lw_m1 111 rfl
theorem q218 : (Jvm.Cond.arrayClass Jvm.ClassFile.FieldType.byte) ∈ lw_all := lw_g (lw_at lw_m1 153 rfl) rfl
theorem q771 : (Jvm.Cond.arrayOver (Jvm.ClassFile.FieldType.object "LectureTurns$Told")) ∈ lw_tbl := lw_at lw_m3 226 rfl
