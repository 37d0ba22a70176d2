/-! readers of a lecture (printed by wip/gen/gen_comp.py) -/
def m_X1_isTurn (vs : List TV)  (x1 : Int32) : Option Bool :=
  pb (m_X0_isBetween x1.toInt64 (0 : Int64) (((nI vs.length) - (1 : Int32)).toInt64)) <| fun b3 =>
  some b3
def m_X1_isSpeaker (pit : Nat → Int32)  (x1 : Int32) : Option Bool :=
  pb (m_X0_isBetween x1.toInt64 (0 : Int64) (5 : Int64)) <| fun b2 =>
  if (bi b2) = 0 then
    some false
  else
    pg (¬ (x1 < 0 ∨ 6 ≤ x1.toNatClampNeg)) <|
    if (pit x1.toNatClampNeg) ≤ 0 then
      some false
    else
      some true
def m_X1_nearestTo_L1 (nf : Nat) (pit : Nat → Int32) (tol : Int32) (x1 : Int32) : Nat → Int32 → Int32 → Option Int32
  | 0, _, _ => none
  | n + 1, y3, y2 =>
    if (6 : Int32) ≤ y3 then
      some y2
    else
      pg (¬ (y3 < 0 ∨ 6 ≤ y3.toNatClampNeg)) <|
      pb (
        if (pit y3.toNatClampNeg) ≤ 0 then
          some false
        else
          if tol < (if 0 ≤ ((pit y3.toNatClampNeg) - x1) then ((pit y3.toNatClampNeg) - x1) else 0 - ((pit y3.toNatClampNeg) - x1)) then
            some false
          else
            some true) <| fun j5 =>
      pb (
        if (bi j5) = 0 then
          some y2
        else
          if y2 = (-1 : Int32) then
            some y3
          else
            pg (¬ (y2 < 0 ∨ 6 ≤ y2.toNatClampNeg)) <|
            if (if 0 ≤ ((pit y2.toNatClampNeg) - x1) then ((pit y2.toNatClampNeg) - x1) else 0 - ((pit y2.toNatClampNeg) - x1)) ≤ (if 0 ≤ ((pit y3.toNatClampNeg) - x1) then ((pit y3.toNatClampNeg) - x1) else 0 - ((pit y3.toNatClampNeg) - x1)) then
              some y2
            else
              some y3) <| fun j10 =>
      m_X1_nearestTo_L1 nf pit tol x1 n (y3 + (1 : Int32)) j10
def m_X1_nearestTo (nf : Nat) (pit : Nat → Int32) (tol : Int32)  (x1 : Int32) : Option Int32 :=
  pb (m_X1_nearestTo_L1 nf pit tol x1 nf (0 : Int32) (-1 : Int32)) <| fun o1 =>
  some o1
def m_X1_turnsOf_L1 (nf : Nat) (vs : List TV) (x1 : Int32) : Nat → Int32 → Int32 → Option Int32
  | 0, _, _ => none
  | n + 1, y3, y2 =>
    if (nI vs.length) ≤ y3 then
      some y2
    else
      pb (pAt vs y3) <| fun v3 =>
      pb (
        if (vS v3) = x1 then
          some true
        else
          some false) <| fun j5 =>
      m_X1_turnsOf_L1 nf vs x1 n (y3 + (1 : Int32)) (y2 + (bi j5))
def m_X1_turnsOf (nf : Nat) (vs : List TV)  (x1 : Int32) : Option Int32 :=
  pb (m_X1_turnsOf_L1 nf vs x1 nf (0 : Int32) (0 : Int32)) <| fun o1 =>
  some o1
def m_X1_going_L1 (nf : Nat) (vs : List TV) (x1 : Int32) : Nat → Int32 → Int32 → Option Int32
  | 0, _, _ => none
  | n + 1, y3, y2 =>
    if (nI vs.length) ≤ y3 then
      some y2
    else
      pb (pAt vs y3) <| fun v3 =>
      pb (m_X4_goesOn v3 x1) <| fun b5 =>
      pb (
        if (bi b5) = 0 then
          some false
        else
          some true) <| fun j7 =>
      m_X1_going_L1 nf vs x1 n (y3 + (1 : Int32)) (y2 + (bi j7))
def m_X1_going (nf : Nat) (vs : List TV)  (x1 : Int32) : Option Int32 :=
  pb (m_X1_going_L1 nf vs x1 nf (0 : Int32) (0 : Int32)) <| fun o1 =>
  some o1
def m_X1_alone_L1 (nf : Nat) (vs : List TV) (w1 : TV) : Nat → Int32 → Int32 → Option Int32
  | 0, _, _ => none
  | n + 1, y3, y2 =>
    if (vE w1) ≤ y3 then
      some y2
    else
      pb (m_X1_going nf vs y3) <| fun r3 =>
      pb (
        if r3 = (1 : Int32) then
          some true
        else
          some false) <| fun j5 =>
      m_X1_alone_L1 nf vs w1 n (y3 + (1 : Int32)) (y2 + (bi j5))
def m_X1_alone (nf : Nat) (vs : List TV)  (w1 : TV) : Option Int32 :=
  pb (m_X1_alone_L1 nf vs w1 nf (vB w1) (0 : Int32)) <| fun o1 =>
  some o1
def m_X1_meeting_L1 (nf : Nat) (vs : List TV) (i1 : Nat) (w1 : TV) : Nat → Int32 → Int32 → Option Int32
  | 0, _, _ => none
  | n + 1, y3, y2 =>
    if (nI vs.length) ≤ y3 then
      some y2
    else
      pb (pAt vs y3) <| fun v3 =>
      pb (
        if y3.toNatClampNeg = i1 then
          some (0 : Int32)
        else
          pb (pAt vs y3) <| fun v5 =>
          pb (m_X4_meets v5 w1) <| fun b7 =>
          if (bi b7) = 0 then
            some (0 : Int32)
          else
            some ((1 : Int32) <<< (y3 &&& 31))) <| fun j9 =>
      m_X1_meeting_L1 nf vs i1 w1 n (y3 + (1 : Int32)) (y2 ||| j9)
def m_X1_meeting (nf : Nat) (vs : List TV) (i1 : Nat) (w1 : TV) : Option Int32 :=
  pb (m_X1_meeting_L1 nf vs i1 w1 nf (0 : Int32) (0 : Int32)) <| fun o1 =>
  some o1
def m_X1_interrupted_L1 (nf : Nat) (vs : List TV) (w1 : TV) : Nat → Int32 → Int32 → Option Int32
  | 0, _, _ => none
  | n + 1, y3, y2 =>
    if (nI vs.length) ≤ y3 then
      some y2
    else
      pb (pAt vs y3) <| fun v3 =>
      pb (m_X4_breaksInto w1 v3) <| fun b5 =>
      pb (
        if (bi b5) = 0 then
          some (0 : Int32)
        else
          some ((1 : Int32) <<< (y3 &&& 31))) <| fun j7 =>
      m_X1_interrupted_L1 nf vs w1 n (y3 + (1 : Int32)) (y2 ||| j7)
def m_X1_interrupted (nf : Nat) (vs : List TV)  (w1 : TV) : Option Int32 :=
  pb (m_X1_interrupted_L1 nf vs w1 nf (0 : Int32) (0 : Int32)) <| fun o1 =>
  some o1
def m_X1_interruptions_L2 (nf : Nat) (vs : List TV) (x4 : Int32) (x1 : Int32) (x2 : Int32) : Nat → Int32 → Int32 → Option Int32
  | 0, _, _ => none
  | n + 1, y5, y3 =>
    if (nI vs.length) ≤ y5 then
      some y3
    else
      pb (
        if x1 = (-1 : Int32) then
          if x2 = (-1 : Int32) then
            some true
          else
            pb (pAt vs y5) <| fun v5 =>
            if (vS v5) = x2 then
              some true
            else
              some false
        else
          pb (pAt vs x4) <| fun v7 =>
          if (vS v7) = x1 then
            if x2 = (-1 : Int32) then
              some true
            else
              pb (pAt vs y5) <| fun v10 =>
              if (vS v10) = x2 then
                some true
              else
                some false
          else
            some false) <| fun j12 =>
      pb (
        if (bi j12) = 0 then
          some false
        else
          pb (pAt vs x4) <| fun v14 =>
          pb (pAt vs y5) <| fun v15 =>
          pb (m_X4_breaksInto v14 v15) <| fun b17 =>
          if (bi b17) = 0 then
            some false
          else
            some true) <| fun j19 =>
      m_X1_interruptions_L2 nf vs x4 x1 x2 n (y5 + (1 : Int32)) (y3 + (bi j19))
def m_X1_interruptions_L1 (nf : Nat) (vs : List TV) (x1 : Int32) (x2 : Int32) : Nat → Int32 → Int32 → Option Int32
  | 0, _, _ => none
  | n + 1, y4, y3 =>
    if (nI vs.length) ≤ y4 then
      some y3
    else
      pb (m_X1_interruptions_L2 nf vs y4 x1 x2 nf (0 : Int32) y3) <| fun o3 =>
      m_X1_interruptions_L1 nf vs x1 x2 n (y4 + (1 : Int32)) o3
def m_X1_interruptions (nf : Nat) (vs : List TV)  (x1 : Int32) (x2 : Int32) : Option Int32 :=
  pb (m_X1_interruptions_L1 nf vs x1 x2 nf (0 : Int32) (0 : Int32)) <| fun o1 =>
  some o1
def m_X1_lastEnd_L1 (nf : Nat) (vs : List TV)  : Nat → Int32 → Int32 → Option Int32
  | 0, _, _ => none
  | n + 1, y2, y1 =>
    if (nI vs.length) ≤ y2 then
      some y1
    else
      pb (pAt vs y2) <| fun v3 =>
      m_X1_lastEnd_L1 nf vs n (y2 + (1 : Int32)) (if y1 < (vE v3) then (vE v3) else y1)
def m_X1_lastEnd (nf : Nat) (vs : List TV)   : Option Int32 :=
  pb (m_X1_lastEnd_L1 nf vs nf (0 : Int32) (0 : Int32)) <| fun o1 =>
  some o1
def m_X0_interrupts (nf : Nat) (vs : List TV) (pit : Nat → Int32)  (x1 : Int32) (x2 : Int32) : Option Int32 :=
  pb (m_X1_isSpeaker pit x1) <| fun b2 =>
  pb (
    if (bi b2) = 0 then
      some false
    else
      pb (m_X1_isSpeaker pit x2) <| fun b5 =>
      if (bi b5) = 0 then
        some false
      else
        if x1 = x2 then
          some false
        else
          some true) <| fun j8 =>
  if (bi j8) = 0 then
    some (-1000001 : Int32)
  else
    pb (m_X1_interruptions nf vs x1 x2) <| fun r11 =>
    some r11
def m_X0_nearest (nf : Nat) (pit : Nat → Int32) (tol : Int32)  (x1 : Int32) : Option Int32 :=
  pb (m_X0_isPitch x1) <| fun b2 =>
  if (bi b2) = 0 then
    some (-1000001 : Int32)
  else
    pb (m_X1_nearestTo nf pit tol x1) <| fun r5 =>
    pb (m_X0_orNotFound r5) <| fun r7 =>
    some r7
def m_X0_during_L1 (nf : Nat) (vs : List TV) (x1 : Int32) (x2 : Int32) : Nat → Int32 → Int32 → Option Int32
  | 0, _, _ => none
  | n + 1, y4, y3 =>
    if (nI vs.length) ≤ y4 then
      some y3
    else
      pb (pAt vs y4) <| fun v3 =>
      pb (
        if x2 = 0 then
          some y4
        else
          some (vS v3)) <| fun j5 =>
      pb (m_X4_goesOn v3 x1) <| fun b7 =>
      pb (
        if (bi b7) = 0 then
          some (0 : Int32)
        else
          if j5 = (-1 : Int32) then
            some (0 : Int32)
          else
            some ((1 : Int32) <<< (j5 &&& 31))) <| fun j10 =>
      m_X0_during_L1 nf vs x1 x2 n (y4 + (1 : Int32)) (y3 ||| j10)
def m_X0_during (nf : Nat) (vs : List TV)  (x1 : Int32) (x2 : Int32) : Option Int32 :=
  pb (m_X0_isBetween x1.toInt64 (0 : Int64) (1999 : Int64)) <| fun b2 =>
  if (bi b2) = 0 then
    some (-1000001 : Int32)
  else
    pb (m_X0_isBetween x2.toInt64 (0 : Int64) (1 : Int64)) <| fun b5 =>
    if (bi b5) = 0 then
      some (-1000001 : Int32)
    else
      pb (m_X0_during_L1 nf vs x1 x2 nf (0 : Int32) (0 : Int32)) <| fun o7 =>
      some o7
def m_X0_silence_L1 (nf : Nat) (vs : List TV)  : Nat → Int32 → Int32 → Int32 → Int32 → Option (Int32 × Int32)
  | 0, _, _, _, _ => none
  | n + 1, y6, y4, y3, y2 =>
    pb (m_X1_lastEnd nf vs) <| fun r2 =>
    if r2 ≤ y6 then
      some (y3, y2)
    else
      pb (m_X1_going nf vs y6) <| fun r5 =>
      pb (
        if r5 = 0 then
          some (y4 + (1 : Int32))
        else
          some (0 : Int32)) <| fun j7 =>
      pb (
        if j7 ≤ y3 then
          some y2
        else
          some ((y6 - j7) + (1 : Int32))) <| fun j9 =>
      m_X0_silence_L1 nf vs n (y6 + (1 : Int32)) j7 (if y3 < j7 then j7 else y3) j9
def m_X0_silence (nf : Nat) (vs : List TV)  (x1 : Int32) : Option Int32 :=
  pb (m_X0_isBetween x1.toInt64 (0 : Int64) (1 : Int64)) <| fun b2 =>
  if (bi b2) = 0 then
    some (-1000001 : Int32)
  else
    pb (
      if (nI vs.length) = 0 then
        some (0 : Int32)
      else
        pb (pAt vs (0 : Int32)) <| fun v6 =>
        some (vB v6)) <| fun j7 =>
    pb (m_X0_silence_L1 nf vs nf j7 (0 : Int32) (0 : Int32) (0 : Int32)) <| fun (o8, o9) =>
    if o8 = 0 then
      some (-1000004 : Int32)
    else
      if x1 = 0 then
        some o9
      else
        some o8
def m_X0_doubtful_L1 (nf : Nat) (vs : List TV) (pit : Nat → Int32)  : Nat → Int32 → Int32 → Int32 → Option (Int32 × Int32)
  | 0, _, _, _ => none
  | n + 1, y4, y3, y2 =>
    if (nI vs.length) ≤ y4 then
      some (y3, y2)
    else
      pb (pAt vs y4) <| fun v3 =>
      pb (
        if (vS v3) = (-1 : Int32) then
          some (-1 : Int32)
        else
          pg (¬ ((vS v3) < 0 ∨ 6 ≤ (vS v3).toNatClampNeg)) <|
          some (if 0 ≤ ((vP v3) - (pit (vS v3).toNatClampNeg)) then ((vP v3) - (pit (vS v3).toNatClampNeg)) else 0 - ((vP v3) - (pit (vS v3).toNatClampNeg)))) <| fun j6 =>
      pb (
        if j6 ≤ y3 then
          some y2
        else
          some y4) <| fun j8 =>
      m_X0_doubtful_L1 nf vs pit n (y4 + (1 : Int32)) (if y3 < j6 then j6 else y3) j8
def m_X0_doubtful (nf : Nat) (vs : List TV) (pit : Nat → Int32)  (x1 : Int32) : Option Int32 :=
  pb (m_X0_isBetween x1.toInt64 (0 : Int64) (1 : Int64)) <| fun b2 =>
  if (bi b2) = 0 then
    some (-1000001 : Int32)
  else
    pb (m_X0_doubtful_L1 nf vs pit nf (0 : Int32) (-1 : Int32) (-1 : Int32)) <| fun (o4, o5) =>
    pb (
      if x1 = 0 then
        some o5
      else
        some o4) <| fun j7 =>
    pb (m_X0_orNotFound j7) <| fun r9 =>
    some r9
def m_X0_secondsWith_L1 (nf : Nat) (vs : List TV) (x1 : Int32) : Nat → Int32 → Int32 → Option Int32
  | 0, _, _ => none
  | n + 1, y3, y2 =>
    pb (m_X1_lastEnd nf vs) <| fun r2 =>
    if r2 ≤ y3 then
      some y2
    else
      pb (m_X1_going nf vs y3) <| fun r5 =>
      pb (
        if r5 < x1 then
          some false
        else
          some true) <| fun j7 =>
      m_X0_secondsWith_L1 nf vs x1 n (y3 + (1 : Int32)) (y2 + (bi j7))
def m_X0_secondsWith (nf : Nat) (vs : List TV)  (x1 : Int32) : Option Int32 :=
  pb (m_X0_secondsWith_L1 nf vs x1 nf (0 : Int32) (0 : Int32)) <| fun o1 =>
  some o1
def m_X0_there_L1 (nf : Nat) (pit : Nat → Int32) (cor : Nat → Int32) (x1 : Int32) : Nat → Int32 → Int32 → Option Int32
  | 0, _, _ => none
  | n + 1, y3, y2 =>
    if (16 : Int32) ≤ y3 then
      some y2
    else
      pb (
        if x1 = 0 then
          pg (¬ (y3 < 0 ∨ 16 ≤ y3.toNatClampNeg)) <|
          if (cor y3.toNatClampNeg) = (-1 : Int32) then
            some false
          else
            some true
        else
          pb (m_X1_isSpeaker pit y3) <| fun b6 =>
          some b6) <| fun j7 =>
      pb (
        if (bi j7) = 0 then
          some (0 : Int32)
        else
          some ((1 : Int32) <<< (y3 &&& 31))) <| fun j9 =>
      m_X0_there_L1 nf pit cor x1 n (y3 + (1 : Int32)) (y2 ||| j9)
def m_X0_there (nf : Nat) (pit : Nat → Int32) (cor : Nat → Int32)  (x1 : Int32) : Option Int32 :=
  pb (m_X0_there_L1 nf pit cor x1 nf (0 : Int32) (0 : Int32)) <| fun o1 =>
  some o1
def m_X0_sum_L1 (nf : Nat) (vs : List TV) (x1 : Int32) : Nat → Int32 → Int32 → Option Int32
  | 0, _, _ => none
  | n + 1, y3, y2 =>
    if (nI vs.length) ≤ y3 then
      some y2
    else
      pb (pAt vs y3) <| fun v3 =>
      pb (
        if x1 = (2 : Int32) then
          some (nI (vT v3).length)
        else
          if x1 = (4 : Int32) then
            if (vS v3) = (-1 : Int32) then
              some (1 : Int32)
            else
              some (0 : Int32)
          else
            pb (m_X1_meeting nf vs y3.toNatClampNeg v3) <| fun r7 =>
            pb (m_J17_bitCount r7) <| fun r9 =>
            some r9) <| fun j12 =>
      m_X0_sum_L1 nf vs x1 n (y3 + (1 : Int32)) (y2 + j12)
def m_X0_sum (nf : Nat) (vs : List TV)  (x1 : Int32) : Option Int32 :=
  pb (m_X0_sum_L1 nf vs x1 nf (0 : Int32) (0 : Int32)) <| fun o1 =>
  if x1 = (5 : Int32) then
    some (o1 / (2 : Int32))
  else
    some o1
theorem hd_X1_isTurn : yX1_isTurn.cls ≠ "java/lang/invoke/MethodHandle" ∧ yX1_isTurn.cls ≠ "java/lang/invoke/VarHandle" ∧ (parseMethodDescriptor yX1_isTurn.desc).map (fun d => d.parameters.length) = some 1 := by decide +kernel
set_option maxHeartbeats 4000000 in
set_option maxRecDepth 100000 in
theorem met_X1_isTurn {l : Launch} {k : Cx} {a : LA} {T : List TT} {vs : List TV} {pit cor : Nat → Int32} {tol : Int32} {x1 : Int32} {b : Bool} (hvs : T.map Prod.snd = vs) (hO : leOk k a T) (h : m_X1_isTurn vs  x1 = some b) : Met l yX1_isTurn (ws_ yX1_isTurn cX1_isTurn 2 (some .boolean)) ({ frames := 3, cells := 0, slots := 0, locals := 52 } : Room) (gPc [.ref (lL a), .int x1] k (leW k a T pit cor tol)) (QcV (some (.int (bi b)))) 0 0 (fun _ => False) := by
  refine Met.ofW (cc := cX1_isTurn) (maxL := 2) (ret := (some .boolean)) (by decide) rfl ?_
  intro p e s m args below meth c s₁ B hml hv
  obtain ⟨rfl, hP, hG⟩ := hv
  have hx := B.exec
  have hb := B.bytes
  have hr := B.returns
  have hts := atoms_spec (ws := ws_ yX1_isTurn cX1_isTurn 2 (some .boolean)) B.pre
  have hts : ∀ w ∈ lw_all, w.before _ s = true := fun w h => hts w (List.mem_cons_of_mem _ h)
  have hown : s.vm.findClass RX1 = some m.cls := findClass_of_methodNamed B.named
  have hlocks := B.notSynchronized
  have hSa : va_S (Ab k) s.heap s.heap [] := va_S.rf
  have hl := lv_entry ([.ref (lL a), .int x1]) (n := 2) (Nat.le_of_ble_eq_true rfl)
  rw [lg_entry_eq]
  generalize (lg_sl ([.ref (lL a), .int x1]) ++ List.replicate (2 - (lg_sl ([.ref (lL a), .int x1])).length) Slot.unset).toArray = ls at hl ⊢
  have hl : lv_has ls 2 [(0, .ref (lL a)), (1, .int x1)] := hl
  unfold m_X1_isTurn at h
  refine lv_iload_n hx hb dX1_isTurn_0 rfl (lv_at hl 1 rfl) ?_
  refine lv_i2l hx hb dX1_isTurn_1 rfl ?_
  refine lv_lconst (v := 0) hx hb dX1_isTurn_2 (by decide) ?_
  refine lv_aload_n hx hb dX1_isTurn_3 rfl (lv_at hl 0 rfl) ?_
  refine va_get (ci := 1) (v := .ref (lS a)) (C := RX1) (T := TX1) (N := 4) hx hb hts in_X1 hown hG.K (le_o hP) 0 rfl rfl 0 (by decide) (hts _ q151) (fun _ h9 => h9) rfl dX1_isTurn_4 ?_
  refine c_call (va_runV (As := []) (rest := [.long (0 : Int64), .long x1.toInt64]) ⟨hx, hb, hml, hown, hts⟩ (met_X2_size (n := vs.length) (by rw [← hvs]; simp)) (cwV 0 hts (lw_V q243 q244 q245 q68 q246) rfl rfl rfl ⟨rfl, hd_X2_size⟩ ⟨Nat.le_of_ble_eq_true rfl, Nat.le_of_ble_eq_true rfl⟩) (g_preV hG hSa (le_st hP) (va_recv hG.K (le_s hP) (ci := 2) (q0 := 0) rfl rfl)) rfl rfl hl.1 rfl (lv_room (Nat.le_of_ble_eq_true rfl)) dX1_isTurn_7 ⟨Nat.le_of_ble_eq_true rfl, Nat.le_of_ble_eq_true rfl⟩) ?_
  refine lv_iconst (v := 1) hx hb dX1_isTurn_10 (by decide) ?_
  refine lv_isub hx hb dX1_isTurn_11 ?_
  refine lv_i2l hx hb dX1_isTurn_12 rfl ?_
  obtain ⟨b3, e2, h⟩ := pb_some h
  refine c_call (va_runSN (As := [.long x1.toInt64, .long (0 : Int64), .long (((nI vs.length) - (1 : Int32)).toInt64)]) (rest := []) ⟨hx, hb, hml, hown, hts⟩ (met_X0_isBetween e2) ⟨va_cnB 3 hts (lw_meth q447) rfl rfl rfl (nm_LectureTurns_Lecture_46 hG) (hts _ q66) hd_X0_isBetween ⟨Nat.le_of_ble_eq_true rfl, Nat.le_of_ble_eq_true rfl⟩, hts _ q446, trivial⟩ m_preS rfl rfl hl.1 rfl (lv_room (Nat.le_of_ble_eq_true rfl)) dX1_isTurn_13 ⟨Nat.le_of_ble_eq_true rfl, Nat.le_of_ble_eq_true rfl⟩) ?_
  cases h
  exact W.zret hx hb hr (bi_nar _) (fun t ht hW => c_ret ht) (fun q hq => absurd hq List.not_mem_nil) dX1_isTurn_16
theorem hd_X1_isSpeaker : yX1_isSpeaker.cls ≠ "java/lang/invoke/MethodHandle" ∧ yX1_isSpeaker.cls ≠ "java/lang/invoke/VarHandle" ∧ (parseMethodDescriptor yX1_isSpeaker.desc).map (fun d => d.parameters.length) = some 1 := by decide +kernel
set_option maxHeartbeats 4000000 in
set_option maxRecDepth 100000 in
theorem met_X1_isSpeaker {l : Launch} {k : Cx} {a : LA} {T : List TT} {vs : List TV} {pit cor : Nat → Int32} {tol : Int32} {x1 : Int32} {b : Bool} (hvs : T.map Prod.snd = vs) (hO : leOk k a T) (h : m_X1_isSpeaker pit  x1 = some b) : Met l yX1_isSpeaker (ws_ yX1_isSpeaker cX1_isSpeaker 2 (some .boolean)) ({ frames := 2, cells := 0, slots := 0, locals := 37 } : Room) (gPc [.ref (lL a), .int x1] k (leW k a T pit cor tol)) (QcV (some (.int (bi b)))) 0 0 (fun _ => False) := by
  refine Met.ofW (cc := cX1_isSpeaker) (maxL := 2) (ret := (some .boolean)) (by decide) rfl ?_
  intro p e s m args below meth c s₁ B hml hv
  obtain ⟨rfl, hP, hG⟩ := hv
  have hx := B.exec
  have hb := B.bytes
  have hr := B.returns
  have hts := atoms_spec (ws := ws_ yX1_isSpeaker cX1_isSpeaker 2 (some .boolean)) B.pre
  have hts : ∀ w ∈ lw_all, w.before _ s = true := fun w h => hts w (List.mem_cons_of_mem _ h)
  have hown : s.vm.findClass RX1 = some m.cls := findClass_of_methodNamed B.named
  have hlocks := B.notSynchronized
  have hSa : va_S (Ab k) s.heap s.heap [] := va_S.rf
  have hl := lv_entry ([.ref (lL a), .int x1]) (n := 2) (Nat.le_of_ble_eq_true rfl)
  rw [lg_entry_eq]
  generalize (lg_sl ([.ref (lL a), .int x1]) ++ List.replicate (2 - (lg_sl ([.ref (lL a), .int x1])).length) Slot.unset).toArray = ls at hl ⊢
  have hl : lv_has ls 2 [(0, .ref (lL a)), (1, .int x1)] := hl
  unfold m_X1_isSpeaker at h
  refine lv_iload_n hx hb dX1_isSpeaker_0 rfl (lv_at hl 1 rfl) ?_
  refine lv_i2l hx hb dX1_isSpeaker_1 rfl ?_
  refine lv_lconst (v := 0) hx hb dX1_isSpeaker_2 (by decide) ?_
  refine lv_ldc2 hx hb hown (hts _ q663) dX1_isSpeaker_3 ?_
  obtain ⟨b2, e1, h⟩ := pb_some h
  refine c_call (va_runSN (As := [.long x1.toInt64, .long (0 : Int64), .long (5 : Int64)]) (rest := []) ⟨hx, hb, hml, hown, hts⟩ (met_X0_isBetween e1) ⟨va_cnB 3 hts (lw_meth q447) rfl rfl rfl (nm_LectureTurns_Lecture_46 hG) (hts _ q66) hd_X0_isBetween ⟨Nat.le_of_ble_eq_true rfl, Nat.le_of_ble_eq_true rfl⟩, hts _ q446, trivial⟩ m_preS rfl rfl hl.1 rfl (lv_room (Nat.le_of_ble_eq_true rfl)) dX1_isSpeaker_6 ⟨Nat.le_of_ble_eq_true rfl, Nat.le_of_ble_eq_true rfl⟩) ?_
  refine lv_if_eq (tgt := 25) hx hb dX1_isSpeaker_9 (by decide) (fun c3 => ?_) (fun c3 => ?_)
  · have h := pi_t c3 h
    refine lv_iconst (v := 0) hx hb dX1_isSpeaker_25 (by decide) ?_
    cases h
    exact W.zret hx hb hr rfl (fun t ht hW => c_ret ht) (fun q hq => absurd hq List.not_mem_nil) dX1_isSpeaker_26
  · have h := pi_f c3 h
    refine lv_aload_n hx hb dX1_isSpeaker_12 rfl (lv_at hl 0 rfl) ?_
    refine va_get (ci := 1) (v := .ref (lP a)) (C := RX1) (T := TX1) (N := 4) hx hb hts in_X1 hown hG.K (le_o hP) 0 rfl rfl 1 (by decide) (hts _ q153) (fun _ h9 => h9) rfl dX1_isSpeaker_13 ?_
    refine lv_iload_n hx hb dX1_isSpeaker_16 rfl (lv_at hl 1 rfl) ?_
    obtain ⟨g4, h⟩ := pg_some h
    refine va_iald hx hb hG.K (le_p hP) 0 0 rfl rfl g4 dX1_isSpeaker_17 ?_
    refine lv_if_le (tgt := 25) hx hb dX1_isSpeaker_18 (by decide) (fun c5 => ?_) (fun c5 => ?_)
    · have h := pi_t c5 h
      refine lv_iconst (v := 0) hx hb dX1_isSpeaker_25 (by decide) ?_
      cases h
      exact W.zret hx hb hr rfl (fun t ht hW => c_ret ht) (fun q hq => absurd hq List.not_mem_nil) dX1_isSpeaker_26
    · have h := pi_f c5 h
      refine lv_iconst (v := 1) hx hb dX1_isSpeaker_21 (by decide) ?_
      refine lv_goto (tgt := 26) hx hb dX1_isSpeaker_22 (by decide) ?_
      cases h
      exact W.zret hx hb hr rfl (fun t ht hW => c_ret ht) (fun q hq => absurd hq List.not_mem_nil) dX1_isSpeaker_26
theorem hd_X1_nearestTo : yX1_nearestTo.cls ≠ "java/lang/invoke/MethodHandle" ∧ yX1_nearestTo.cls ≠ "java/lang/invoke/VarHandle" ∧ (parseMethodDescriptor yX1_nearestTo.desc).map (fun d => d.parameters.length) = some 1 := by decide +kernel
set_option maxHeartbeats 4000000 in
set_option maxRecDepth 100000 in
theorem lp_X1_nearestTo_1 {p : Program} {l : Launch} {e : Env} {s : State} {m : MethodId} {args : Array Value} {below : List Frame} {meth : Method} {c : Code} {Q : State → Prop} {H : Heap} {locs : List Loc} {k : Cx} {a : LA} {T : List TT} {vs : List TV} {pit cor : Nat → Int32} {tol : Int32}  (hx : p.tables.exec = Jvm.exec) (hb : c.code = cX1_nearestTo) (hml : c.maxLocals = 6) (hown : s.vm.findClass RX1 = some m.cls) (hts : ∀ w ∈ lw_all, w.before args s = true) (hG : GU k s) (hSa : va_S (Ab k) s.heap H locs) (hP : va_P (kD k) gCl (leW k a T pit cor tol) H) (hvs : T.map Prod.snd = vs) (hO : leOk k a T) {x1 : Int32} (nf : Nat) : ∀ (n : Nat) (y3 : Int32) (y2 : Int32) (z : Int32), m_X1_nearestTo_L1 nf pit tol x1 n y3 y2 = some z → ∀ ls : Array Slot, lv_has ls 6 [(3, .int y3), (2, .int y2), (0, .ref (lL a)), (1, .int x1)] → (∀ ls : Array Slot, lv_has ls 6 [(2, .int z), (0, .ref (lL a)), (1, .int x1)] → W p l e ({ frames := 1, cells := 0, slots := 0, locals := 24 } : Room) s m args below meth c H locs 0 0 Q (F0 m 86 ls [])) → W p l e ({ frames := 1, cells := 0, slots := 0, locals := 24 } : Room) s m args below meth c H locs 0 0 Q (F0 m 4 ls []) := by
  intro n
  induction n with
  | zero => intro y3 y2 z h ls hl K; exact absurd h (by simp [m_X1_nearestTo_L1])
  | succ n ih =>
    intro y3 y2 z h ls hl K
    unfold m_X1_nearestTo_L1 at h
    refine lv_iload_n hx hb dX1_nearestTo_4 rfl (lv_at hl 0 rfl) ?_
    refine lv_bipush (v := 6) hx hb dX1_nearestTo_5 (by decide) ?_
    refine lv_icmp_ge (tgt := 86) hx hb dX1_nearestTo_7 (by decide) (fun c1 => ?_) (fun c1 => ?_)
    · have h := pi_t c1 h
      cases h
      exact K ls (lv_sub hl [1, 2, 3] rfl)
    · have h := pi_f c1 h
      refine lv_aload_n hx hb dX1_nearestTo_10 rfl (lv_at hl 2 rfl) ?_
      refine va_get (ci := 1) (v := .ref (lP a)) (C := RX1) (T := TX1) (N := 4) hx hb hts in_X1 hown hG.K (le_o hP) 0 rfl rfl 1 (by decide) (hts _ q153) (fun _ h9 => h9) rfl dX1_nearestTo_11 ?_
      refine lv_iload_n hx hb dX1_nearestTo_14 rfl (lv_at hl 0 rfl) ?_
      obtain ⟨g2, h⟩ := pg_some h
      refine va_iald hx hb hG.K (le_p hP) 0 0 rfl rfl g2 dX1_nearestTo_15 ?_
      refine lv_iload_n hx hb dX1_nearestTo_16 rfl (lv_at hl 3 rfl) ?_
      refine lv_isub hx hb dX1_nearestTo_17 ?_
      refine va_mabs hx hb (hml.trans hl.1.symm) hown (hts _ q531) (hts _ q532) (hts _ q83) (hts _ q533) (Nat.le_of_ble_eq_true rfl) (Nat.le_of_ble_eq_true rfl) (Nat.le_of_ble_eq_true rfl) (Nat.le_of_ble_eq_true rfl) dX1_nearestTo_18 ?_
      refine lv_istore (lv' := [(4, .int (if 0 ≤ ((pit y3.toNatClampNeg) - x1) then ((pit y3.toNatClampNeg) - x1) else 0 - ((pit y3.toNatClampNeg) - x1))), (3, .int y3), (2, .int y2), (0, .ref (lL a)), (1, .int x1)]) hx hb dX1_nearestTo_21 hl (by decide) rfl (fun ls hl => ?_)
      refine lv_aload_n hx hb dX1_nearestTo_23 rfl (lv_at hl 3 rfl) ?_
      refine va_get (ci := 1) (v := .ref (lP a)) (C := RX1) (T := TX1) (N := 4) hx hb hts in_X1 hown hG.K (le_o hP) 0 rfl rfl 1 (by decide) (hts _ q153) (fun _ h9 => h9) rfl dX1_nearestTo_24 ?_
      refine lv_iload_n hx hb dX1_nearestTo_27 rfl (lv_at hl 1 rfl) ?_
      refine va_iald hx hb hG.K (le_p hP) 0 0 rfl rfl g2 dX1_nearestTo_28 ?_
      obtain ⟨j5, hj, h⟩ := pb_some h
      refine W.cut (g' := F0 m 46 ls [.int (bi j5)]) ?_ (fun K => ?_)
      · refine lv_istore (lv' := [(5, .int (bi j5)), (4, .int (if 0 ≤ ((pit y3.toNatClampNeg) - x1) then ((pit y3.toNatClampNeg) - x1) else 0 - ((pit y3.toNatClampNeg) - x1))), (3, .int y3), (2, .int y2), (0, .ref (lL a)), (1, .int x1)]) hx hb dX1_nearestTo_46 hl (by decide) rfl (fun ls hl => ?_)
        refine lv_iload hx hb dX1_nearestTo_48 (lv_at hl 0 rfl) ?_
        obtain ⟨j10, hj, h⟩ := pb_some h
        refine W.cut (g' := F0 m 79 ls [.int j10]) ?_ (fun K => ?_)
        · refine lv_istore_n (lv' := [(2, .int j10), (5, .int (bi j5)), (4, .int (if 0 ≤ ((pit y3.toNatClampNeg) - x1) then ((pit y3.toNatClampNeg) - x1) else 0 - ((pit y3.toNatClampNeg) - x1))), (3, .int y3), (0, .ref (lL a)), (1, .int x1)]) hx hb dX1_nearestTo_79 rfl hl (by decide) rfl (fun ls hl => ?_)
          refine lv_iinc (v := (y3 + (1 : Int32))) (lv' := [(3, .int (y3 + (1 : Int32))), (2, .int j10), (5, .int (bi j5)), (4, .int (if 0 ≤ ((pit y3.toNatClampNeg) - x1) then ((pit y3.toNatClampNeg) - x1) else 0 - ((pit y3.toNatClampNeg) - x1))), (0, .ref (lL a)), (1, .int x1)]) hx hb dX1_nearestTo_80 hl (k := 3) rfl (by rfl) (by decide) rfl (fun ls hl => ?_)
          refine lv_goto (tgt := 4) hx hb dX1_nearestTo_83 (by decide) ?_
          exact ih _ _ _ h ls (lv_sub hl [0, 1, 4, 5] rfl) K
        · have h := hj
          refine lv_if_eq (tgt := 78) hx hb dX1_nearestTo_50 (by decide) (fun c6 => ?_) (fun c6 => ?_)
          · have h := pi_t c6 h
            refine lv_iload_n hx hb dX1_nearestTo_78 rfl (lv_at hl 3 rfl) ?_
            cases h
            exact K
          · have h := pi_f c6 h
            refine lv_iload_n hx hb dX1_nearestTo_53 rfl (lv_at hl 3 rfl) ?_
            refine lv_iconst (v := -1) hx hb dX1_nearestTo_54 (by decide) ?_
            refine lv_icmp_eq (tgt := 74) hx hb dX1_nearestTo_55 (by decide) (fun c7 => ?_) (fun c7 => ?_)
            · have h := pi_t c7 h
              refine lv_iload_n hx hb dX1_nearestTo_74 rfl (lv_at hl 2 rfl) ?_
              refine lv_goto (tgt := 79) hx hb dX1_nearestTo_75 (by decide) ?_
              cases h
              exact K
            · have h := pi_f c7 h
              refine lv_iload hx hb dX1_nearestTo_58 (lv_at hl 1 rfl) ?_
              refine lv_aload_n hx hb dX1_nearestTo_60 rfl (lv_at hl 4 rfl) ?_
              refine va_get (ci := 1) (v := .ref (lP a)) (C := RX1) (T := TX1) (N := 4) hx hb hts in_X1 hown hG.K (le_o hP) 0 rfl rfl 1 (by decide) (hts _ q153) (fun _ h9 => h9) rfl dX1_nearestTo_61 ?_
              refine lv_iload_n hx hb dX1_nearestTo_64 rfl (lv_at hl 3 rfl) ?_
              obtain ⟨g8, h⟩ := pg_some h
              refine va_iald hx hb hG.K (le_p hP) 0 0 rfl rfl g8 dX1_nearestTo_65 ?_
              refine lv_iload_n hx hb dX1_nearestTo_66 rfl (lv_at hl 5 rfl) ?_
              refine lv_isub hx hb dX1_nearestTo_67 ?_
              refine va_mabs hx hb (hml.trans hl.1.symm) hown (hts _ q531) (hts _ q532) (hts _ q83) (hts _ q533) (Nat.le_of_ble_eq_true rfl) (Nat.le_of_ble_eq_true rfl) (Nat.le_of_ble_eq_true rfl) (Nat.le_of_ble_eq_true rfl) dX1_nearestTo_68 ?_
              refine lv_icmp_ge (tgt := 78) hx hb dX1_nearestTo_71 (by decide) (fun c9 => ?_) (fun c9 => ?_)
              · have h := pi_t c9 h
                refine lv_iload_n hx hb dX1_nearestTo_78 rfl (lv_at hl 3 rfl) ?_
                cases h
                exact K
              · have h := pi_f c9 h
                refine lv_iload_n hx hb dX1_nearestTo_74 rfl (lv_at hl 2 rfl) ?_
                refine lv_goto (tgt := 79) hx hb dX1_nearestTo_75 (by decide) ?_
                cases h
                exact K
      · have h := hj
        refine lv_if_le (tgt := 45) hx hb dX1_nearestTo_29 (by decide) (fun c3 => ?_) (fun c3 => ?_)
        · have h := pi_t c3 h
          refine lv_iconst (v := 0) hx hb dX1_nearestTo_45 (by decide) ?_
          cases h
          exact K
        · have h := pi_f c3 h
          refine lv_iload hx hb dX1_nearestTo_32 (lv_at hl 0 rfl) ?_
          refine lv_aload_n hx hb dX1_nearestTo_34 rfl (lv_at hl 3 rfl) ?_
          refine va_get (ci := 1) (v := .int tol) (C := RX1) (T := TX1) (N := 4) hx hb hts in_X1 hown hG.K (le_o hP) 0 rfl rfl 3 (by decide) (hts _ q157) (fun _ h9 => h9) rfl dX1_nearestTo_35 ?_
          refine lv_icmp_gt (tgt := 45) hx hb dX1_nearestTo_38 (by decide) (fun c4 => ?_) (fun c4 => ?_)
          · have h := pi_t c4 h
            refine lv_iconst (v := 0) hx hb dX1_nearestTo_45 (by decide) ?_
            cases h
            exact K
          · have h := pi_f c4 h
            refine lv_iconst (v := 1) hx hb dX1_nearestTo_41 (by decide) ?_
            refine lv_goto (tgt := 46) hx hb dX1_nearestTo_42 (by decide) ?_
            cases h
            exact K
set_option maxHeartbeats 4000000 in
set_option maxRecDepth 100000 in
theorem met_X1_nearestTo {l : Launch} {k : Cx} {a : LA} {T : List TT} {vs : List TV} {pit cor : Nat → Int32} {tol : Int32} {nf : Nat} {x1 : Int32} {r : Int32} (hvs : T.map Prod.snd = vs) (hO : leOk k a T) (h : m_X1_nearestTo nf pit tol  x1 = some r) : Met l yX1_nearestTo (ws_ yX1_nearestTo cX1_nearestTo 6 (some .int)) ({ frames := 1, cells := 0, slots := 0, locals := 24 } : Room) (gPc [.ref (lL a), .int x1] k (leW k a T pit cor tol)) (QcV (some (.int r))) 0 0 (fun _ => False) := by
  refine Met.ofW (cc := cX1_nearestTo) (maxL := 6) (ret := (some .int)) (by decide) rfl ?_
  intro p e s m args below meth c s₁ B hml hv
  obtain ⟨rfl, hP, hG⟩ := hv
  have hx := B.exec
  have hb := B.bytes
  have hr := B.returns
  have hts := atoms_spec (ws := ws_ yX1_nearestTo cX1_nearestTo 6 (some .int)) B.pre
  have hts : ∀ w ∈ lw_all, w.before _ s = true := fun w h => hts w (List.mem_cons_of_mem _ h)
  have hown : s.vm.findClass RX1 = some m.cls := findClass_of_methodNamed B.named
  have hlocks := B.notSynchronized
  have hSa : va_S (Ab k) s.heap s.heap [] := va_S.rf
  have hl := lv_entry ([.ref (lL a), .int x1]) (n := 6) (Nat.le_of_ble_eq_true rfl)
  rw [lg_entry_eq]
  generalize (lg_sl ([.ref (lL a), .int x1]) ++ List.replicate (6 - (lg_sl ([.ref (lL a), .int x1])).length) Slot.unset).toArray = ls at hl ⊢
  have hl : lv_has ls 6 [(0, .ref (lL a)), (1, .int x1)] := hl
  unfold m_X1_nearestTo at h
  refine lv_iconst (v := -1) hx hb dX1_nearestTo_0 (by decide) ?_
  refine lv_istore_n (lv' := [(2, .int (-1 : Int32)), (0, .ref (lL a)), (1, .int x1)]) hx hb dX1_nearestTo_1 rfl hl (by decide) rfl (fun ls hl => ?_)
  refine lv_iconst (v := 0) hx hb dX1_nearestTo_2 (by decide) ?_
  refine lv_istore_n (lv' := [(3, .int (0 : Int32)), (2, .int (-1 : Int32)), (0, .ref (lL a)), (1, .int x1)]) hx hb dX1_nearestTo_3 rfl hl (by decide) rfl (fun ls hl => ?_)
  obtain ⟨o1, e501, h⟩ := pb_some h
  refine lp_X1_nearestTo_1 hx hb hml hown hts hG hSa hP hvs hO _ _ _ _ _ e501 ls (lv_sub hl [0, 1, 2, 3] rfl) (fun ls hl => ?_)
  refine lv_iload_n hx hb dX1_nearestTo_86 rfl (lv_at hl 0 rfl) ?_
  cases h
  exact W.iret hx hb hr (fun t ht hW => c_ret ht) (fun q hq => absurd hq List.not_mem_nil) dX1_nearestTo_87
theorem hd_X1_turnsOf : yX1_turnsOf.cls ≠ "java/lang/invoke/MethodHandle" ∧ yX1_turnsOf.cls ≠ "java/lang/invoke/VarHandle" ∧ (parseMethodDescriptor yX1_turnsOf.desc).map (fun d => d.parameters.length) = some 1 := by decide +kernel
set_option maxHeartbeats 4000000 in
set_option maxRecDepth 100000 in
theorem lp_X1_turnsOf_1 {p : Program} {l : Launch} {e : Env} {s : State} {m : MethodId} {args : Array Value} {below : List Frame} {meth : Method} {c : Code} {Q : State → Prop} {H : Heap} {locs : List Loc} {k : Cx} {a : LA} {T : List TT} {vs : List TV} {pit cor : Nat → Int32} {tol : Int32}  (hx : p.tables.exec = Jvm.exec) (hb : c.code = cX1_turnsOf) (hml : c.maxLocals = 4) (hown : s.vm.findClass RX1 = some m.cls) (hts : ∀ w ∈ lw_all, w.before args s = true) (hG : GU k s) (hSa : va_S (Ab k) s.heap H locs) (hP : va_P (kD k) gCl (leW k a T pit cor tol) H) (hvs : T.map Prod.snd = vs) (hO : leOk k a T) {x1 : Int32} (nf : Nat) : ∀ (n : Nat) (y3 : Int32) (y2 : Int32) (z : Int32), m_X1_turnsOf_L1 nf vs x1 n y3 y2 = some z → ∀ ls : Array Slot, lv_has ls 4 [(3, .int y3), (2, .int y2), (0, .ref (lL a)), (1, .int x1)] → (∀ ls : Array Slot, lv_has ls 4 [(2, .int z), (0, .ref (lL a)), (1, .int x1)] → W p l e ({ frames := 5, cells := 0, slots := 0, locals := 97 } : Room) s m args below meth c H locs 0 0 Q (F0 m 47 ls [])) → W p l e ({ frames := 5, cells := 0, slots := 0, locals := 97 } : Room) s m args below meth c H locs 0 0 Q (F0 m 4 ls []) := by
  intro n
  induction n with
  | zero => intro y3 y2 z h ls hl K; exact absurd h (by simp [m_X1_turnsOf_L1])
  | succ n ih =>
    intro y3 y2 z h ls hl K
    unfold m_X1_turnsOf_L1 at h
    refine lv_iload_n hx hb dX1_turnsOf_4 rfl (lv_at hl 0 rfl) ?_
    refine lv_aload_n hx hb dX1_turnsOf_5 rfl (lv_at hl 2 rfl) ?_
    refine va_get (ci := 1) (v := .ref (lS a)) (C := RX1) (T := TX1) (N := 4) hx hb hts in_X1 hown hG.K (le_o hP) 0 rfl rfl 0 (by decide) (hts _ q151) (fun _ h9 => h9) rfl dX1_turnsOf_6 ?_
    refine c_call (va_runV (As := []) (rest := [.int y3]) ⟨hx, hb, hml, hown, hts⟩ (met_X2_size (n := vs.length) (by rw [← hvs]; simp)) (cwV 0 hts (lw_V q243 q244 q245 q68 q246) rfl rfl rfl ⟨rfl, hd_X2_size⟩ ⟨Nat.le_of_ble_eq_true rfl, Nat.le_of_ble_eq_true rfl⟩) (g_preV hG hSa (le_st hP) (va_recv hG.K (le_s hP) (ci := 2) (q0 := 0) rfl rfl)) rfl rfl hl.1 rfl (lv_room (Nat.le_of_ble_eq_true rfl)) dX1_turnsOf_9 ⟨Nat.le_of_ble_eq_true rfl, Nat.le_of_ble_eq_true rfl⟩) ?_
    refine lv_icmp_ge (tgt := 47) hx hb dX1_turnsOf_12 (by decide) (fun c2 => ?_) (fun c2 => ?_)
    · have h := pi_t c2 h
      cases h
      exact K ls (lv_sub hl [1, 2, 3] rfl)
    · have h := pi_f c2 h
      refine lv_iload_n hx hb dX1_turnsOf_15 rfl (lv_at hl 1 rfl) ?_
      refine lv_aload_n hx hb dX1_turnsOf_16 rfl (lv_at hl 2 rfl) ?_
      refine va_get (ci := 1) (v := .ref (lS a)) (C := RX1) (T := TX1) (N := 4) hx hb hts in_X1 hown hG.K (le_o hP) 0 rfl rfl 0 (by decide) (hts _ q151) (fun _ h9 => h9) rfl dX1_turnsOf_17 ?_
      refine lv_iload_n hx hb dX1_turnsOf_20 rfl (lv_at hl 0 rfl) ?_
      obtain ⟨v3, e3, h⟩ := pb_some h
      obtain ⟨a3, e3, q3⟩ := pAt_T hvs e3
      refine c_call (va_runV (As := [.int y3]) (rest := [.int y2]) ⟨hx, hb, hml, hown, hts⟩ (met_X2_at (t := (a3, v3)) hO.1 q3) (cwV 1 hts (lw_V q253 q254 q255 q68 q256) rfl rfl rfl ⟨rfl, hd_X2_at⟩ ⟨Nat.le_of_ble_eq_true rfl, Nat.le_of_ble_eq_true rfl⟩) (g_preV hG hSa (va_P.cons (le_t hP e3) (le_st hP)) (va_recv hG.K (le_s hP) (ci := 2) (q0 := 0) rfl rfl)) rfl rfl hl.1 rfl (lv_room (Nat.le_of_ble_eq_true rfl)) dX1_turnsOf_21 ⟨Nat.le_of_ble_eq_true rfl, Nat.le_of_ble_eq_true rfl⟩) ?_
      refine va_castS hx hb hown (hts _ q251) (hG.K.1 4 _ rfl).2 (va_recv hG.K (le_t hP e3) (ci := 4) (q0 := 0) rfl rfl) dX1_turnsOf_24 ?_
      refine va_getN (ci := 4) (v := .int (vS v3)) (C := RX4) (T := TX4) (N := 5) hx hb hts in_X4 hown hG.K (le_t hP e3) 0 rfl rfl 3 (by decide) (nf_LectureTurns_Lecture_81 hG) (fun _ h9 => h9) rfl dX1_turnsOf_27 ?_
      refine lv_iload_n hx hb dX1_turnsOf_30 rfl (lv_at hl 3 rfl) ?_
      obtain ⟨j5, hj, h⟩ := pb_some h
      refine W.cut (g' := F0 m 39 ls [.int (bi j5), .int y2]) ?_ (fun K => ?_)
      · refine lv_iadd hx hb dX1_turnsOf_39 ?_
        refine lv_istore_n (lv' := [(2, .int (y2 + (bi j5))), (3, .int y3), (0, .ref (lL a)), (1, .int x1)]) hx hb dX1_turnsOf_40 rfl hl (by decide) rfl (fun ls hl => ?_)
        refine lv_iinc (v := (y3 + (1 : Int32))) (lv' := [(3, .int (y3 + (1 : Int32))), (2, .int (y2 + (bi j5))), (0, .ref (lL a)), (1, .int x1)]) hx hb dX1_turnsOf_41 hl (k := 1) rfl (by rfl) (by decide) rfl (fun ls hl => ?_)
        refine lv_goto (tgt := 4) hx hb dX1_turnsOf_44 (by decide) ?_
        exact ih _ _ _ h ls (lv_sub hl [0, 1, 2, 3] rfl) K
      · have h := hj
        refine lv_icmp_ne (tgt := 38) hx hb dX1_turnsOf_31 (by decide) (fun c4 => ?_) (fun c4 => ?_)
        · have h := pi_f c4 h
          refine lv_iconst (v := 0) hx hb dX1_turnsOf_38 (by decide) ?_
          cases h
          exact K
        · have h := pi_t c4 h
          refine lv_iconst (v := 1) hx hb dX1_turnsOf_34 (by decide) ?_
          refine lv_goto (tgt := 39) hx hb dX1_turnsOf_35 (by decide) ?_
          cases h
          exact K
set_option maxHeartbeats 4000000 in
set_option maxRecDepth 100000 in
theorem met_X1_turnsOf {l : Launch} {k : Cx} {a : LA} {T : List TT} {vs : List TV} {pit cor : Nat → Int32} {tol : Int32} {nf : Nat} {x1 : Int32} {r : Int32} (hvs : T.map Prod.snd = vs) (hO : leOk k a T) (h : m_X1_turnsOf nf vs  x1 = some r) : Met l yX1_turnsOf (ws_ yX1_turnsOf cX1_turnsOf 4 (some .int)) ({ frames := 5, cells := 0, slots := 0, locals := 97 } : Room) (gPc [.ref (lL a), .int x1] k (leW k a T pit cor tol)) (QcV (some (.int r))) 0 0 (fun _ => False) := by
  refine Met.ofW (cc := cX1_turnsOf) (maxL := 4) (ret := (some .int)) (by decide) rfl ?_
  intro p e s m args below meth c s₁ B hml hv
  obtain ⟨rfl, hP, hG⟩ := hv
  have hx := B.exec
  have hb := B.bytes
  have hr := B.returns
  have hts := atoms_spec (ws := ws_ yX1_turnsOf cX1_turnsOf 4 (some .int)) B.pre
  have hts : ∀ w ∈ lw_all, w.before _ s = true := fun w h => hts w (List.mem_cons_of_mem _ h)
  have hown : s.vm.findClass RX1 = some m.cls := findClass_of_methodNamed B.named
  have hlocks := B.notSynchronized
  have hSa : va_S (Ab k) s.heap s.heap [] := va_S.rf
  have hl := lv_entry ([.ref (lL a), .int x1]) (n := 4) (Nat.le_of_ble_eq_true rfl)
  rw [lg_entry_eq]
  generalize (lg_sl ([.ref (lL a), .int x1]) ++ List.replicate (4 - (lg_sl ([.ref (lL a), .int x1])).length) Slot.unset).toArray = ls at hl ⊢
  have hl : lv_has ls 4 [(0, .ref (lL a)), (1, .int x1)] := hl
  unfold m_X1_turnsOf at h
  refine lv_iconst (v := 0) hx hb dX1_turnsOf_0 (by decide) ?_
  refine lv_istore_n (lv' := [(2, .int (0 : Int32)), (0, .ref (lL a)), (1, .int x1)]) hx hb dX1_turnsOf_1 rfl hl (by decide) rfl (fun ls hl => ?_)
  refine lv_iconst (v := 0) hx hb dX1_turnsOf_2 (by decide) ?_
  refine lv_istore_n (lv' := [(3, .int (0 : Int32)), (2, .int (0 : Int32)), (0, .ref (lL a)), (1, .int x1)]) hx hb dX1_turnsOf_3 rfl hl (by decide) rfl (fun ls hl => ?_)
  obtain ⟨o1, e501, h⟩ := pb_some h
  refine lp_X1_turnsOf_1 hx hb hml hown hts hG hSa hP hvs hO _ _ _ _ _ e501 ls (lv_sub hl [0, 1, 2, 3] rfl) (fun ls hl => ?_)
  refine lv_iload_n hx hb dX1_turnsOf_47 rfl (lv_at hl 0 rfl) ?_
  cases h
  exact W.iret hx hb hr (fun t ht hW => c_ret ht) (fun q hq => absurd hq List.not_mem_nil) dX1_turnsOf_48
theorem hd_X1_going : yX1_going.cls ≠ "java/lang/invoke/MethodHandle" ∧ yX1_going.cls ≠ "java/lang/invoke/VarHandle" ∧ (parseMethodDescriptor yX1_going.desc).map (fun d => d.parameters.length) = some 1 := by decide +kernel
set_option maxHeartbeats 4000000 in
set_option maxRecDepth 100000 in
theorem lp_X1_going_1 {p : Program} {l : Launch} {e : Env} {s : State} {m : MethodId} {args : Array Value} {below : List Frame} {meth : Method} {c : Code} {Q : State → Prop} {H : Heap} {locs : List Loc} {k : Cx} {a : LA} {T : List TT} {vs : List TV} {pit cor : Nat → Int32} {tol : Int32}  (hx : p.tables.exec = Jvm.exec) (hb : c.code = cX1_going) (hml : c.maxLocals = 4) (hown : s.vm.findClass RX1 = some m.cls) (hts : ∀ w ∈ lw_all, w.before args s = true) (hG : GU k s) (hSa : va_S (Ab k) s.heap H locs) (hP : va_P (kD k) gCl (leW k a T pit cor tol) H) (hvs : T.map Prod.snd = vs) (hO : leOk k a T) {x1 : Int32} (nf : Nat) : ∀ (n : Nat) (y3 : Int32) (y2 : Int32) (z : Int32), m_X1_going_L1 nf vs x1 n y3 y2 = some z → ∀ ls : Array Slot, lv_has ls 4 [(3, .int y3), (2, .int y2), (0, .ref (lL a)), (1, .int x1)] → (∀ ls : Array Slot, lv_has ls 4 [(2, .int z), (0, .ref (lL a)), (1, .int x1)] → W p l e ({ frames := 5, cells := 0, slots := 0, locals := 97 } : Room) s m args below meth c H locs 0 0 Q (F0 m 47 ls [])) → W p l e ({ frames := 5, cells := 0, slots := 0, locals := 97 } : Room) s m args below meth c H locs 0 0 Q (F0 m 4 ls []) := by
  intro n
  induction n with
  | zero => intro y3 y2 z h ls hl K; exact absurd h (by simp [m_X1_going_L1])
  | succ n ih =>
    intro y3 y2 z h ls hl K
    unfold m_X1_going_L1 at h
    refine lv_iload_n hx hb dX1_going_4 rfl (lv_at hl 0 rfl) ?_
    refine lv_aload_n hx hb dX1_going_5 rfl (lv_at hl 2 rfl) ?_
    refine va_get (ci := 1) (v := .ref (lS a)) (C := RX1) (T := TX1) (N := 4) hx hb hts in_X1 hown hG.K (le_o hP) 0 rfl rfl 0 (by decide) (hts _ q151) (fun _ h9 => h9) rfl dX1_going_6 ?_
    refine c_call (va_runV (As := []) (rest := [.int y3]) ⟨hx, hb, hml, hown, hts⟩ (met_X2_size (n := vs.length) (by rw [← hvs]; simp)) (cwV 0 hts (lw_V q243 q244 q245 q68 q246) rfl rfl rfl ⟨rfl, hd_X2_size⟩ ⟨Nat.le_of_ble_eq_true rfl, Nat.le_of_ble_eq_true rfl⟩) (g_preV hG hSa (le_st hP) (va_recv hG.K (le_s hP) (ci := 2) (q0 := 0) rfl rfl)) rfl rfl hl.1 rfl (lv_room (Nat.le_of_ble_eq_true rfl)) dX1_going_9 ⟨Nat.le_of_ble_eq_true rfl, Nat.le_of_ble_eq_true rfl⟩) ?_
    refine lv_icmp_ge (tgt := 47) hx hb dX1_going_12 (by decide) (fun c2 => ?_) (fun c2 => ?_)
    · have h := pi_t c2 h
      cases h
      exact K ls (lv_sub hl [1, 2, 3] rfl)
    · have h := pi_f c2 h
      refine lv_iload_n hx hb dX1_going_15 rfl (lv_at hl 1 rfl) ?_
      refine lv_aload_n hx hb dX1_going_16 rfl (lv_at hl 2 rfl) ?_
      refine va_get (ci := 1) (v := .ref (lS a)) (C := RX1) (T := TX1) (N := 4) hx hb hts in_X1 hown hG.K (le_o hP) 0 rfl rfl 0 (by decide) (hts _ q151) (fun _ h9 => h9) rfl dX1_going_17 ?_
      refine lv_iload_n hx hb dX1_going_20 rfl (lv_at hl 0 rfl) ?_
      obtain ⟨v3, e3, h⟩ := pb_some h
      obtain ⟨a3, e3, q3⟩ := pAt_T hvs e3
      refine c_call (va_runV (As := [.int y3]) (rest := [.int y2]) ⟨hx, hb, hml, hown, hts⟩ (met_X2_at (t := (a3, v3)) hO.1 q3) (cwV 1 hts (lw_V q253 q254 q255 q68 q256) rfl rfl rfl ⟨rfl, hd_X2_at⟩ ⟨Nat.le_of_ble_eq_true rfl, Nat.le_of_ble_eq_true rfl⟩) (g_preV hG hSa (va_P.cons (le_t hP e3) (le_st hP)) (va_recv hG.K (le_s hP) (ci := 2) (q0 := 0) rfl rfl)) rfl rfl hl.1 rfl (lv_room (Nat.le_of_ble_eq_true rfl)) dX1_going_21 ⟨Nat.le_of_ble_eq_true rfl, Nat.le_of_ble_eq_true rfl⟩) ?_
      refine va_castS hx hb hown (hts _ q251) (hG.K.1 4 _ rfl).2 (va_recv hG.K (le_t hP e3) (ci := 4) (q0 := 0) rfl rfl) dX1_going_24 ?_
      refine lv_iload_n hx hb dX1_going_27 rfl (lv_at hl 3 rfl) ?_
      obtain ⟨b5, e4, h⟩ := pb_some h
      refine c_call (va_runV (As := [.int x1]) (rest := [.int y2]) ⟨hx, hb, hml, hown, hts⟩ (met_X4_goesOn e4) (cwV 1 hts (lw_V q817 q818 q819 q78 q820) rfl rfl rfl ⟨rfl, hd_X4_goesOn⟩ ⟨Nat.le_of_ble_eq_true rfl, Nat.le_of_ble_eq_true rfl⟩) (g_preV hG hSa (le_t hP e3) (va_recv hG.K (le_t hP e3) (ci := 4) (q0 := 0) rfl rfl)) rfl rfl hl.1 rfl (lv_room (Nat.le_of_ble_eq_true rfl)) dX1_going_28 ⟨Nat.le_of_ble_eq_true rfl, Nat.le_of_ble_eq_true rfl⟩) ?_
      obtain ⟨j7, hj, h⟩ := pb_some h
      refine W.cut (g' := F0 m 39 ls [.int (bi j7), .int y2]) ?_ (fun K => ?_)
      · refine lv_iadd hx hb dX1_going_39 ?_
        refine lv_istore_n (lv' := [(2, .int (y2 + (bi j7))), (3, .int y3), (0, .ref (lL a)), (1, .int x1)]) hx hb dX1_going_40 rfl hl (by decide) rfl (fun ls hl => ?_)
        refine lv_iinc (v := (y3 + (1 : Int32))) (lv' := [(3, .int (y3 + (1 : Int32))), (2, .int (y2 + (bi j7))), (0, .ref (lL a)), (1, .int x1)]) hx hb dX1_going_41 hl (k := 1) rfl (by rfl) (by decide) rfl (fun ls hl => ?_)
        refine lv_goto (tgt := 4) hx hb dX1_going_44 (by decide) ?_
        exact ih _ _ _ h ls (lv_sub hl [0, 1, 2, 3] rfl) K
      · have h := hj
        refine lv_if_eq (tgt := 38) hx hb dX1_going_31 (by decide) (fun c6 => ?_) (fun c6 => ?_)
        · have h := pi_t c6 h
          refine lv_iconst (v := 0) hx hb dX1_going_38 (by decide) ?_
          cases h
          exact K
        · have h := pi_f c6 h
          refine lv_iconst (v := 1) hx hb dX1_going_34 (by decide) ?_
          refine lv_goto (tgt := 39) hx hb dX1_going_35 (by decide) ?_
          cases h
          exact K
set_option maxHeartbeats 4000000 in
set_option maxRecDepth 100000 in
theorem met_X1_going {l : Launch} {k : Cx} {a : LA} {T : List TT} {vs : List TV} {pit cor : Nat → Int32} {tol : Int32} {nf : Nat} {x1 : Int32} {r : Int32} (hvs : T.map Prod.snd = vs) (hO : leOk k a T) (h : m_X1_going nf vs  x1 = some r) : Met l yX1_going (ws_ yX1_going cX1_going 4 (some .int)) ({ frames := 5, cells := 0, slots := 0, locals := 97 } : Room) (gPc [.ref (lL a), .int x1] k (leW k a T pit cor tol)) (QcV (some (.int r))) 0 0 (fun _ => False) := by
  refine Met.ofW (cc := cX1_going) (maxL := 4) (ret := (some .int)) (by decide) rfl ?_
  intro p e s m args below meth c s₁ B hml hv
  obtain ⟨rfl, hP, hG⟩ := hv
  have hx := B.exec
  have hb := B.bytes
  have hr := B.returns
  have hts := atoms_spec (ws := ws_ yX1_going cX1_going 4 (some .int)) B.pre
  have hts : ∀ w ∈ lw_all, w.before _ s = true := fun w h => hts w (List.mem_cons_of_mem _ h)
  have hown : s.vm.findClass RX1 = some m.cls := findClass_of_methodNamed B.named
  have hlocks := B.notSynchronized
  have hSa : va_S (Ab k) s.heap s.heap [] := va_S.rf
  have hl := lv_entry ([.ref (lL a), .int x1]) (n := 4) (Nat.le_of_ble_eq_true rfl)
  rw [lg_entry_eq]
  generalize (lg_sl ([.ref (lL a), .int x1]) ++ List.replicate (4 - (lg_sl ([.ref (lL a), .int x1])).length) Slot.unset).toArray = ls at hl ⊢
  have hl : lv_has ls 4 [(0, .ref (lL a)), (1, .int x1)] := hl
  unfold m_X1_going at h
  refine lv_iconst (v := 0) hx hb dX1_going_0 (by decide) ?_
  refine lv_istore_n (lv' := [(2, .int (0 : Int32)), (0, .ref (lL a)), (1, .int x1)]) hx hb dX1_going_1 rfl hl (by decide) rfl (fun ls hl => ?_)
  refine lv_iconst (v := 0) hx hb dX1_going_2 (by decide) ?_
  refine lv_istore_n (lv' := [(3, .int (0 : Int32)), (2, .int (0 : Int32)), (0, .ref (lL a)), (1, .int x1)]) hx hb dX1_going_3 rfl hl (by decide) rfl (fun ls hl => ?_)
  obtain ⟨o1, e501, h⟩ := pb_some h
  refine lp_X1_going_1 hx hb hml hown hts hG hSa hP hvs hO _ _ _ _ _ e501 ls (lv_sub hl [0, 1, 2, 3] rfl) (fun ls hl => ?_)
  refine lv_iload_n hx hb dX1_going_47 rfl (lv_at hl 0 rfl) ?_
  cases h
  exact W.iret hx hb hr (fun t ht hW => c_ret ht) (fun q hq => absurd hq List.not_mem_nil) dX1_going_48
theorem hd_X1_alone : yX1_alone.cls ≠ "java/lang/invoke/MethodHandle" ∧ yX1_alone.cls ≠ "java/lang/invoke/VarHandle" ∧ (parseMethodDescriptor yX1_alone.desc).map (fun d => d.parameters.length) = some 1 := by decide +kernel
set_option maxHeartbeats 4000000 in
set_option maxRecDepth 100000 in
theorem lp_X1_alone_1 {p : Program} {l : Launch} {e : Env} {s : State} {m : MethodId} {args : Array Value} {below : List Frame} {meth : Method} {c : Code} {Q : State → Prop} {H : Heap} {locs : List Loc} {k : Cx} {a : LA} {T : List TT} {vs : List TV} {pit cor : Nat → Int32} {tol : Int32} {b1 : TA} {w1 : TV} {i1 : Nat}  (hx : p.tables.exec = Jvm.exec) (hb : c.code = cX1_alone) (hml : c.maxLocals = 4) (hown : s.vm.findClass RX1 = some m.cls) (hts : ∀ w ∈ lw_all, w.before args s = true) (hG : GU k s) (hSa : va_S (Ab k) s.heap H locs) (hP : va_P (kD k) gCl (leW k a T pit cor tol) H) (hvs : T.map Prod.snd = vs) (hO : leOk k a T) (et1 : T[i1]? = some (b1, w1))  (nf : Nat) : ∀ (n : Nat) (y3 : Int32) (y2 : Int32) (z : Int32), m_X1_alone_L1 nf vs w1 n y3 y2 = some z → ∀ ls : Array Slot, lv_has ls 4 [(3, .int y3), (2, .int y2), (0, .ref (lL a)), (1, .ref (aT b1))] → (∀ ls : Array Slot, lv_has ls 4 [(2, .int z), (0, .ref (lL a)), (1, .ref (aT b1))] → W p l e ({ frames := 6, cells := 0, slots := 0, locals := 120 } : Room) s m args below meth c H locs 0 0 Q (F0 m 38 ls [])) → W p l e ({ frames := 6, cells := 0, slots := 0, locals := 120 } : Room) s m args below meth c H locs 0 0 Q (F0 m 7 ls []) := by
  intro n
  induction n with
  | zero => intro y3 y2 z h ls hl K; exact absurd h (by simp [m_X1_alone_L1])
  | succ n ih =>
    intro y3 y2 z h ls hl K
    unfold m_X1_alone_L1 at h
    refine lv_iload_n hx hb dX1_alone_7 rfl (lv_at hl 0 rfl) ?_
    refine lv_aload_n hx hb dX1_alone_8 rfl (lv_at hl 3 rfl) ?_
    refine va_getN (ci := 4) (v := .int (vE w1)) (C := RX4) (T := TX4) (N := 5) hx hb hts in_X4 hown hG.K (le_t hP et1) 0 rfl rfl 1 (by decide) (nf_LectureTurns_Lecture_111 hG) (fun _ h9 => h9) rfl dX1_alone_9 ?_
    refine lv_icmp_ge (tgt := 38) hx hb dX1_alone_12 (by decide) (fun c1 => ?_) (fun c1 => ?_)
    · have h := pi_t c1 h
      cases h
      exact K ls (lv_sub hl [1, 2, 3] rfl)
    · have h := pi_f c1 h
      refine lv_iload_n hx hb dX1_alone_15 rfl (lv_at hl 1 rfl) ?_
      refine lv_aload_n hx hb dX1_alone_16 rfl (lv_at hl 2 rfl) ?_
      refine lv_iload_n hx hb dX1_alone_17 rfl (lv_at hl 0 rfl) ?_
      obtain ⟨r3, e2, h⟩ := pb_some h
      refine c_call (va_runV (As := [.int y3]) (rest := [.int y2]) ⟨hx, hb, hml, hown, hts⟩ (met_X1_going hvs hO  e2) (cwV 1 hts (lw_V q813 q814 q815 q67 q816) rfl rfl rfl ⟨rfl, hd_X1_going⟩ ⟨Nat.le_of_ble_eq_true rfl, Nat.le_of_ble_eq_true rfl⟩) (g_preV hG hSa hP (va_recv hG.K (le_o hP) (ci := 1) (q0 := 0) rfl rfl)) rfl rfl hl.1 rfl (lv_room (Nat.le_of_ble_eq_true rfl)) dX1_alone_18 ⟨Nat.le_of_ble_eq_true rfl, Nat.le_of_ble_eq_true rfl⟩) ?_
      refine lv_iconst (v := 1) hx hb dX1_alone_21 (by decide) ?_
      obtain ⟨j5, hj, h⟩ := pb_some h
      refine W.cut (g' := F0 m 30 ls [.int (bi j5), .int y2]) ?_ (fun K => ?_)
      · refine lv_iadd hx hb dX1_alone_30 ?_
        refine lv_istore_n (lv' := [(2, .int (y2 + (bi j5))), (3, .int y3), (0, .ref (lL a)), (1, .ref (aT b1))]) hx hb dX1_alone_31 rfl hl (by decide) rfl (fun ls hl => ?_)
        refine lv_iinc (v := (y3 + (1 : Int32))) (lv' := [(3, .int (y3 + (1 : Int32))), (2, .int (y2 + (bi j5))), (0, .ref (lL a)), (1, .ref (aT b1))]) hx hb dX1_alone_32 hl (k := 1) rfl (by rfl) (by decide) rfl (fun ls hl => ?_)
        refine lv_goto (tgt := 7) hx hb dX1_alone_35 (by decide) ?_
        exact ih _ _ _ h ls (lv_sub hl [0, 1, 2, 3] rfl) K
      · have h := hj
        refine lv_icmp_ne (tgt := 29) hx hb dX1_alone_22 (by decide) (fun c4 => ?_) (fun c4 => ?_)
        · have h := pi_f c4 h
          refine lv_iconst (v := 0) hx hb dX1_alone_29 (by decide) ?_
          cases h
          exact K
        · have h := pi_t c4 h
          refine lv_iconst (v := 1) hx hb dX1_alone_25 (by decide) ?_
          refine lv_goto (tgt := 30) hx hb dX1_alone_26 (by decide) ?_
          cases h
          exact K
set_option maxHeartbeats 4000000 in
set_option maxRecDepth 100000 in
theorem met_X1_alone {l : Launch} {k : Cx} {a : LA} {T : List TT} {vs : List TV} {pit cor : Nat → Int32} {tol : Int32} {b1 : TA} {w1 : TV} {i1 : Nat} {nf : Nat} {r : Int32} (hvs : T.map Prod.snd = vs) (hO : leOk k a T) (et1 : T[i1]? = some (b1, w1)) (h : m_X1_alone nf vs  w1 = some r) : Met l yX1_alone (ws_ yX1_alone cX1_alone 4 (some .int)) ({ frames := 6, cells := 0, slots := 0, locals := 120 } : Room) (gPc [.ref (lL a), .ref (aT b1)] k (leW k a T pit cor tol)) (QcV (some (.int r))) 0 0 (fun _ => False) := by
  refine Met.ofW (cc := cX1_alone) (maxL := 4) (ret := (some .int)) (by decide) rfl ?_
  intro p e s m args below meth c s₁ B hml hv
  obtain ⟨rfl, hP, hG⟩ := hv
  have hx := B.exec
  have hb := B.bytes
  have hr := B.returns
  have hts := atoms_spec (ws := ws_ yX1_alone cX1_alone 4 (some .int)) B.pre
  have hts : ∀ w ∈ lw_all, w.before _ s = true := fun w h => hts w (List.mem_cons_of_mem _ h)
  have hown : s.vm.findClass RX1 = some m.cls := findClass_of_methodNamed B.named
  have hlocks := B.notSynchronized
  have hSa : va_S (Ab k) s.heap s.heap [] := va_S.rf
  have hl := lv_entry ([.ref (lL a), .ref (aT b1)]) (n := 4) (Nat.le_of_ble_eq_true rfl)
  rw [lg_entry_eq]
  generalize (lg_sl ([.ref (lL a), .ref (aT b1)]) ++ List.replicate (4 - (lg_sl ([.ref (lL a), .ref (aT b1)])).length) Slot.unset).toArray = ls at hl ⊢
  have hl : lv_has ls 4 [(0, .ref (lL a)), (1, .ref (aT b1))] := hl
  unfold m_X1_alone at h
  refine lv_iconst (v := 0) hx hb dX1_alone_0 (by decide) ?_
  refine lv_istore_n (lv' := [(2, .int (0 : Int32)), (0, .ref (lL a)), (1, .ref (aT b1))]) hx hb dX1_alone_1 rfl hl (by decide) rfl (fun ls hl => ?_)
  refine lv_aload_n hx hb dX1_alone_2 rfl (lv_at hl 2 rfl) ?_
  refine va_getN (ci := 4) (v := .int (vB w1)) (C := RX4) (T := TX4) (N := 5) hx hb hts in_X4 hown hG.K (le_t hP et1) 0 rfl rfl 0 (by decide) (nf_LectureTurns_Lecture_108 hG) (fun _ h9 => h9) rfl dX1_alone_3 ?_
  refine lv_istore_n (lv' := [(3, .int (vB w1)), (2, .int (0 : Int32)), (0, .ref (lL a)), (1, .ref (aT b1))]) hx hb dX1_alone_6 rfl hl (by decide) rfl (fun ls hl => ?_)
  obtain ⟨o1, e501, h⟩ := pb_some h
  refine lp_X1_alone_1 hx hb hml hown hts hG hSa hP hvs hO et1 _ _ _ _ _ e501 ls (lv_sub hl [0, 1, 2, 3] rfl) (fun ls hl => ?_)
  refine lv_iload_n hx hb dX1_alone_38 rfl (lv_at hl 0 rfl) ?_
  cases h
  exact W.iret hx hb hr (fun t ht hW => c_ret ht) (fun q hq => absurd hq List.not_mem_nil) dX1_alone_39
theorem hd_X1_meeting : yX1_meeting.cls ≠ "java/lang/invoke/MethodHandle" ∧ yX1_meeting.cls ≠ "java/lang/invoke/VarHandle" ∧ (parseMethodDescriptor yX1_meeting.desc).map (fun d => d.parameters.length) = some 1 := by decide +kernel
set_option maxHeartbeats 4000000 in
set_option maxRecDepth 100000 in
theorem lp_X1_meeting_1 {p : Program} {l : Launch} {e : Env} {s : State} {m : MethodId} {args : Array Value} {below : List Frame} {meth : Method} {c : Code} {Q : State → Prop} {H : Heap} {locs : List Loc} {k : Cx} {a : LA} {T : List TT} {vs : List TV} {pit cor : Nat → Int32} {tol : Int32} {b1 : TA} {w1 : TV} {i1 : Nat}  (hx : p.tables.exec = Jvm.exec) (hb : c.code = cX1_meeting) (hml : c.maxLocals = 4) (hown : s.vm.findClass RX1 = some m.cls) (hts : ∀ w ∈ lw_all, w.before args s = true) (hG : GU k s) (hSa : va_S (Ab k) s.heap H locs) (hP : va_P (kD k) gCl (leW k a T pit cor tol) H) (hvs : T.map Prod.snd = vs) (hO : leOk k a T) (hN : (tads T).Nodup) (et1 : T[i1]? = some (b1, w1))  (nf : Nat) : ∀ (n : Nat) (y3 : Int32) (y2 : Int32) (z : Int32), m_X1_meeting_L1 nf vs i1 w1 n y3 y2 = some z → ∀ ls : Array Slot, lv_has ls 4 [(3, .int y3), (2, .int y2), (0, .ref (lL a)), (1, .ref (aT b1))] → (∀ ls : Array Slot, lv_has ls 4 [(2, .int z), (0, .ref (lL a)), (1, .ref (aT b1))] → W p l e ({ frames := 5, cells := 0, slots := 0, locals := 97 } : Room) s m args below meth c H locs 0 0 Q (F0 m 61 ls [])) → W p l e ({ frames := 5, cells := 0, slots := 0, locals := 97 } : Room) s m args below meth c H locs 0 0 Q (F0 m 4 ls []) := by
  intro n
  induction n with
  | zero => intro y3 y2 z h ls hl K; exact absurd h (by simp [m_X1_meeting_L1])
  | succ n ih =>
    intro y3 y2 z h ls hl K
    unfold m_X1_meeting_L1 at h
    refine lv_iload_n hx hb dX1_meeting_4 rfl (lv_at hl 0 rfl) ?_
    refine lv_aload_n hx hb dX1_meeting_5 rfl (lv_at hl 2 rfl) ?_
    refine va_get (ci := 1) (v := .ref (lS a)) (C := RX1) (T := TX1) (N := 4) hx hb hts in_X1 hown hG.K (le_o hP) 0 rfl rfl 0 (by decide) (hts _ q151) (fun _ h9 => h9) rfl dX1_meeting_6 ?_
    refine c_call (va_runV (As := []) (rest := [.int y3]) ⟨hx, hb, hml, hown, hts⟩ (met_X2_size (n := vs.length) (by rw [← hvs]; simp)) (cwV 0 hts (lw_V q243 q244 q245 q68 q246) rfl rfl rfl ⟨rfl, hd_X2_size⟩ ⟨Nat.le_of_ble_eq_true rfl, Nat.le_of_ble_eq_true rfl⟩) (g_preV hG hSa (le_st hP) (va_recv hG.K (le_s hP) (ci := 2) (q0 := 0) rfl rfl)) rfl rfl hl.1 rfl (lv_room (Nat.le_of_ble_eq_true rfl)) dX1_meeting_9 ⟨Nat.le_of_ble_eq_true rfl, Nat.le_of_ble_eq_true rfl⟩) ?_
    refine lv_icmp_ge (tgt := 61) hx hb dX1_meeting_12 (by decide) (fun c2 => ?_) (fun c2 => ?_)
    · have h := pi_t c2 h
      cases h
      exact K ls (lv_sub hl [1, 2, 3] rfl)
    · have h := pi_f c2 h
      refine lv_iload_n hx hb dX1_meeting_15 rfl (lv_at hl 1 rfl) ?_
      refine lv_aload_n hx hb dX1_meeting_16 rfl (lv_at hl 2 rfl) ?_
      refine va_get (ci := 1) (v := .ref (lS a)) (C := RX1) (T := TX1) (N := 4) hx hb hts in_X1 hown hG.K (le_o hP) 0 rfl rfl 0 (by decide) (hts _ q151) (fun _ h9 => h9) rfl dX1_meeting_17 ?_
      refine lv_iload_n hx hb dX1_meeting_20 rfl (lv_at hl 0 rfl) ?_
      obtain ⟨v3, e3, h⟩ := pb_some h
      obtain ⟨a3, e3, q3⟩ := pAt_T hvs e3
      refine c_call (va_runV (As := [.int y3]) (rest := [.int y2]) ⟨hx, hb, hml, hown, hts⟩ (met_X2_at (t := (a3, v3)) hO.1 q3) (cwV 1 hts (lw_V q253 q254 q255 q68 q256) rfl rfl rfl ⟨rfl, hd_X2_at⟩ ⟨Nat.le_of_ble_eq_true rfl, Nat.le_of_ble_eq_true rfl⟩) (g_preV hG hSa (va_P.cons (le_t hP e3) (le_st hP)) (va_recv hG.K (le_s hP) (ci := 2) (q0 := 0) rfl rfl)) rfl rfl hl.1 rfl (lv_room (Nat.le_of_ble_eq_true rfl)) dX1_meeting_21 ⟨Nat.le_of_ble_eq_true rfl, Nat.le_of_ble_eq_true rfl⟩) ?_
      refine lv_aload_n hx hb dX1_meeting_24 rfl (lv_at hl 3 rfl) ?_
      obtain ⟨j9, hj, h⟩ := pb_some h
      refine W.cut (g' := F0 m 53 ls [.int j9, .int y2]) ?_ (fun K => ?_)
      · refine lv_ior hx hb dX1_meeting_53 ?_
        refine lv_istore_n (lv' := [(2, .int (y2 ||| j9)), (3, .int y3), (0, .ref (lL a)), (1, .ref (aT b1))]) hx hb dX1_meeting_54 rfl hl (by decide) rfl (fun ls hl => ?_)
        refine lv_iinc (v := (y3 + (1 : Int32))) (lv' := [(3, .int (y3 + (1 : Int32))), (2, .int (y2 ||| j9)), (0, .ref (lL a)), (1, .ref (aT b1))]) hx hb dX1_meeting_55 hl (k := 1) rfl (by rfl) (by decide) rfl (fun ls hl => ?_)
        refine lv_goto (tgt := 4) hx hb dX1_meeting_58 (by decide) ?_
        exact ih _ _ _ h ls (lv_sub hl [0, 1, 2, 3] rfl) K
      · have h := hj
        refine lv_acmp_eq (rx := some (aT a3)) (ry := some (aT b1)) (tgt := 52) hx hb dX1_meeting_25 (by decide) (fun c4 => ?_) (fun c4 => ?_)
        · have h := pi_t ((tads_eq hN e3 et1).mp c4) h
          refine lv_iconst (v := 0) hx hb dX1_meeting_52 (by decide) ?_
          cases h
          exact K
        · have h := pi_f (fun z => c4 ((tads_eq hN e3 et1).mpr z)) h
          refine lv_aload_n hx hb dX1_meeting_28 rfl (lv_at hl 2 rfl) ?_
          refine va_get (ci := 1) (v := .ref (lS a)) (C := RX1) (T := TX1) (N := 4) hx hb hts in_X1 hown hG.K (le_o hP) 0 rfl rfl 0 (by decide) (hts _ q151) (fun _ h9 => h9) rfl dX1_meeting_29 ?_
          refine lv_iload_n hx hb dX1_meeting_32 rfl (lv_at hl 0 rfl) ?_
          obtain ⟨v5, e5, h⟩ := pb_some h
          obtain ⟨a5, e5, q5⟩ := pAt_T hvs e5
          refine c_call (va_runV (As := [.int y3]) (rest := [.int y2]) ⟨hx, hb, hml, hown, hts⟩ (met_X2_at (t := (a5, v5)) hO.1 q5) (cwV 1 hts (lw_V q253 q254 q255 q68 q256) rfl rfl rfl ⟨rfl, hd_X2_at⟩ ⟨Nat.le_of_ble_eq_true rfl, Nat.le_of_ble_eq_true rfl⟩) (g_preV hG hSa (va_P.cons (le_t hP e5) (le_st hP)) (va_recv hG.K (le_s hP) (ci := 2) (q0 := 0) rfl rfl)) rfl rfl hl.1 rfl (lv_room (Nat.le_of_ble_eq_true rfl)) dX1_meeting_33 ⟨Nat.le_of_ble_eq_true rfl, Nat.le_of_ble_eq_true rfl⟩) ?_
          refine va_castS hx hb hown (hts _ q251) (hG.K.1 4 _ rfl).2 (va_recv hG.K (le_t hP e5) (ci := 4) (q0 := 0) rfl rfl) dX1_meeting_36 ?_
          refine lv_aload_n hx hb dX1_meeting_39 rfl (lv_at hl 3 rfl) ?_
          obtain ⟨b7, e6, h⟩ := pb_some h
          refine c_call (va_runV (As := [.ref (aT b1)]) (rest := [.int y2]) ⟨hx, hb, hml, hown, hts⟩ (met_X4_meets e6) (cwV 1 hts (lw_V q793 q794 q795 q78 q796) rfl rfl rfl ⟨rfl, hd_X4_meets⟩ ⟨Nat.le_of_ble_eq_true rfl, Nat.le_of_ble_eq_true rfl⟩) (g_preV hG hSa (va_P.cons (le_t hP e5) (le_t hP et1)) (va_recv hG.K (le_t hP e5) (ci := 4) (q0 := 0) rfl rfl)) rfl rfl hl.1 rfl (lv_room (Nat.le_of_ble_eq_true rfl)) dX1_meeting_40 ⟨Nat.le_of_ble_eq_true rfl, Nat.le_of_ble_eq_true rfl⟩) ?_
          refine lv_if_eq (tgt := 52) hx hb dX1_meeting_43 (by decide) (fun c8 => ?_) (fun c8 => ?_)
          · have h := pi_t c8 h
            refine lv_iconst (v := 0) hx hb dX1_meeting_52 (by decide) ?_
            cases h
            exact K
          · have h := pi_f c8 h
            refine lv_iconst (v := 1) hx hb dX1_meeting_46 (by decide) ?_
            refine lv_iload_n hx hb dX1_meeting_47 rfl (lv_at hl 0 rfl) ?_
            refine lv_ishl hx hb dX1_meeting_48 ?_
            refine lv_goto (tgt := 53) hx hb dX1_meeting_49 (by decide) ?_
            cases h
            exact K
set_option maxHeartbeats 4000000 in
set_option maxRecDepth 100000 in
theorem met_X1_meeting {l : Launch} {k : Cx} {a : LA} {T : List TT} {vs : List TV} {pit cor : Nat → Int32} {tol : Int32} {b1 : TA} {w1 : TV} {i1 : Nat} {nf : Nat} {r : Int32} (hvs : T.map Prod.snd = vs) (hO : leOk k a T) (hN : (tads T).Nodup) (et1 : T[i1]? = some (b1, w1)) (h : m_X1_meeting nf vs i1 w1 = some r) : Met l yX1_meeting (ws_ yX1_meeting cX1_meeting 4 (some .int)) ({ frames := 5, cells := 0, slots := 0, locals := 97 } : Room) (gPc [.ref (lL a), .ref (aT b1)] k (leW k a T pit cor tol)) (QcV (some (.int r))) 0 0 (fun _ => False) := by
  refine Met.ofW (cc := cX1_meeting) (maxL := 4) (ret := (some .int)) (by decide) rfl ?_
  intro p e s m args below meth c s₁ B hml hv
  obtain ⟨rfl, hP, hG⟩ := hv
  have hx := B.exec
  have hb := B.bytes
  have hr := B.returns
  have hts := atoms_spec (ws := ws_ yX1_meeting cX1_meeting 4 (some .int)) B.pre
  have hts : ∀ w ∈ lw_all, w.before _ s = true := fun w h => hts w (List.mem_cons_of_mem _ h)
  have hown : s.vm.findClass RX1 = some m.cls := findClass_of_methodNamed B.named
  have hlocks := B.notSynchronized
  have hSa : va_S (Ab k) s.heap s.heap [] := va_S.rf
  have hl := lv_entry ([.ref (lL a), .ref (aT b1)]) (n := 4) (Nat.le_of_ble_eq_true rfl)
  rw [lg_entry_eq]
  generalize (lg_sl ([.ref (lL a), .ref (aT b1)]) ++ List.replicate (4 - (lg_sl ([.ref (lL a), .ref (aT b1)])).length) Slot.unset).toArray = ls at hl ⊢
  have hl : lv_has ls 4 [(0, .ref (lL a)), (1, .ref (aT b1))] := hl
  unfold m_X1_meeting at h
  refine lv_iconst (v := 0) hx hb dX1_meeting_0 (by decide) ?_
  refine lv_istore_n (lv' := [(2, .int (0 : Int32)), (0, .ref (lL a)), (1, .ref (aT b1))]) hx hb dX1_meeting_1 rfl hl (by decide) rfl (fun ls hl => ?_)
  refine lv_iconst (v := 0) hx hb dX1_meeting_2 (by decide) ?_
  refine lv_istore_n (lv' := [(3, .int (0 : Int32)), (2, .int (0 : Int32)), (0, .ref (lL a)), (1, .ref (aT b1))]) hx hb dX1_meeting_3 rfl hl (by decide) rfl (fun ls hl => ?_)
  obtain ⟨o1, e501, h⟩ := pb_some h
  refine lp_X1_meeting_1 hx hb hml hown hts hG hSa hP hvs hO hN et1 _ _ _ _ _ e501 ls (lv_sub hl [0, 1, 2, 3] rfl) (fun ls hl => ?_)
  refine lv_iload_n hx hb dX1_meeting_61 rfl (lv_at hl 0 rfl) ?_
  cases h
  exact W.iret hx hb hr (fun t ht hW => c_ret ht) (fun q hq => absurd hq List.not_mem_nil) dX1_meeting_62
theorem hd_X1_interrupted : yX1_interrupted.cls ≠ "java/lang/invoke/MethodHandle" ∧ yX1_interrupted.cls ≠ "java/lang/invoke/VarHandle" ∧ (parseMethodDescriptor yX1_interrupted.desc).map (fun d => d.parameters.length) = some 1 := by decide +kernel
set_option maxHeartbeats 4000000 in
set_option maxRecDepth 100000 in
theorem lp_X1_interrupted_1 {p : Program} {l : Launch} {e : Env} {s : State} {m : MethodId} {args : Array Value} {below : List Frame} {meth : Method} {c : Code} {Q : State → Prop} {H : Heap} {locs : List Loc} {k : Cx} {a : LA} {T : List TT} {vs : List TV} {pit cor : Nat → Int32} {tol : Int32} {b1 : TA} {w1 : TV} {i1 : Nat}  (hx : p.tables.exec = Jvm.exec) (hb : c.code = cX1_interrupted) (hml : c.maxLocals = 4) (hown : s.vm.findClass RX1 = some m.cls) (hts : ∀ w ∈ lw_all, w.before args s = true) (hG : GU k s) (hSa : va_S (Ab k) s.heap H locs) (hP : va_P (kD k) gCl (leW k a T pit cor tol) H) (hvs : T.map Prod.snd = vs) (hO : leOk k a T) (et1 : T[i1]? = some (b1, w1))  (nf : Nat) : ∀ (n : Nat) (y3 : Int32) (y2 : Int32) (z : Int32), m_X1_interrupted_L1 nf vs w1 n y3 y2 = some z → ∀ ls : Array Slot, lv_has ls 4 [(3, .int y3), (2, .int y2), (0, .ref (lL a)), (1, .ref (aT b1))] → (∀ ls : Array Slot, lv_has ls 4 [(2, .int z), (0, .ref (lL a)), (1, .ref (aT b1))] → W p l e ({ frames := 5, cells := 0, slots := 0, locals := 97 } : Room) s m args below meth c H locs 0 0 Q (F0 m 49 ls [])) → W p l e ({ frames := 5, cells := 0, slots := 0, locals := 97 } : Room) s m args below meth c H locs 0 0 Q (F0 m 4 ls []) := by
  intro n
  induction n with
  | zero => intro y3 y2 z h ls hl K; exact absurd h (by simp [m_X1_interrupted_L1])
  | succ n ih =>
    intro y3 y2 z h ls hl K
    unfold m_X1_interrupted_L1 at h
    refine lv_iload_n hx hb dX1_interrupted_4 rfl (lv_at hl 0 rfl) ?_
    refine lv_aload_n hx hb dX1_interrupted_5 rfl (lv_at hl 2 rfl) ?_
    refine va_get (ci := 1) (v := .ref (lS a)) (C := RX1) (T := TX1) (N := 4) hx hb hts in_X1 hown hG.K (le_o hP) 0 rfl rfl 0 (by decide) (hts _ q151) (fun _ h9 => h9) rfl dX1_interrupted_6 ?_
    refine c_call (va_runV (As := []) (rest := [.int y3]) ⟨hx, hb, hml, hown, hts⟩ (met_X2_size (n := vs.length) (by rw [← hvs]; simp)) (cwV 0 hts (lw_V q243 q244 q245 q68 q246) rfl rfl rfl ⟨rfl, hd_X2_size⟩ ⟨Nat.le_of_ble_eq_true rfl, Nat.le_of_ble_eq_true rfl⟩) (g_preV hG hSa (le_st hP) (va_recv hG.K (le_s hP) (ci := 2) (q0 := 0) rfl rfl)) rfl rfl hl.1 rfl (lv_room (Nat.le_of_ble_eq_true rfl)) dX1_interrupted_9 ⟨Nat.le_of_ble_eq_true rfl, Nat.le_of_ble_eq_true rfl⟩) ?_
    refine lv_icmp_ge (tgt := 49) hx hb dX1_interrupted_12 (by decide) (fun c2 => ?_) (fun c2 => ?_)
    · have h := pi_t c2 h
      cases h
      exact K ls (lv_sub hl [1, 2, 3] rfl)
    · have h := pi_f c2 h
      refine lv_iload_n hx hb dX1_interrupted_15 rfl (lv_at hl 1 rfl) ?_
      refine lv_aload_n hx hb dX1_interrupted_16 rfl (lv_at hl 3 rfl) ?_
      refine lv_aload_n hx hb dX1_interrupted_17 rfl (lv_at hl 2 rfl) ?_
      refine va_get (ci := 1) (v := .ref (lS a)) (C := RX1) (T := TX1) (N := 4) hx hb hts in_X1 hown hG.K (le_o hP) 0 rfl rfl 0 (by decide) (hts _ q151) (fun _ h9 => h9) rfl dX1_interrupted_18 ?_
      refine lv_iload_n hx hb dX1_interrupted_21 rfl (lv_at hl 0 rfl) ?_
      obtain ⟨v3, e3, h⟩ := pb_some h
      obtain ⟨a3, e3, q3⟩ := pAt_T hvs e3
      refine c_call (va_runV (As := [.int y3]) (rest := [.ref (aT b1), .int y2]) ⟨hx, hb, hml, hown, hts⟩ (met_X2_at (t := (a3, v3)) hO.1 q3) (cwV 1 hts (lw_V q253 q254 q255 q68 q256) rfl rfl rfl ⟨rfl, hd_X2_at⟩ ⟨Nat.le_of_ble_eq_true rfl, Nat.le_of_ble_eq_true rfl⟩) (g_preV hG hSa (va_P.cons (le_t hP e3) (le_st hP)) (va_recv hG.K (le_s hP) (ci := 2) (q0 := 0) rfl rfl)) rfl rfl hl.1 rfl (lv_room (Nat.le_of_ble_eq_true rfl)) dX1_interrupted_22 ⟨Nat.le_of_ble_eq_true rfl, Nat.le_of_ble_eq_true rfl⟩) ?_
      refine va_castS hx hb hown (hts _ q251) (hG.K.1 4 _ rfl).2 (va_recv hG.K (le_t hP e3) (ci := 4) (q0 := 0) rfl rfl) dX1_interrupted_25 ?_
      obtain ⟨b5, e4, h⟩ := pb_some h
      refine c_call (va_runV (As := [.ref (aT a3)]) (rest := [.int y2]) ⟨hx, hb, hml, hown, hts⟩ (met_X4_breaksInto e4) (cwV 1 hts (lw_V q803 q804 q805 q78 q806) rfl rfl rfl ⟨rfl, hd_X4_breaksInto⟩ ⟨Nat.le_of_ble_eq_true rfl, Nat.le_of_ble_eq_true rfl⟩) (g_preV hG hSa (va_P.cons (le_t hP et1) (le_t hP e3)) (va_recv hG.K (le_t hP et1) (ci := 4) (q0 := 0) rfl rfl)) rfl rfl hl.1 rfl (lv_room (Nat.le_of_ble_eq_true rfl)) dX1_interrupted_28 ⟨Nat.le_of_ble_eq_true rfl, Nat.le_of_ble_eq_true rfl⟩) ?_
      obtain ⟨j7, hj, h⟩ := pb_some h
      refine W.cut (g' := F0 m 41 ls [.int j7, .int y2]) ?_ (fun K => ?_)
      · refine lv_ior hx hb dX1_interrupted_41 ?_
        refine lv_istore_n (lv' := [(2, .int (y2 ||| j7)), (3, .int y3), (0, .ref (lL a)), (1, .ref (aT b1))]) hx hb dX1_interrupted_42 rfl hl (by decide) rfl (fun ls hl => ?_)
        refine lv_iinc (v := (y3 + (1 : Int32))) (lv' := [(3, .int (y3 + (1 : Int32))), (2, .int (y2 ||| j7)), (0, .ref (lL a)), (1, .ref (aT b1))]) hx hb dX1_interrupted_43 hl (k := 1) rfl (by rfl) (by decide) rfl (fun ls hl => ?_)
        refine lv_goto (tgt := 4) hx hb dX1_interrupted_46 (by decide) ?_
        exact ih _ _ _ h ls (lv_sub hl [0, 1, 2, 3] rfl) K
      · have h := hj
        refine lv_if_eq (tgt := 40) hx hb dX1_interrupted_31 (by decide) (fun c6 => ?_) (fun c6 => ?_)
        · have h := pi_t c6 h
          refine lv_iconst (v := 0) hx hb dX1_interrupted_40 (by decide) ?_
          cases h
          exact K
        · have h := pi_f c6 h
          refine lv_iconst (v := 1) hx hb dX1_interrupted_34 (by decide) ?_
          refine lv_iload_n hx hb dX1_interrupted_35 rfl (lv_at hl 0 rfl) ?_
          refine lv_ishl hx hb dX1_interrupted_36 ?_
          refine lv_goto (tgt := 41) hx hb dX1_interrupted_37 (by decide) ?_
          cases h
          exact K
set_option maxHeartbeats 4000000 in
set_option maxRecDepth 100000 in
theorem met_X1_interrupted {l : Launch} {k : Cx} {a : LA} {T : List TT} {vs : List TV} {pit cor : Nat → Int32} {tol : Int32} {b1 : TA} {w1 : TV} {i1 : Nat} {nf : Nat} {r : Int32} (hvs : T.map Prod.snd = vs) (hO : leOk k a T) (et1 : T[i1]? = some (b1, w1)) (h : m_X1_interrupted nf vs  w1 = some r) : Met l yX1_interrupted (ws_ yX1_interrupted cX1_interrupted 4 (some .int)) ({ frames := 5, cells := 0, slots := 0, locals := 97 } : Room) (gPc [.ref (lL a), .ref (aT b1)] k (leW k a T pit cor tol)) (QcV (some (.int r))) 0 0 (fun _ => False) := by
  refine Met.ofW (cc := cX1_interrupted) (maxL := 4) (ret := (some .int)) (by decide) rfl ?_
  intro p e s m args below meth c s₁ B hml hv
  obtain ⟨rfl, hP, hG⟩ := hv
  have hx := B.exec
  have hb := B.bytes
  have hr := B.returns
  have hts := atoms_spec (ws := ws_ yX1_interrupted cX1_interrupted 4 (some .int)) B.pre
  have hts : ∀ w ∈ lw_all, w.before _ s = true := fun w h => hts w (List.mem_cons_of_mem _ h)
  have hown : s.vm.findClass RX1 = some m.cls := findClass_of_methodNamed B.named
  have hlocks := B.notSynchronized
  have hSa : va_S (Ab k) s.heap s.heap [] := va_S.rf
  have hl := lv_entry ([.ref (lL a), .ref (aT b1)]) (n := 4) (Nat.le_of_ble_eq_true rfl)
  rw [lg_entry_eq]
  generalize (lg_sl ([.ref (lL a), .ref (aT b1)]) ++ List.replicate (4 - (lg_sl ([.ref (lL a), .ref (aT b1)])).length) Slot.unset).toArray = ls at hl ⊢
  have hl : lv_has ls 4 [(0, .ref (lL a)), (1, .ref (aT b1))] := hl
  unfold m_X1_interrupted at h
  refine lv_iconst (v := 0) hx hb dX1_interrupted_0 (by decide) ?_
  refine lv_istore_n (lv' := [(2, .int (0 : Int32)), (0, .ref (lL a)), (1, .ref (aT b1))]) hx hb dX1_interrupted_1 rfl hl (by decide) rfl (fun ls hl => ?_)
  refine lv_iconst (v := 0) hx hb dX1_interrupted_2 (by decide) ?_
  refine lv_istore_n (lv' := [(3, .int (0 : Int32)), (2, .int (0 : Int32)), (0, .ref (lL a)), (1, .ref (aT b1))]) hx hb dX1_interrupted_3 rfl hl (by decide) rfl (fun ls hl => ?_)
  obtain ⟨o1, e501, h⟩ := pb_some h
  refine lp_X1_interrupted_1 hx hb hml hown hts hG hSa hP hvs hO et1 _ _ _ _ _ e501 ls (lv_sub hl [0, 1, 2, 3] rfl) (fun ls hl => ?_)
  refine lv_iload_n hx hb dX1_interrupted_49 rfl (lv_at hl 0 rfl) ?_
  cases h
  exact W.iret hx hb hr (fun t ht hW => c_ret ht) (fun q hq => absurd hq List.not_mem_nil) dX1_interrupted_50
theorem hd_X1_interruptions : yX1_interruptions.cls ≠ "java/lang/invoke/MethodHandle" ∧ yX1_interruptions.cls ≠ "java/lang/invoke/VarHandle" ∧ (parseMethodDescriptor yX1_interruptions.desc).map (fun d => d.parameters.length) = some 2 := by decide +kernel
set_option maxHeartbeats 4000000 in
set_option maxRecDepth 100000 in
theorem lp_X1_interruptions_2 {p : Program} {l : Launch} {e : Env} {s : State} {m : MethodId} {args : Array Value} {below : List Frame} {meth : Method} {c : Code} {Q : State → Prop} {H : Heap} {locs : List Loc} {k : Cx} {a : LA} {T : List TT} {vs : List TV} {pit cor : Nat → Int32} {tol : Int32}  (hx : p.tables.exec = Jvm.exec) (hb : c.code = cX1_interruptions) (hml : c.maxLocals = 7) (hown : s.vm.findClass RX1 = some m.cls) (hts : ∀ w ∈ lw_all, w.before args s = true) (hG : GU k s) (hSa : va_S (Ab k) s.heap H locs) (hP : va_P (kD k) gCl (leW k a T pit cor tol) H) (hvs : T.map Prod.snd = vs) (hO : leOk k a T) {x4 : Int32} {x1 : Int32} {x2 : Int32} (nf : Nat) : ∀ (n : Nat) (y5 : Int32) (y3 : Int32) (z : Int32), m_X1_interruptions_L2 nf vs x4 x1 x2 n y5 y3 = some z → ∀ ls : Array Slot, lv_has ls 7 [(5, .int y5), (3, .int y3), (4, .int x4), (0, .ref (lL a)), (1, .int x1), (2, .int x2)] → (∀ ls : Array Slot, lv_has ls 7 [(3, .int z), (4, .int x4), (0, .ref (lL a)), (1, .int x1), (2, .int x2)] → W p l e ({ frames := 5, cells := 0, slots := 0, locals := 97 } : Room) s m args below meth c H locs 0 0 Q (F0 m 136 ls [])) → W p l e ({ frames := 5, cells := 0, slots := 0, locals := 97 } : Room) s m args below meth c H locs 0 0 Q (F0 m 20 ls []) := by
  intro n
  induction n with
  | zero => intro y5 y3 z h ls hl K; exact absurd h (by simp [m_X1_interruptions_L2])
  | succ n ih =>
    intro y5 y3 z h ls hl K
    unfold m_X1_interruptions_L2 at h
    refine lv_iload hx hb dX1_interruptions_20 (lv_at hl 0 rfl) ?_
    refine lv_aload_n hx hb dX1_interruptions_22 rfl (lv_at hl 3 rfl) ?_
    refine va_get (ci := 1) (v := .ref (lS a)) (C := RX1) (T := TX1) (N := 4) hx hb hts in_X1 hown hG.K (le_o hP) 0 rfl rfl 0 (by decide) (hts _ q151) (fun _ h9 => h9) rfl dX1_interruptions_23 ?_
    refine c_call (va_runV (As := []) (rest := [.int y5]) ⟨hx, hb, hml, hown, hts⟩ (met_X2_size (n := vs.length) (by rw [← hvs]; simp)) (cwV 0 hts (lw_V q243 q244 q245 q68 q246) rfl rfl rfl ⟨rfl, hd_X2_size⟩ ⟨Nat.le_of_ble_eq_true rfl, Nat.le_of_ble_eq_true rfl⟩) (g_preV hG hSa (le_st hP) (va_recv hG.K (le_s hP) (ci := 2) (q0 := 0) rfl rfl)) rfl rfl hl.1 rfl (lv_room (Nat.le_of_ble_eq_true rfl)) dX1_interruptions_26 ⟨Nat.le_of_ble_eq_true rfl, Nat.le_of_ble_eq_true rfl⟩) ?_
    refine lv_icmp_ge (tgt := 136) hx hb dX1_interruptions_29 (by decide) (fun c2 => ?_) (fun c2 => ?_)
    · have h := pi_t c2 h
      cases h
      exact K ls (lv_sub hl [1, 2, 3, 4, 5] rfl)
    · have h := pi_f c2 h
      refine lv_iload_n hx hb dX1_interruptions_32 rfl (lv_at hl 4 rfl) ?_
      refine lv_iconst (v := -1) hx hb dX1_interruptions_33 (by decide) ?_
      obtain ⟨j12, hj, h⟩ := pb_some h
      refine W.cut (g' := F0 m 85 ls [.int (bi j12)]) ?_ (fun K => ?_)
      · refine lv_istore (lv' := [(6, .int (bi j12)), (5, .int y5), (3, .int y3), (4, .int x4), (0, .ref (lL a)), (1, .int x1), (2, .int x2)]) hx hb dX1_interruptions_85 hl (by decide) rfl (fun ls hl => ?_)
        refine lv_iload_n hx hb dX1_interruptions_87 rfl (lv_at hl 2 rfl) ?_
        refine lv_iload hx hb dX1_interruptions_88 (lv_at hl 0 rfl) ?_
        obtain ⟨j19, hj, h⟩ := pb_some h
        refine W.cut (g' := F0 m 128 ls [.int (bi j19), .int y3]) ?_ (fun K => ?_)
        · refine lv_iadd hx hb dX1_interruptions_128 ?_
          refine lv_istore_n (lv' := [(3, .int (y3 + (bi j19))), (6, .int (bi j12)), (5, .int y5), (4, .int x4), (0, .ref (lL a)), (1, .int x1), (2, .int x2)]) hx hb dX1_interruptions_129 rfl hl (by decide) rfl (fun ls hl => ?_)
          refine lv_iinc (v := (y5 + (1 : Int32))) (lv' := [(5, .int (y5 + (1 : Int32))), (3, .int (y3 + (bi j19))), (6, .int (bi j12)), (4, .int x4), (0, .ref (lL a)), (1, .int x1), (2, .int x2)]) hx hb dX1_interruptions_130 hl (k := 2) rfl (by rfl) (by decide) rfl (fun ls hl => ?_)
          refine lv_goto (tgt := 20) hx hb dX1_interruptions_133 (by decide) ?_
          exact ih _ _ _ h ls (lv_sub hl [0, 1, 3, 4, 5, 6] rfl) K
        · have h := hj
          refine lv_if_eq (tgt := 127) hx hb dX1_interruptions_90 (by decide) (fun c13 => ?_) (fun c13 => ?_)
          · have h := pi_t c13 h
            refine lv_iconst (v := 0) hx hb dX1_interruptions_127 (by decide) ?_
            cases h
            exact K
          · have h := pi_f c13 h
            refine lv_aload_n hx hb dX1_interruptions_93 rfl (lv_at hl 4 rfl) ?_
            refine va_get (ci := 1) (v := .ref (lS a)) (C := RX1) (T := TX1) (N := 4) hx hb hts in_X1 hown hG.K (le_o hP) 0 rfl rfl 0 (by decide) (hts _ q151) (fun _ h9 => h9) rfl dX1_interruptions_94 ?_
            refine lv_iload hx hb dX1_interruptions_97 (lv_at hl 3 rfl) ?_
            obtain ⟨v14, e14, h⟩ := pb_some h
            obtain ⟨a14, e14, q14⟩ := pAt_T hvs e14
            refine c_call (va_runV (As := [.int x4]) (rest := [.int y3]) ⟨hx, hb, hml, hown, hts⟩ (met_X2_at (t := (a14, v14)) hO.1 q14) (cwV 1 hts (lw_V q253 q254 q255 q68 q256) rfl rfl rfl ⟨rfl, hd_X2_at⟩ ⟨Nat.le_of_ble_eq_true rfl, Nat.le_of_ble_eq_true rfl⟩) (g_preV hG hSa (va_P.cons (le_t hP e14) (le_st hP)) (va_recv hG.K (le_s hP) (ci := 2) (q0 := 0) rfl rfl)) rfl rfl hl.1 rfl (lv_room (Nat.le_of_ble_eq_true rfl)) dX1_interruptions_99 ⟨Nat.le_of_ble_eq_true rfl, Nat.le_of_ble_eq_true rfl⟩) ?_
            refine va_castS hx hb hown (hts _ q251) (hG.K.1 4 _ rfl).2 (va_recv hG.K (le_t hP e14) (ci := 4) (q0 := 0) rfl rfl) dX1_interruptions_102 ?_
            refine lv_aload_n hx hb dX1_interruptions_105 rfl (lv_at hl 4 rfl) ?_
            refine va_get (ci := 1) (v := .ref (lS a)) (C := RX1) (T := TX1) (N := 4) hx hb hts in_X1 hown hG.K (le_o hP) 0 rfl rfl 0 (by decide) (hts _ q151) (fun _ h9 => h9) rfl dX1_interruptions_106 ?_
            refine lv_iload hx hb dX1_interruptions_109 (lv_at hl 1 rfl) ?_
            obtain ⟨v15, e15, h⟩ := pb_some h
            obtain ⟨a15, e15, q15⟩ := pAt_T hvs e15
            refine c_call (va_runV (As := [.int y5]) (rest := [.ref (aT a14), .int y3]) ⟨hx, hb, hml, hown, hts⟩ (met_X2_at (t := (a15, v15)) hO.1 q15) (cwV 1 hts (lw_V q253 q254 q255 q68 q256) rfl rfl rfl ⟨rfl, hd_X2_at⟩ ⟨Nat.le_of_ble_eq_true rfl, Nat.le_of_ble_eq_true rfl⟩) (g_preV hG hSa (va_P.cons (le_t hP e15) (le_st hP)) (va_recv hG.K (le_s hP) (ci := 2) (q0 := 0) rfl rfl)) rfl rfl hl.1 rfl (lv_room (Nat.le_of_ble_eq_true rfl)) dX1_interruptions_111 ⟨Nat.le_of_ble_eq_true rfl, Nat.le_of_ble_eq_true rfl⟩) ?_
            refine va_castS hx hb hown (hts _ q251) (hG.K.1 4 _ rfl).2 (va_recv hG.K (le_t hP e15) (ci := 4) (q0 := 0) rfl rfl) dX1_interruptions_114 ?_
            obtain ⟨b17, e16, h⟩ := pb_some h
            refine c_call (va_runV (As := [.ref (aT a15)]) (rest := [.int y3]) ⟨hx, hb, hml, hown, hts⟩ (met_X4_breaksInto e16) (cwV 1 hts (lw_V q803 q804 q805 q78 q806) rfl rfl rfl ⟨rfl, hd_X4_breaksInto⟩ ⟨Nat.le_of_ble_eq_true rfl, Nat.le_of_ble_eq_true rfl⟩) (g_preV hG hSa (va_P.cons (le_t hP e14) (le_t hP e15)) (va_recv hG.K (le_t hP e14) (ci := 4) (q0 := 0) rfl rfl)) rfl rfl hl.1 rfl (lv_room (Nat.le_of_ble_eq_true rfl)) dX1_interruptions_117 ⟨Nat.le_of_ble_eq_true rfl, Nat.le_of_ble_eq_true rfl⟩) ?_
            refine lv_if_eq (tgt := 127) hx hb dX1_interruptions_120 (by decide) (fun c18 => ?_) (fun c18 => ?_)
            · have h := pi_t c18 h
              refine lv_iconst (v := 0) hx hb dX1_interruptions_127 (by decide) ?_
              cases h
              exact K
            · have h := pi_f c18 h
              refine lv_iconst (v := 1) hx hb dX1_interruptions_123 (by decide) ?_
              refine lv_goto (tgt := 128) hx hb dX1_interruptions_124 (by decide) ?_
              cases h
              exact K
      · have h := hj
        refine lv_icmp_eq (tgt := 56) hx hb dX1_interruptions_34 (by decide) (fun c3 => ?_) (fun c3 => ?_)
        · have h := pi_t c3 h
          refine lv_iload_n hx hb dX1_interruptions_56 rfl (lv_at hl 5 rfl) ?_
          refine lv_iconst (v := -1) hx hb dX1_interruptions_57 (by decide) ?_
          refine lv_icmp_eq (tgt := 80) hx hb dX1_interruptions_58 (by decide) (fun c4 => ?_) (fun c4 => ?_)
          · have h := pi_t c4 h
            refine lv_iconst (v := 1) hx hb dX1_interruptions_80 (by decide) ?_
            refine lv_goto (tgt := 85) hx hb dX1_interruptions_81 (by decide) ?_
            cases h
            exact K
          · have h := pi_f c4 h
            refine lv_aload_n hx hb dX1_interruptions_61 rfl (lv_at hl 3 rfl) ?_
            refine va_get (ci := 1) (v := .ref (lS a)) (C := RX1) (T := TX1) (N := 4) hx hb hts in_X1 hown hG.K (le_o hP) 0 rfl rfl 0 (by decide) (hts _ q151) (fun _ h9 => h9) rfl dX1_interruptions_62 ?_
            refine lv_iload hx hb dX1_interruptions_65 (lv_at hl 0 rfl) ?_
            obtain ⟨v5, e5, h⟩ := pb_some h
            obtain ⟨a5, e5, q5⟩ := pAt_T hvs e5
            refine c_call (va_runV (As := [.int y5]) (rest := []) ⟨hx, hb, hml, hown, hts⟩ (met_X2_at (t := (a5, v5)) hO.1 q5) (cwV 1 hts (lw_V q253 q254 q255 q68 q256) rfl rfl rfl ⟨rfl, hd_X2_at⟩ ⟨Nat.le_of_ble_eq_true rfl, Nat.le_of_ble_eq_true rfl⟩) (g_preV hG hSa (va_P.cons (le_t hP e5) (le_st hP)) (va_recv hG.K (le_s hP) (ci := 2) (q0 := 0) rfl rfl)) rfl rfl hl.1 rfl (lv_room (Nat.le_of_ble_eq_true rfl)) dX1_interruptions_67 ⟨Nat.le_of_ble_eq_true rfl, Nat.le_of_ble_eq_true rfl⟩) ?_
            refine va_castS hx hb hown (hts _ q251) (hG.K.1 4 _ rfl).2 (va_recv hG.K (le_t hP e5) (ci := 4) (q0 := 0) rfl rfl) dX1_interruptions_70 ?_
            refine va_getN (ci := 4) (v := .int (vS v5)) (C := RX4) (T := TX4) (N := 5) hx hb hts in_X4 hown hG.K (le_t hP e5) 0 rfl rfl 3 (by decide) (nf_LectureTurns_Lecture_81 hG) (fun _ h9 => h9) rfl dX1_interruptions_73 ?_
            refine lv_iload_n hx hb dX1_interruptions_76 rfl (lv_at hl 5 rfl) ?_
            refine lv_icmp_ne (tgt := 84) hx hb dX1_interruptions_77 (by decide) (fun c6 => ?_) (fun c6 => ?_)
            · have h := pi_f c6 h
              refine lv_iconst (v := 0) hx hb dX1_interruptions_84 (by decide) ?_
              cases h
              exact K
            · have h := pi_t c6 h
              refine lv_iconst (v := 1) hx hb dX1_interruptions_80 (by decide) ?_
              refine lv_goto (tgt := 85) hx hb dX1_interruptions_81 (by decide) ?_
              cases h
              exact K
        · have h := pi_f c3 h
          refine lv_aload_n hx hb dX1_interruptions_37 rfl (lv_at hl 3 rfl) ?_
          refine va_get (ci := 1) (v := .ref (lS a)) (C := RX1) (T := TX1) (N := 4) hx hb hts in_X1 hown hG.K (le_o hP) 0 rfl rfl 0 (by decide) (hts _ q151) (fun _ h9 => h9) rfl dX1_interruptions_38 ?_
          refine lv_iload hx hb dX1_interruptions_41 (lv_at hl 2 rfl) ?_
          obtain ⟨v7, e7, h⟩ := pb_some h
          obtain ⟨a7, e7, q7⟩ := pAt_T hvs e7
          refine c_call (va_runV (As := [.int x4]) (rest := []) ⟨hx, hb, hml, hown, hts⟩ (met_X2_at (t := (a7, v7)) hO.1 q7) (cwV 1 hts (lw_V q253 q254 q255 q68 q256) rfl rfl rfl ⟨rfl, hd_X2_at⟩ ⟨Nat.le_of_ble_eq_true rfl, Nat.le_of_ble_eq_true rfl⟩) (g_preV hG hSa (va_P.cons (le_t hP e7) (le_st hP)) (va_recv hG.K (le_s hP) (ci := 2) (q0 := 0) rfl rfl)) rfl rfl hl.1 rfl (lv_room (Nat.le_of_ble_eq_true rfl)) dX1_interruptions_43 ⟨Nat.le_of_ble_eq_true rfl, Nat.le_of_ble_eq_true rfl⟩) ?_
          refine va_castS hx hb hown (hts _ q251) (hG.K.1 4 _ rfl).2 (va_recv hG.K (le_t hP e7) (ci := 4) (q0 := 0) rfl rfl) dX1_interruptions_46 ?_
          refine va_getN (ci := 4) (v := .int (vS v7)) (C := RX4) (T := TX4) (N := 5) hx hb hts in_X4 hown hG.K (le_t hP e7) 0 rfl rfl 3 (by decide) (nf_LectureTurns_Lecture_81 hG) (fun _ h9 => h9) rfl dX1_interruptions_49 ?_
          refine lv_iload_n hx hb dX1_interruptions_52 rfl (lv_at hl 4 rfl) ?_
          refine lv_icmp_ne (tgt := 84) hx hb dX1_interruptions_53 (by decide) (fun c8 => ?_) (fun c8 => ?_)
          · have h := pi_f c8 h
            refine lv_iconst (v := 0) hx hb dX1_interruptions_84 (by decide) ?_
            cases h
            exact K
          · have h := pi_t c8 h
            refine lv_iload_n hx hb dX1_interruptions_56 rfl (lv_at hl 5 rfl) ?_
            refine lv_iconst (v := -1) hx hb dX1_interruptions_57 (by decide) ?_
            refine lv_icmp_eq (tgt := 80) hx hb dX1_interruptions_58 (by decide) (fun c9 => ?_) (fun c9 => ?_)
            · have h := pi_t c9 h
              refine lv_iconst (v := 1) hx hb dX1_interruptions_80 (by decide) ?_
              refine lv_goto (tgt := 85) hx hb dX1_interruptions_81 (by decide) ?_
              cases h
              exact K
            · have h := pi_f c9 h
              refine lv_aload_n hx hb dX1_interruptions_61 rfl (lv_at hl 3 rfl) ?_
              refine va_get (ci := 1) (v := .ref (lS a)) (C := RX1) (T := TX1) (N := 4) hx hb hts in_X1 hown hG.K (le_o hP) 0 rfl rfl 0 (by decide) (hts _ q151) (fun _ h9 => h9) rfl dX1_interruptions_62 ?_
              refine lv_iload hx hb dX1_interruptions_65 (lv_at hl 0 rfl) ?_
              obtain ⟨v10, e10, h⟩ := pb_some h
              obtain ⟨a10, e10, q10⟩ := pAt_T hvs e10
              refine c_call (va_runV (As := [.int y5]) (rest := []) ⟨hx, hb, hml, hown, hts⟩ (met_X2_at (t := (a10, v10)) hO.1 q10) (cwV 1 hts (lw_V q253 q254 q255 q68 q256) rfl rfl rfl ⟨rfl, hd_X2_at⟩ ⟨Nat.le_of_ble_eq_true rfl, Nat.le_of_ble_eq_true rfl⟩) (g_preV hG hSa (va_P.cons (le_t hP e10) (le_st hP)) (va_recv hG.K (le_s hP) (ci := 2) (q0 := 0) rfl rfl)) rfl rfl hl.1 rfl (lv_room (Nat.le_of_ble_eq_true rfl)) dX1_interruptions_67 ⟨Nat.le_of_ble_eq_true rfl, Nat.le_of_ble_eq_true rfl⟩) ?_
              refine va_castS hx hb hown (hts _ q251) (hG.K.1 4 _ rfl).2 (va_recv hG.K (le_t hP e10) (ci := 4) (q0 := 0) rfl rfl) dX1_interruptions_70 ?_
              refine va_getN (ci := 4) (v := .int (vS v10)) (C := RX4) (T := TX4) (N := 5) hx hb hts in_X4 hown hG.K (le_t hP e10) 0 rfl rfl 3 (by decide) (nf_LectureTurns_Lecture_81 hG) (fun _ h9 => h9) rfl dX1_interruptions_73 ?_
              refine lv_iload_n hx hb dX1_interruptions_76 rfl (lv_at hl 5 rfl) ?_
              refine lv_icmp_ne (tgt := 84) hx hb dX1_interruptions_77 (by decide) (fun c11 => ?_) (fun c11 => ?_)
              · have h := pi_f c11 h
                refine lv_iconst (v := 0) hx hb dX1_interruptions_84 (by decide) ?_
                cases h
                exact K
              · have h := pi_t c11 h
                refine lv_iconst (v := 1) hx hb dX1_interruptions_80 (by decide) ?_
                refine lv_goto (tgt := 85) hx hb dX1_interruptions_81 (by decide) ?_
                cases h
                exact K
set_option maxHeartbeats 4000000 in
set_option maxRecDepth 100000 in
theorem lp_X1_interruptions_1 {p : Program} {l : Launch} {e : Env} {s : State} {m : MethodId} {args : Array Value} {below : List Frame} {meth : Method} {c : Code} {Q : State → Prop} {H : Heap} {locs : List Loc} {k : Cx} {a : LA} {T : List TT} {vs : List TV} {pit cor : Nat → Int32} {tol : Int32}  (hx : p.tables.exec = Jvm.exec) (hb : c.code = cX1_interruptions) (hml : c.maxLocals = 7) (hown : s.vm.findClass RX1 = some m.cls) (hts : ∀ w ∈ lw_all, w.before args s = true) (hG : GU k s) (hSa : va_S (Ab k) s.heap H locs) (hP : va_P (kD k) gCl (leW k a T pit cor tol) H) (hvs : T.map Prod.snd = vs) (hO : leOk k a T) {x1 : Int32} {x2 : Int32} (nf : Nat) : ∀ (n : Nat) (y4 : Int32) (y3 : Int32) (z : Int32), m_X1_interruptions_L1 nf vs x1 x2 n y4 y3 = some z → ∀ ls : Array Slot, lv_has ls 7 [(4, .int y4), (3, .int y3), (0, .ref (lL a)), (1, .int x1), (2, .int x2)] → (∀ ls : Array Slot, lv_has ls 7 [(3, .int z), (0, .ref (lL a)), (1, .int x1), (2, .int x2)] → W p l e ({ frames := 5, cells := 0, slots := 0, locals := 97 } : Room) s m args below meth c H locs 0 0 Q (F0 m 142 ls [])) → W p l e ({ frames := 5, cells := 0, slots := 0, locals := 97 } : Room) s m args below meth c H locs 0 0 Q (F0 m 5 ls []) := by
  intro n
  induction n with
  | zero => intro y4 y3 z h ls hl K; exact absurd h (by simp [m_X1_interruptions_L1])
  | succ n ih =>
    intro y4 y3 z h ls hl K
    unfold m_X1_interruptions_L1 at h
    refine lv_iload hx hb dX1_interruptions_5 (lv_at hl 0 rfl) ?_
    refine lv_aload_n hx hb dX1_interruptions_7 rfl (lv_at hl 2 rfl) ?_
    refine va_get (ci := 1) (v := .ref (lS a)) (C := RX1) (T := TX1) (N := 4) hx hb hts in_X1 hown hG.K (le_o hP) 0 rfl rfl 0 (by decide) (hts _ q151) (fun _ h9 => h9) rfl dX1_interruptions_8 ?_
    refine c_call (va_runV (As := []) (rest := [.int y4]) ⟨hx, hb, hml, hown, hts⟩ (met_X2_size (n := vs.length) (by rw [← hvs]; simp)) (cwV 0 hts (lw_V q243 q244 q245 q68 q246) rfl rfl rfl ⟨rfl, hd_X2_size⟩ ⟨Nat.le_of_ble_eq_true rfl, Nat.le_of_ble_eq_true rfl⟩) (g_preV hG hSa (le_st hP) (va_recv hG.K (le_s hP) (ci := 2) (q0 := 0) rfl rfl)) rfl rfl hl.1 rfl (lv_room (Nat.le_of_ble_eq_true rfl)) dX1_interruptions_11 ⟨Nat.le_of_ble_eq_true rfl, Nat.le_of_ble_eq_true rfl⟩) ?_
    refine lv_icmp_ge (tgt := 142) hx hb dX1_interruptions_14 (by decide) (fun c2 => ?_) (fun c2 => ?_)
    · have h := pi_t c2 h
      cases h
      exact K ls (lv_sub hl [1, 2, 3, 4] rfl)
    · have h := pi_f c2 h
      refine lv_iconst (v := 0) hx hb dX1_interruptions_17 (by decide) ?_
      refine lv_istore (lv' := [(5, .int (0 : Int32)), (4, .int y4), (3, .int y3), (0, .ref (lL a)), (1, .int x1), (2, .int x2)]) hx hb dX1_interruptions_18 hl (by decide) rfl (fun ls hl => ?_)
      obtain ⟨o3, e501, h⟩ := pb_some h
      refine lp_X1_interruptions_2 hx hb hml hown hts hG hSa hP hvs hO _ _ _ _ _ e501 ls (lv_sub hl [0, 2, 1, 3, 4, 5] rfl) (fun ls hl => ?_)
      refine lv_iinc (v := (y4 + (1 : Int32))) (lv' := [(4, .int (y4 + (1 : Int32))), (3, .int o3), (0, .ref (lL a)), (1, .int x1), (2, .int x2)]) hx hb dX1_interruptions_136 hl (k := 1) rfl (by rfl) (by decide) rfl (fun ls hl => ?_)
      refine lv_goto (tgt := 5) hx hb dX1_interruptions_139 (by decide) ?_
      exact ih _ _ _ h ls (lv_sub hl [0, 1, 2, 3, 4] rfl) K
set_option maxHeartbeats 4000000 in
set_option maxRecDepth 100000 in
theorem met_X1_interruptions {l : Launch} {k : Cx} {a : LA} {T : List TT} {vs : List TV} {pit cor : Nat → Int32} {tol : Int32} {nf : Nat} {x1 : Int32} {x2 : Int32} {r : Int32} (hvs : T.map Prod.snd = vs) (hO : leOk k a T) (h : m_X1_interruptions nf vs  x1 x2 = some r) : Met l yX1_interruptions (ws_ yX1_interruptions cX1_interruptions 7 (some .int)) ({ frames := 5, cells := 0, slots := 0, locals := 97 } : Room) (gPc [.ref (lL a), .int x1, .int x2] k (leW k a T pit cor tol)) (QcV (some (.int r))) 0 0 (fun _ => False) := by
  refine Met.ofW (cc := cX1_interruptions) (maxL := 7) (ret := (some .int)) (by decide) rfl ?_
  intro p e s m args below meth c s₁ B hml hv
  obtain ⟨rfl, hP, hG⟩ := hv
  have hx := B.exec
  have hb := B.bytes
  have hr := B.returns
  have hts := atoms_spec (ws := ws_ yX1_interruptions cX1_interruptions 7 (some .int)) B.pre
  have hts : ∀ w ∈ lw_all, w.before _ s = true := fun w h => hts w (List.mem_cons_of_mem _ h)
  have hown : s.vm.findClass RX1 = some m.cls := findClass_of_methodNamed B.named
  have hlocks := B.notSynchronized
  have hSa : va_S (Ab k) s.heap s.heap [] := va_S.rf
  have hl := lv_entry ([.ref (lL a), .int x1, .int x2]) (n := 7) (Nat.le_of_ble_eq_true rfl)
  rw [lg_entry_eq]
  generalize (lg_sl ([.ref (lL a), .int x1, .int x2]) ++ List.replicate (7 - (lg_sl ([.ref (lL a), .int x1, .int x2])).length) Slot.unset).toArray = ls at hl ⊢
  have hl : lv_has ls 7 [(0, .ref (lL a)), (1, .int x1), (2, .int x2)] := hl
  unfold m_X1_interruptions at h
  refine lv_iconst (v := 0) hx hb dX1_interruptions_0 (by decide) ?_
  refine lv_istore_n (lv' := [(3, .int (0 : Int32)), (0, .ref (lL a)), (1, .int x1), (2, .int x2)]) hx hb dX1_interruptions_1 rfl hl (by decide) rfl (fun ls hl => ?_)
  refine lv_iconst (v := 0) hx hb dX1_interruptions_2 (by decide) ?_
  refine lv_istore (lv' := [(4, .int (0 : Int32)), (3, .int (0 : Int32)), (0, .ref (lL a)), (1, .int x1), (2, .int x2)]) hx hb dX1_interruptions_3 hl (by decide) rfl (fun ls hl => ?_)
  obtain ⟨o1, e501, h⟩ := pb_some h
  refine lp_X1_interruptions_1 hx hb hml hown hts hG hSa hP hvs hO _ _ _ _ _ e501 ls (lv_sub hl [0, 1, 2, 3, 4] rfl) (fun ls hl => ?_)
  refine lv_iload_n hx hb dX1_interruptions_142 rfl (lv_at hl 0 rfl) ?_
  cases h
  exact W.iret hx hb hr (fun t ht hW => c_ret ht) (fun q hq => absurd hq List.not_mem_nil) dX1_interruptions_143
theorem hd_X1_lastEnd : yX1_lastEnd.cls ≠ "java/lang/invoke/MethodHandle" ∧ yX1_lastEnd.cls ≠ "java/lang/invoke/VarHandle" ∧ (parseMethodDescriptor yX1_lastEnd.desc).map (fun d => d.parameters.length) = some 0 := by decide +kernel
set_option maxHeartbeats 4000000 in
set_option maxRecDepth 100000 in
theorem lp_X1_lastEnd_1 {p : Program} {l : Launch} {e : Env} {s : State} {m : MethodId} {args : Array Value} {below : List Frame} {meth : Method} {c : Code} {Q : State → Prop} {H : Heap} {locs : List Loc} {k : Cx} {a : LA} {T : List TT} {vs : List TV} {pit cor : Nat → Int32} {tol : Int32}  (hx : p.tables.exec = Jvm.exec) (hb : c.code = cX1_lastEnd) (hml : c.maxLocals = 3) (hown : s.vm.findClass RX1 = some m.cls) (hts : ∀ w ∈ lw_all, w.before args s = true) (hG : GU k s) (hSa : va_S (Ab k) s.heap H locs) (hP : va_P (kD k) gCl (leW k a T pit cor tol) H) (hvs : T.map Prod.snd = vs) (hO : leOk k a T)  (nf : Nat) : ∀ (n : Nat) (y2 : Int32) (y1 : Int32) (z : Int32), m_X1_lastEnd_L1 nf vs n y2 y1 = some z → ∀ ls : Array Slot, lv_has ls 3 [(2, .int y2), (1, .int y1), (0, .ref (lL a))] → (∀ ls : Array Slot, lv_has ls 3 [(1, .int z), (0, .ref (lL a))] → W p l e ({ frames := 5, cells := 0, slots := 0, locals := 97 } : Room) s m args below meth c H locs 0 0 Q (F0 m 40 ls [])) → W p l e ({ frames := 5, cells := 0, slots := 0, locals := 97 } : Room) s m args below meth c H locs 0 0 Q (F0 m 4 ls []) := by
  intro n
  induction n with
  | zero => intro y2 y1 z h ls hl K; exact absurd h (by simp [m_X1_lastEnd_L1])
  | succ n ih =>
    intro y2 y1 z h ls hl K
    unfold m_X1_lastEnd_L1 at h
    refine lv_iload_n hx hb dX1_lastEnd_4 rfl (lv_at hl 0 rfl) ?_
    refine lv_aload_n hx hb dX1_lastEnd_5 rfl (lv_at hl 2 rfl) ?_
    refine va_get (ci := 1) (v := .ref (lS a)) (C := RX1) (T := TX1) (N := 4) hx hb hts in_X1 hown hG.K (le_o hP) 0 rfl rfl 0 (by decide) (hts _ q151) (fun _ h9 => h9) rfl dX1_lastEnd_6 ?_
    refine c_call (va_runV (As := []) (rest := [.int y2]) ⟨hx, hb, hml, hown, hts⟩ (met_X2_size (n := vs.length) (by rw [← hvs]; simp)) (cwV 0 hts (lw_V q243 q244 q245 q68 q246) rfl rfl rfl ⟨rfl, hd_X2_size⟩ ⟨Nat.le_of_ble_eq_true rfl, Nat.le_of_ble_eq_true rfl⟩) (g_preV hG hSa (le_st hP) (va_recv hG.K (le_s hP) (ci := 2) (q0 := 0) rfl rfl)) rfl rfl hl.1 rfl (lv_room (Nat.le_of_ble_eq_true rfl)) dX1_lastEnd_9 ⟨Nat.le_of_ble_eq_true rfl, Nat.le_of_ble_eq_true rfl⟩) ?_
    refine lv_icmp_ge (tgt := 40) hx hb dX1_lastEnd_12 (by decide) (fun c2 => ?_) (fun c2 => ?_)
    · have h := pi_t c2 h
      cases h
      exact K ls (lv_sub hl [1, 2] rfl)
    · have h := pi_f c2 h
      refine lv_iload_n hx hb dX1_lastEnd_15 rfl (lv_at hl 1 rfl) ?_
      refine lv_aload_n hx hb dX1_lastEnd_16 rfl (lv_at hl 2 rfl) ?_
      refine va_get (ci := 1) (v := .ref (lS a)) (C := RX1) (T := TX1) (N := 4) hx hb hts in_X1 hown hG.K (le_o hP) 0 rfl rfl 0 (by decide) (hts _ q151) (fun _ h9 => h9) rfl dX1_lastEnd_17 ?_
      refine lv_iload_n hx hb dX1_lastEnd_20 rfl (lv_at hl 0 rfl) ?_
      obtain ⟨v3, e3, h⟩ := pb_some h
      obtain ⟨a3, e3, q3⟩ := pAt_T hvs e3
      refine c_call (va_runV (As := [.int y2]) (rest := [.int y1]) ⟨hx, hb, hml, hown, hts⟩ (met_X2_at (t := (a3, v3)) hO.1 q3) (cwV 1 hts (lw_V q253 q254 q255 q68 q256) rfl rfl rfl ⟨rfl, hd_X2_at⟩ ⟨Nat.le_of_ble_eq_true rfl, Nat.le_of_ble_eq_true rfl⟩) (g_preV hG hSa (va_P.cons (le_t hP e3) (le_st hP)) (va_recv hG.K (le_s hP) (ci := 2) (q0 := 0) rfl rfl)) rfl rfl hl.1 rfl (lv_room (Nat.le_of_ble_eq_true rfl)) dX1_lastEnd_21 ⟨Nat.le_of_ble_eq_true rfl, Nat.le_of_ble_eq_true rfl⟩) ?_
      refine va_castS hx hb hown (hts _ q251) (hG.K.1 4 _ rfl).2 (va_recv hG.K (le_t hP e3) (ci := 4) (q0 := 0) rfl rfl) dX1_lastEnd_24 ?_
      refine va_getN (ci := 4) (v := .int (vE v3)) (C := RX4) (T := TX4) (N := 5) hx hb hts in_X4 hown hG.K (le_t hP e3) 0 rfl rfl 1 (by decide) (nf_LectureTurns_Lecture_111 hG) (fun _ h9 => h9) rfl dX1_lastEnd_27 ?_
      refine va_mmax hx hb (hml.trans hl.1.symm) hown (hts _ q928) (hts _ q374) (hts _ q83) (hts _ q375) (Nat.le_of_ble_eq_true rfl) (Nat.le_of_ble_eq_true rfl) (Nat.le_of_ble_eq_true rfl) (Nat.le_of_ble_eq_true rfl) dX1_lastEnd_30 ?_
      refine lv_istore_n (lv' := [(1, .int (if y1 < (vE v3) then (vE v3) else y1)), (2, .int y2), (0, .ref (lL a))]) hx hb dX1_lastEnd_33 rfl hl (by decide) rfl (fun ls hl => ?_)
      refine lv_iinc (v := (y2 + (1 : Int32))) (lv' := [(2, .int (y2 + (1 : Int32))), (1, .int (if y1 < (vE v3) then (vE v3) else y1)), (0, .ref (lL a))]) hx hb dX1_lastEnd_34 hl (k := 1) rfl (by rfl) (by decide) rfl (fun ls hl => ?_)
      refine lv_goto (tgt := 4) hx hb dX1_lastEnd_37 (by decide) ?_
      exact ih _ _ _ h ls (lv_sub hl [0, 1, 2] rfl) K
set_option maxHeartbeats 4000000 in
set_option maxRecDepth 100000 in
theorem met_X1_lastEnd {l : Launch} {k : Cx} {a : LA} {T : List TT} {vs : List TV} {pit cor : Nat → Int32} {tol : Int32} {nf : Nat} {r : Int32} (hvs : T.map Prod.snd = vs) (hO : leOk k a T) (h : m_X1_lastEnd nf vs   = some r) : Met l yX1_lastEnd (ws_ yX1_lastEnd cX1_lastEnd 3 (some .int)) ({ frames := 5, cells := 0, slots := 0, locals := 97 } : Room) (gPc [.ref (lL a)] k (leW k a T pit cor tol)) (QcV (some (.int r))) 0 0 (fun _ => False) := by
  refine Met.ofW (cc := cX1_lastEnd) (maxL := 3) (ret := (some .int)) (by decide) rfl ?_
  intro p e s m args below meth c s₁ B hml hv
  obtain ⟨rfl, hP, hG⟩ := hv
  have hx := B.exec
  have hb := B.bytes
  have hr := B.returns
  have hts := atoms_spec (ws := ws_ yX1_lastEnd cX1_lastEnd 3 (some .int)) B.pre
  have hts : ∀ w ∈ lw_all, w.before _ s = true := fun w h => hts w (List.mem_cons_of_mem _ h)
  have hown : s.vm.findClass RX1 = some m.cls := findClass_of_methodNamed B.named
  have hlocks := B.notSynchronized
  have hSa : va_S (Ab k) s.heap s.heap [] := va_S.rf
  have hl := lv_entry ([.ref (lL a)]) (n := 3) (Nat.le_of_ble_eq_true rfl)
  rw [lg_entry_eq]
  generalize (lg_sl ([.ref (lL a)]) ++ List.replicate (3 - (lg_sl ([.ref (lL a)])).length) Slot.unset).toArray = ls at hl ⊢
  have hl : lv_has ls 3 [(0, .ref (lL a))] := hl
  unfold m_X1_lastEnd at h
  refine lv_iconst (v := 0) hx hb dX1_lastEnd_0 (by decide) ?_
  refine lv_istore_n (lv' := [(1, .int (0 : Int32)), (0, .ref (lL a))]) hx hb dX1_lastEnd_1 rfl hl (by decide) rfl (fun ls hl => ?_)
  refine lv_iconst (v := 0) hx hb dX1_lastEnd_2 (by decide) ?_
  refine lv_istore_n (lv' := [(2, .int (0 : Int32)), (1, .int (0 : Int32)), (0, .ref (lL a))]) hx hb dX1_lastEnd_3 rfl hl (by decide) rfl (fun ls hl => ?_)
  obtain ⟨o1, e501, h⟩ := pb_some h
  refine lp_X1_lastEnd_1 hx hb hml hown hts hG hSa hP hvs hO _ _ _ _ _ e501 ls (lv_sub hl [0, 1, 2] rfl) (fun ls hl => ?_)
  refine lv_iload_n hx hb dX1_lastEnd_40 rfl (lv_at hl 0 rfl) ?_
  cases h
  exact W.iret hx hb hr (fun t ht hW => c_ret ht) (fun q hq => absurd hq List.not_mem_nil) dX1_lastEnd_41
theorem hd_X0_interrupts : yX0_interrupts.cls ≠ "java/lang/invoke/MethodHandle" ∧ yX0_interrupts.cls ≠ "java/lang/invoke/VarHandle" ∧ (parseMethodDescriptor yX0_interrupts.desc).map (fun d => d.parameters.length) = some 2 := by decide +kernel
set_option maxHeartbeats 4000000 in
set_option maxRecDepth 100000 in
theorem met_X0_interrupts {l : Launch} {k : Cx} {a : LA} {T : List TT} {vs : List TV} {pit cor : Nat → Int32} {tol : Int32} {sy hi tx : Nat} {nf : Nat} {x1 : Int32} {x2 : Int32} {r : Int32} (hvs : T.map Prod.snd = vs) (hO : leOk k a T) (h : m_X0_interrupts nf vs pit  x1 x2 = some r) : Met l yX0_interrupts (ws_ yX0_interrupts cX0_interrupts 4 (some .int)) ({ frames := 6, cells := 0, slots := 0, locals := 123 } : Room) (gPc [.ref sy, .int x1, .int x2] k (syO sy a hi tx :: leW k a T pit cor tol)) (QcV (some (.int r))) 0 0 (fun _ => False) := by
  refine Met.ofW (cc := cX0_interrupts) (maxL := 4) (ret := (some .int)) (by decide) rfl ?_
  intro p e s m args below meth c s₁ B hml hv
  obtain ⟨rfl, hP, hG⟩ := hv
  have hx := B.exec
  have hb := B.bytes
  have hr := B.returns
  have hts := atoms_spec (ws := ws_ yX0_interrupts cX0_interrupts 4 (some .int)) B.pre
  have hts : ∀ w ∈ lw_all, w.before _ s = true := fun w h => hts w (List.mem_cons_of_mem _ h)
  have hown : s.vm.findClass RX0 = some m.cls := findClass_of_methodNamed B.named
  have hlocks := B.notSynchronized
  have hSa : va_S (Ab k) s.heap s.heap [] := va_S.rf
  have hl := lv_entry ([.ref sy, .int x1, .int x2]) (n := 4) (Nat.le_of_ble_eq_true rfl)
  rw [lg_entry_eq]
  generalize (lg_sl ([.ref sy, .int x1, .int x2]) ++ List.replicate (4 - (lg_sl ([.ref sy, .int x1, .int x2])).length) Slot.unset).toArray = ls at hl ⊢
  have hl : lv_has ls 4 [(0, .ref sy), (1, .int x1), (2, .int x2)] := hl
  unfold m_X0_interrupts at h
  refine lv_aload_n hx hb dX0_interrupts_0 rfl (lv_at hl 0 rfl) ?_
  refine va_get (ci := 0) (v := .ref (lL a)) (C := RX0) (T := TX0) (N := 3) hx hb hts in_X0 hown hG.K (sy_o hP) 0 rfl rfl 0 (by decide) (hts _ q220) (fun _ h9 => h9) rfl dX0_interrupts_1 ?_
  refine lv_iload_n hx hb dX0_interrupts_4 rfl (lv_at hl 1 rfl) ?_
  obtain ⟨b2, e1, h⟩ := pb_some h
  refine c_call (va_runV (As := [.int x1]) (rest := []) ⟨hx, hb, hml, hown, hts⟩ (met_X1_isSpeaker hvs hO  e1) (cwV 1 hts (lw_V q862 q660 q661 q67 q662) rfl rfl rfl ⟨rfl, hd_X1_isSpeaker⟩ ⟨Nat.le_of_ble_eq_true rfl, Nat.le_of_ble_eq_true rfl⟩) (g_preV hG hSa (sy_l hP) (va_recv hG.K (le_o (sy_l hP)) (ci := 1) (q0 := 0) rfl rfl)) rfl rfl hl.1 rfl (lv_room (Nat.le_of_ble_eq_true rfl)) dX0_interrupts_5 ⟨Nat.le_of_ble_eq_true rfl, Nat.le_of_ble_eq_true rfl⟩) ?_
  obtain ⟨j8, hj, h⟩ := pb_some h
  refine W.cut (g' := F0 m 32 ls [.int (bi j8)]) ?_ (fun K => ?_)
  · refine lv_istore_n (lv' := [(3, .int (bi j8)), (0, .ref sy), (1, .int x1), (2, .int x2)]) hx hb dX0_interrupts_32 rfl hl (by decide) rfl (fun ls hl => ?_)
    refine lv_iload_n hx hb dX0_interrupts_33 rfl (lv_at hl 0 rfl) ?_
    refine lv_if_eq (tgt := 49) hx hb dX0_interrupts_34 (by decide) (fun c9 => ?_) (fun c9 => ?_)
    · have h := pi_t c9 h
      refine lv_ldc hx hb hown (hts _ q758) dX0_interrupts_49 ?_
      cases h
      exact W.iret hx hb hr (fun t ht hW => c_ret ht) (fun q hq => absurd hq List.not_mem_nil) dX0_interrupts_51
    · have h := pi_f c9 h
      refine lv_aload_n hx hb dX0_interrupts_37 rfl (lv_at hl 1 rfl) ?_
      refine va_get (ci := 0) (v := .ref (lL a)) (C := RX0) (T := TX0) (N := 3) hx hb hts in_X0 hown hG.K (sy_o hP) 0 rfl rfl 0 (by decide) (hts _ q220) (fun _ h9 => h9) rfl dX0_interrupts_38 ?_
      refine lv_iload_n hx hb dX0_interrupts_41 rfl (lv_at hl 2 rfl) ?_
      refine lv_iload_n hx hb dX0_interrupts_42 rfl (lv_at hl 3 rfl) ?_
      obtain ⟨r11, e10, h⟩ := pb_some h
      refine c_call (va_runV (As := [.int x1, .int x2]) (rest := []) ⟨hx, hb, hml, hown, hts⟩ (met_X1_interruptions hvs hO  e10) (cwV 2 hts (lw_V q872 q873 q874 q67 q875) rfl rfl rfl ⟨rfl, hd_X1_interruptions⟩ ⟨Nat.le_of_ble_eq_true rfl, Nat.le_of_ble_eq_true rfl⟩) (g_preV hG hSa (sy_l hP) (va_recv hG.K (le_o (sy_l hP)) (ci := 1) (q0 := 0) rfl rfl)) rfl rfl hl.1 rfl (lv_room (Nat.le_of_ble_eq_true rfl)) dX0_interrupts_43 ⟨Nat.le_of_ble_eq_true rfl, Nat.le_of_ble_eq_true rfl⟩) ?_
      refine lv_goto (tgt := 51) hx hb dX0_interrupts_46 (by decide) ?_
      cases h
      exact W.iret hx hb hr (fun t ht hW => c_ret ht) (fun q hq => absurd hq List.not_mem_nil) dX0_interrupts_51
  · have h := hj
    refine lv_if_eq (tgt := 31) hx hb dX0_interrupts_8 (by decide) (fun c3 => ?_) (fun c3 => ?_)
    · have h := pi_t c3 h
      refine lv_iconst (v := 0) hx hb dX0_interrupts_31 (by decide) ?_
      cases h
      exact K
    · have h := pi_f c3 h
      refine lv_aload_n hx hb dX0_interrupts_11 rfl (lv_at hl 0 rfl) ?_
      refine va_get (ci := 0) (v := .ref (lL a)) (C := RX0) (T := TX0) (N := 3) hx hb hts in_X0 hown hG.K (sy_o hP) 0 rfl rfl 0 (by decide) (hts _ q220) (fun _ h9 => h9) rfl dX0_interrupts_12 ?_
      refine lv_iload_n hx hb dX0_interrupts_15 rfl (lv_at hl 2 rfl) ?_
      obtain ⟨b5, e4, h⟩ := pb_some h
      refine c_call (va_runV (As := [.int x2]) (rest := []) ⟨hx, hb, hml, hown, hts⟩ (met_X1_isSpeaker hvs hO  e4) (cwV 1 hts (lw_V q862 q660 q661 q67 q662) rfl rfl rfl ⟨rfl, hd_X1_isSpeaker⟩ ⟨Nat.le_of_ble_eq_true rfl, Nat.le_of_ble_eq_true rfl⟩) (g_preV hG hSa (sy_l hP) (va_recv hG.K (le_o (sy_l hP)) (ci := 1) (q0 := 0) rfl rfl)) rfl rfl hl.1 rfl (lv_room (Nat.le_of_ble_eq_true rfl)) dX0_interrupts_16 ⟨Nat.le_of_ble_eq_true rfl, Nat.le_of_ble_eq_true rfl⟩) ?_
      refine lv_if_eq (tgt := 31) hx hb dX0_interrupts_19 (by decide) (fun c6 => ?_) (fun c6 => ?_)
      · have h := pi_t c6 h
        refine lv_iconst (v := 0) hx hb dX0_interrupts_31 (by decide) ?_
        cases h
        exact K
      · have h := pi_f c6 h
        refine lv_iload_n hx hb dX0_interrupts_22 rfl (lv_at hl 1 rfl) ?_
        refine lv_iload_n hx hb dX0_interrupts_23 rfl (lv_at hl 2 rfl) ?_
        refine lv_icmp_eq (tgt := 31) hx hb dX0_interrupts_24 (by decide) (fun c7 => ?_) (fun c7 => ?_)
        · have h := pi_t c7 h
          refine lv_iconst (v := 0) hx hb dX0_interrupts_31 (by decide) ?_
          cases h
          exact K
        · have h := pi_f c7 h
          refine lv_iconst (v := 1) hx hb dX0_interrupts_27 (by decide) ?_
          refine lv_goto (tgt := 32) hx hb dX0_interrupts_28 (by decide) ?_
          cases h
          exact K
theorem hd_X0_nearest : yX0_nearest.cls ≠ "java/lang/invoke/MethodHandle" ∧ yX0_nearest.cls ≠ "java/lang/invoke/VarHandle" ∧ (parseMethodDescriptor yX0_nearest.desc).map (fun d => d.parameters.length) = some 1 := by decide +kernel
set_option maxHeartbeats 4000000 in
set_option maxRecDepth 100000 in
theorem met_X0_nearest {l : Launch} {k : Cx} {a : LA} {T : List TT} {vs : List TV} {pit cor : Nat → Int32} {tol : Int32} {sy hi tx : Nat} {nf : Nat} {x1 : Int32} {r : Int32} (hvs : T.map Prod.snd = vs) (hO : leOk k a T) (h : m_X0_nearest nf pit tol  x1 = some r) : Met l yX0_nearest (ws_ yX0_nearest cX0_nearest 2 (some .int)) ({ frames := 3, cells := 0, slots := 0, locals := 57 } : Room) (gPc [.ref sy, .int x1] k (syO sy a hi tx :: leW k a T pit cor tol)) (QcV (some (.int r))) 0 0 (fun _ => False) := by
  refine Met.ofW (cc := cX0_nearest) (maxL := 2) (ret := (some .int)) (by decide) rfl ?_
  intro p e s m args below meth c s₁ B hml hv
  obtain ⟨rfl, hP, hG⟩ := hv
  have hx := B.exec
  have hb := B.bytes
  have hr := B.returns
  have hts := atoms_spec (ws := ws_ yX0_nearest cX0_nearest 2 (some .int)) B.pre
  have hts : ∀ w ∈ lw_all, w.before _ s = true := fun w h => hts w (List.mem_cons_of_mem _ h)
  have hown : s.vm.findClass RX0 = some m.cls := findClass_of_methodNamed B.named
  have hlocks := B.notSynchronized
  have hSa : va_S (Ab k) s.heap s.heap [] := va_S.rf
  have hl := lv_entry ([.ref sy, .int x1]) (n := 2) (Nat.le_of_ble_eq_true rfl)
  rw [lg_entry_eq]
  generalize (lg_sl ([.ref sy, .int x1]) ++ List.replicate (2 - (lg_sl ([.ref sy, .int x1])).length) Slot.unset).toArray = ls at hl ⊢
  have hl : lv_has ls 2 [(0, .ref sy), (1, .int x1)] := hl
  unfold m_X0_nearest at h
  refine lv_iload_n hx hb dX0_nearest_0 rfl (lv_at hl 1 rfl) ?_
  obtain ⟨b2, e1, h⟩ := pb_some h
  refine c_call (va_runS (As := [.int x1]) (rest := []) ⟨hx, hb, hml, hown, hts⟩ (met_X0_isPitch e1) (va_cwS 1 hts (lw_S q901 q450 q66 q451) rfl rfl rfl hd_X0_isPitch ⟨Nat.le_of_ble_eq_true rfl, Nat.le_of_ble_eq_true rfl⟩) m_preS rfl rfl hl.1 rfl (lv_room (Nat.le_of_ble_eq_true rfl)) dX0_nearest_1 ⟨Nat.le_of_ble_eq_true rfl, Nat.le_of_ble_eq_true rfl⟩) ?_
  refine lv_if_eq (tgt := 21) hx hb dX0_nearest_4 (by decide) (fun c3 => ?_) (fun c3 => ?_)
  · have h := pi_t c3 h
    refine lv_ldc hx hb hown (hts _ q758) dX0_nearest_21 ?_
    cases h
    exact W.iret hx hb hr (fun t ht hW => c_ret ht) (fun q hq => absurd hq List.not_mem_nil) dX0_nearest_23
  · have h := pi_f c3 h
    refine lv_aload_n hx hb dX0_nearest_7 rfl (lv_at hl 0 rfl) ?_
    refine va_get (ci := 0) (v := .ref (lL a)) (C := RX0) (T := TX0) (N := 3) hx hb hts in_X0 hown hG.K (sy_o hP) 0 rfl rfl 0 (by decide) (hts _ q220) (fun _ h9 => h9) rfl dX0_nearest_8 ?_
    refine lv_iload_n hx hb dX0_nearest_11 rfl (lv_at hl 1 rfl) ?_
    obtain ⟨r5, e4, h⟩ := pb_some h
    refine c_call (va_runV (As := [.int x1]) (rest := []) ⟨hx, hb, hml, hown, hts⟩ (met_X1_nearestTo hvs hO  e4) (cwV 1 hts (lw_V q902 q528 q529 q67 q530) rfl rfl rfl ⟨rfl, hd_X1_nearestTo⟩ ⟨Nat.le_of_ble_eq_true rfl, Nat.le_of_ble_eq_true rfl⟩) (g_preV hG hSa (sy_l hP) (va_recv hG.K (le_o (sy_l hP)) (ci := 1) (q0 := 0) rfl rfl)) rfl rfl hl.1 rfl (lv_room (Nat.le_of_ble_eq_true rfl)) dX0_nearest_12 ⟨Nat.le_of_ble_eq_true rfl, Nat.le_of_ble_eq_true rfl⟩) ?_
    obtain ⟨r7, e6, h⟩ := pb_some h
    refine c_call (va_runS (As := [.int r5]) (rest := []) ⟨hx, hb, hml, hown, hts⟩ (met_X0_orNotFound e6) (va_cwS 1 hts (lw_S q780 q781 q66 q782) rfl rfl rfl hd_X0_orNotFound ⟨Nat.le_of_ble_eq_true rfl, Nat.le_of_ble_eq_true rfl⟩) m_preS rfl rfl hl.1 rfl (lv_room (Nat.le_of_ble_eq_true rfl)) dX0_nearest_15 ⟨Nat.le_of_ble_eq_true rfl, Nat.le_of_ble_eq_true rfl⟩) ?_
    refine lv_goto (tgt := 23) hx hb dX0_nearest_18 (by decide) ?_
    cases h
    exact W.iret hx hb hr (fun t ht hW => c_ret ht) (fun q hq => absurd hq List.not_mem_nil) dX0_nearest_23
theorem hd_X0_during : yX0_during.cls ≠ "java/lang/invoke/MethodHandle" ∧ yX0_during.cls ≠ "java/lang/invoke/VarHandle" ∧ (parseMethodDescriptor yX0_during.desc).map (fun d => d.parameters.length) = some 2 := by decide +kernel
set_option maxHeartbeats 4000000 in
set_option maxRecDepth 100000 in
theorem lp_X0_during_1 {p : Program} {l : Launch} {e : Env} {s : State} {m : MethodId} {args : Array Value} {below : List Frame} {meth : Method} {c : Code} {Q : State → Prop} {H : Heap} {locs : List Loc} {k : Cx} {a : LA} {T : List TT} {vs : List TV} {pit cor : Nat → Int32} {tol : Int32} {sy hi tx : Nat}  (hx : p.tables.exec = Jvm.exec) (hb : c.code = cX0_during) (hml : c.maxLocals = 7) (hown : s.vm.findClass RX0 = some m.cls) (hts : ∀ w ∈ lw_all, w.before args s = true) (hG : GU k s) (hSa : va_S (Ab k) s.heap H locs) (hP : va_P (kD k) gCl (syO sy a hi tx :: leW k a T pit cor tol) H) (hvs : T.map Prod.snd = vs) (hO : leOk k a T) {x1 : Int32} {x2 : Int32} (nf : Nat) : ∀ (n : Nat) (y4 : Int32) (y3 : Int32) (z : Int32), m_X0_during_L1 nf vs x1 x2 n y4 y3 = some z → ∀ ls : Array Slot, lv_has ls 7 [(4, .int y4), (3, .int y3), (0, .ref sy), (1, .int x1), (2, .int x2)] → (∀ ls : Array Slot, lv_has ls 7 [(3, .int z), (0, .ref sy), (1, .int x1), (2, .int x2)] → W p l e ({ frames := 5, cells := 0, slots := 0, locals := 97 } : Room) s m args below meth c H locs 0 0 Q (F0 m 110 ls [])) → W p l e ({ frames := 5, cells := 0, slots := 0, locals := 97 } : Room) s m args below meth c H locs 0 0 Q (F0 m 30 ls []) := by
  intro n
  induction n with
  | zero => intro y4 y3 z h ls hl K; exact absurd h (by simp [m_X0_during_L1])
  | succ n ih =>
    intro y4 y3 z h ls hl K
    unfold m_X0_during_L1 at h
    refine lv_iload hx hb dX0_during_30 (lv_at hl 0 rfl) ?_
    refine lv_aload_n hx hb dX0_during_32 rfl (lv_at hl 2 rfl) ?_
    refine va_get (ci := 0) (v := .ref (lL a)) (C := RX0) (T := TX0) (N := 3) hx hb hts in_X0 hown hG.K (sy_o hP) 0 rfl rfl 0 (by decide) (hts _ q220) (fun _ h9 => h9) rfl dX0_during_33 ?_
    refine va_getN (ci := 1) (v := .ref (lS a)) (C := RX1) (T := TX1) (N := 4) hx hb hts in_X1 hown hG.K (le_o (sy_l hP)) 0 rfl rfl 0 (by decide) (nf_LectureTurns_132 hG) (fun _ h9 => h9) rfl dX0_during_36 ?_
    refine c_call (va_runV (As := []) (rest := [.int y4]) ⟨hx, hb, hml, hown, hts⟩ (met_X2_size (n := vs.length) (by rw [← hvs]; simp)) (cwV 0 hts (lw_V q853 q244 q245 q68 q246) rfl rfl rfl ⟨rfl, hd_X2_size⟩ ⟨Nat.le_of_ble_eq_true rfl, Nat.le_of_ble_eq_true rfl⟩) (g_preV hG hSa (le_st (sy_l hP)) (va_recv hG.K (le_s (sy_l hP)) (ci := 2) (q0 := 0) rfl rfl)) rfl rfl hl.1 rfl (lv_room (Nat.le_of_ble_eq_true rfl)) dX0_during_39 ⟨Nat.le_of_ble_eq_true rfl, Nat.le_of_ble_eq_true rfl⟩) ?_
    refine lv_icmp_ge (tgt := 110) hx hb dX0_during_42 (by decide) (fun c2 => ?_) (fun c2 => ?_)
    · have h := pi_t c2 h
      cases h
      exact K ls (lv_sub hl [1, 2, 3, 4] rfl)
    · have h := pi_f c2 h
      refine lv_aload_n hx hb dX0_during_45 rfl (lv_at hl 2 rfl) ?_
      refine va_get (ci := 0) (v := .ref (lL a)) (C := RX0) (T := TX0) (N := 3) hx hb hts in_X0 hown hG.K (sy_o hP) 0 rfl rfl 0 (by decide) (hts _ q220) (fun _ h9 => h9) rfl dX0_during_46 ?_
      refine va_getN (ci := 1) (v := .ref (lS a)) (C := RX1) (T := TX1) (N := 4) hx hb hts in_X1 hown hG.K (le_o (sy_l hP)) 0 rfl rfl 0 (by decide) (nf_LectureTurns_132 hG) (fun _ h9 => h9) rfl dX0_during_49 ?_
      refine lv_iload hx hb dX0_during_52 (lv_at hl 0 rfl) ?_
      obtain ⟨v3, e3, h⟩ := pb_some h
      obtain ⟨a3, e3, q3⟩ := pAt_T hvs e3
      refine c_call (va_runV (As := [.int y4]) (rest := []) ⟨hx, hb, hml, hown, hts⟩ (met_X2_at (t := (a3, v3)) hO.1 q3) (cwV 1 hts (lw_V q765 q254 q255 q68 q256) rfl rfl rfl ⟨rfl, hd_X2_at⟩ ⟨Nat.le_of_ble_eq_true rfl, Nat.le_of_ble_eq_true rfl⟩) (g_preV hG hSa (va_P.cons (le_t (sy_l hP) e3) (le_st (sy_l hP))) (va_recv hG.K (le_s (sy_l hP)) (ci := 2) (q0 := 0) rfl rfl)) rfl rfl hl.1 rfl (lv_room (Nat.le_of_ble_eq_true rfl)) dX0_during_54 ⟨Nat.le_of_ble_eq_true rfl, Nat.le_of_ble_eq_true rfl⟩) ?_
      refine va_castS hx hb hown (hts _ q766) (hG.K.1 4 _ rfl).2 (va_recv hG.K (le_t (sy_l hP) e3) (ci := 4) (q0 := 0) rfl rfl) dX0_during_57 ?_
      refine lv_astore (lv' := [(5, .ref (aT a3)), (4, .int y4), (3, .int y3), (0, .ref sy), (1, .int x1), (2, .int x2)]) hx hb dX0_during_60 hl (by decide) rfl (fun ls hl => ?_)
      refine lv_iload_n hx hb dX0_during_62 rfl (lv_at hl 5 rfl) ?_
      obtain ⟨j5, hj, h⟩ := pb_some h
      refine W.cut (g' := F0 m 76 ls [.int j5]) ?_ (fun K => ?_)
      · refine lv_istore (lv' := [(6, .int j5), (5, .ref (aT a3)), (4, .int y4), (3, .int y3), (0, .ref sy), (1, .int x1), (2, .int x2)]) hx hb dX0_during_76 hl (by decide) rfl (fun ls hl => ?_)
        refine lv_iload_n hx hb dX0_during_78 rfl (lv_at hl 3 rfl) ?_
        refine lv_aload hx hb dX0_during_79 (lv_at hl 1 rfl) ?_
        refine lv_iload_n hx hb dX0_during_81 rfl (lv_at hl 5 rfl) ?_
        obtain ⟨b7, e6, h⟩ := pb_some h
        refine c_call (va_runV (As := [.int x1]) (rest := [.int y3]) ⟨hx, hb, hml, hown, hts⟩ (met_X4_goesOn e6) (cwV 1 hts (lw_V q892 q818 q819 q78 q820) rfl rfl rfl ⟨rfl, hd_X4_goesOn⟩ ⟨Nat.le_of_ble_eq_true rfl, Nat.le_of_ble_eq_true rfl⟩) (g_preV hG hSa (le_t (sy_l hP) e3) (va_recv hG.K (le_t (sy_l hP) e3) (ci := 4) (q0 := 0) rfl rfl)) rfl rfl hl.1 rfl (lv_room (Nat.le_of_ble_eq_true rfl)) dX0_during_82 ⟨Nat.le_of_ble_eq_true rfl, Nat.le_of_ble_eq_true rfl⟩) ?_
        obtain ⟨j10, hj, h⟩ := pb_some h
        refine W.cut (g' := F0 m 102 ls [.int j10, .int y3]) ?_ (fun K => ?_)
        · refine lv_ior hx hb dX0_during_102 ?_
          refine lv_istore_n (lv' := [(3, .int (y3 ||| j10)), (6, .int j5), (5, .ref (aT a3)), (4, .int y4), (0, .ref sy), (1, .int x1), (2, .int x2)]) hx hb dX0_during_103 rfl hl (by decide) rfl (fun ls hl => ?_)
          refine lv_iinc (v := (y4 + (1 : Int32))) (lv' := [(4, .int (y4 + (1 : Int32))), (3, .int (y3 ||| j10)), (6, .int j5), (5, .ref (aT a3)), (0, .ref sy), (1, .int x1), (2, .int x2)]) hx hb dX0_during_104 hl (k := 3) rfl (by rfl) (by decide) rfl (fun ls hl => ?_)
          refine lv_goto (tgt := 30) hx hb dX0_during_107 (by decide) ?_
          exact ih _ _ _ h ls (lv_sub hl [0, 1, 4, 5, 6] rfl) K
        · have h := hj
          refine lv_if_eq (tgt := 101) hx hb dX0_during_85 (by decide) (fun c8 => ?_) (fun c8 => ?_)
          · have h := pi_t c8 h
            refine lv_iconst (v := 0) hx hb dX0_during_101 (by decide) ?_
            cases h
            exact K
          · have h := pi_f c8 h
            refine lv_iload hx hb dX0_during_88 (lv_at hl 0 rfl) ?_
            refine lv_iconst (v := -1) hx hb dX0_during_90 (by decide) ?_
            refine lv_icmp_eq (tgt := 101) hx hb dX0_during_91 (by decide) (fun c9 => ?_) (fun c9 => ?_)
            · have h := pi_t c9 h
              refine lv_iconst (v := 0) hx hb dX0_during_101 (by decide) ?_
              cases h
              exact K
            · have h := pi_f c9 h
              refine lv_iconst (v := 1) hx hb dX0_during_94 (by decide) ?_
              refine lv_iload hx hb dX0_during_95 (lv_at hl 0 rfl) ?_
              refine lv_ishl hx hb dX0_during_97 ?_
              refine lv_goto (tgt := 102) hx hb dX0_during_98 (by decide) ?_
              cases h
              exact K
      · have h := hj
        refine lv_if_ne (tgt := 71) hx hb dX0_during_63 (by decide) (fun c4 => ?_) (fun c4 => ?_)
        · have h := pi_f c4 h
          refine lv_aload hx hb dX0_during_71 (lv_at hl 0 rfl) ?_
          refine va_getN (ci := 4) (v := .int (vS v3)) (C := RX4) (T := TX4) (N := 5) hx hb hts in_X4 hown hG.K (le_t (sy_l hP) e3) 0 rfl rfl 3 (by decide) (nf_LectureTurns_174 hG) (fun _ h9 => h9) rfl dX0_during_73 ?_
          cases h
          exact K
        · have h := pi_t c4 h
          refine lv_iload hx hb dX0_during_66 (lv_at hl 1 rfl) ?_
          refine lv_goto (tgt := 76) hx hb dX0_during_68 (by decide) ?_
          cases h
          exact K
set_option maxHeartbeats 4000000 in
set_option maxRecDepth 100000 in
theorem met_X0_during {l : Launch} {k : Cx} {a : LA} {T : List TT} {vs : List TV} {pit cor : Nat → Int32} {tol : Int32} {sy hi tx : Nat} {nf : Nat} {x1 : Int32} {x2 : Int32} {r : Int32} (hvs : T.map Prod.snd = vs) (hO : leOk k a T) (h : m_X0_during nf vs  x1 x2 = some r) : Met l yX0_during (ws_ yX0_during cX0_during 7 (some .int)) ({ frames := 5, cells := 0, slots := 0, locals := 97 } : Room) (gPc [.ref sy, .int x1, .int x2] k (syO sy a hi tx :: leW k a T pit cor tol)) (QcV (some (.int r))) 0 0 (fun _ => False) := by
  refine Met.ofW (cc := cX0_during) (maxL := 7) (ret := (some .int)) (by decide) rfl ?_
  intro p e s m args below meth c s₁ B hml hv
  obtain ⟨rfl, hP, hG⟩ := hv
  have hx := B.exec
  have hb := B.bytes
  have hr := B.returns
  have hts := atoms_spec (ws := ws_ yX0_during cX0_during 7 (some .int)) B.pre
  have hts : ∀ w ∈ lw_all, w.before _ s = true := fun w h => hts w (List.mem_cons_of_mem _ h)
  have hown : s.vm.findClass RX0 = some m.cls := findClass_of_methodNamed B.named
  have hlocks := B.notSynchronized
  have hSa : va_S (Ab k) s.heap s.heap [] := va_S.rf
  have hl := lv_entry ([.ref sy, .int x1, .int x2]) (n := 7) (Nat.le_of_ble_eq_true rfl)
  rw [lg_entry_eq]
  generalize (lg_sl ([.ref sy, .int x1, .int x2]) ++ List.replicate (7 - (lg_sl ([.ref sy, .int x1, .int x2])).length) Slot.unset).toArray = ls at hl ⊢
  have hl : lv_has ls 7 [(0, .ref sy), (1, .int x1), (2, .int x2)] := hl
  unfold m_X0_during at h
  refine lv_iload_n hx hb dX0_during_0 rfl (lv_at hl 1 rfl) ?_
  refine lv_i2l hx hb dX0_during_1 rfl ?_
  refine lv_lconst (v := 0) hx hb dX0_during_2 (by decide) ?_
  refine lv_ldc2 hx hb hown (hts _ q891) dX0_during_3 ?_
  obtain ⟨b2, e1, h⟩ := pb_some h
  refine c_call (va_runS (As := [.long x1.toInt64, .long (0 : Int64), .long (1999 : Int64)]) (rest := []) ⟨hx, hb, hml, hown, hts⟩ (met_X0_isBetween e1) (va_cwS 3 hts (lw_S q454 q446 q66 q447) rfl rfl rfl hd_X0_isBetween ⟨Nat.le_of_ble_eq_true rfl, Nat.le_of_ble_eq_true rfl⟩) m_preS rfl rfl hl.1 rfl (lv_room (Nat.le_of_ble_eq_true rfl)) dX0_during_6 ⟨Nat.le_of_ble_eq_true rfl, Nat.le_of_ble_eq_true rfl⟩) ?_
  refine lv_if_eq (tgt := 22) hx hb dX0_during_9 (by decide) (fun c3 => ?_) (fun c3 => ?_)
  · have h := pi_t c3 h
    refine lv_ldc hx hb hown (hts _ q758) dX0_during_22 ?_
    cases h
    exact W.iret hx hb hr (fun t ht hW => c_ret ht) (fun q hq => absurd hq List.not_mem_nil) dX0_during_24
  · have h := pi_f c3 h
    refine lv_iload_n hx hb dX0_during_12 rfl (lv_at hl 2 rfl) ?_
    refine lv_i2l hx hb dX0_during_13 rfl ?_
    refine lv_lconst (v := 0) hx hb dX0_during_14 (by decide) ?_
    refine lv_lconst (v := 1) hx hb dX0_during_15 (by decide) ?_
    obtain ⟨b5, e4, h⟩ := pb_some h
    refine c_call (va_runS (As := [.long x2.toInt64, .long (0 : Int64), .long (1 : Int64)]) (rest := []) ⟨hx, hb, hml, hown, hts⟩ (met_X0_isBetween e4) (va_cwS 3 hts (lw_S q454 q446 q66 q447) rfl rfl rfl hd_X0_isBetween ⟨Nat.le_of_ble_eq_true rfl, Nat.le_of_ble_eq_true rfl⟩) m_preS rfl rfl hl.1 rfl (lv_room (Nat.le_of_ble_eq_true rfl)) dX0_during_16 ⟨Nat.le_of_ble_eq_true rfl, Nat.le_of_ble_eq_true rfl⟩) ?_
    refine lv_if_ne (tgt := 25) hx hb dX0_during_19 (by decide) (fun c6 => ?_) (fun c6 => ?_)
    · have h := pi_f c6 h
      refine lv_iconst (v := 0) hx hb dX0_during_25 (by decide) ?_
      refine lv_istore_n (lv' := [(3, .int (0 : Int32)), (0, .ref sy), (1, .int x1), (2, .int x2)]) hx hb dX0_during_26 rfl hl (by decide) rfl (fun ls hl => ?_)
      refine lv_iconst (v := 0) hx hb dX0_during_27 (by decide) ?_
      refine lv_istore (lv' := [(4, .int (0 : Int32)), (3, .int (0 : Int32)), (0, .ref sy), (1, .int x1), (2, .int x2)]) hx hb dX0_during_28 hl (by decide) rfl (fun ls hl => ?_)
      obtain ⟨o7, e501, h⟩ := pb_some h
      refine lp_X0_during_1 hx hb hml hown hts hG hSa hP hvs hO _ _ _ _ _ e501 ls (lv_sub hl [0, 1, 2, 3, 4] rfl) (fun ls hl => ?_)
      refine lv_iload_n hx hb dX0_during_110 rfl (lv_at hl 0 rfl) ?_
      cases h
      exact W.iret hx hb hr (fun t ht hW => c_ret ht) (fun q hq => absurd hq List.not_mem_nil) dX0_during_111
    · have h := pi_t c6 h
      refine lv_ldc hx hb hown (hts _ q758) dX0_during_22 ?_
      cases h
      exact W.iret hx hb hr (fun t ht hW => c_ret ht) (fun q hq => absurd hq List.not_mem_nil) dX0_during_24
theorem hd_X0_silence : yX0_silence.cls ≠ "java/lang/invoke/MethodHandle" ∧ yX0_silence.cls ≠ "java/lang/invoke/VarHandle" ∧ (parseMethodDescriptor yX0_silence.desc).map (fun d => d.parameters.length) = some 1 := by decide +kernel
set_option maxHeartbeats 4000000 in
set_option maxRecDepth 100000 in
theorem lp_X0_silence_1 {p : Program} {l : Launch} {e : Env} {s : State} {m : MethodId} {args : Array Value} {below : List Frame} {meth : Method} {c : Code} {Q : State → Prop} {H : Heap} {locs : List Loc} {k : Cx} {a : LA} {T : List TT} {vs : List TV} {pit cor : Nat → Int32} {tol : Int32} {sy hi tx : Nat}  (hx : p.tables.exec = Jvm.exec) (hb : c.code = cX0_silence) (hml : c.maxLocals = 7) (hown : s.vm.findClass RX0 = some m.cls) (hts : ∀ w ∈ lw_all, w.before args s = true) (hG : GU k s) (hSa : va_S (Ab k) s.heap H locs) (hP : va_P (kD k) gCl (syO sy a hi tx :: leW k a T pit cor tol) H) (hvs : T.map Prod.snd = vs) (hO : leOk k a T) {x1 : Int32} (nf : Nat) : ∀ (n : Nat) (y6 : Int32) (y4 : Int32) (y3 : Int32) (y2 : Int32) (z : (Int32 × Int32)), m_X0_silence_L1 nf vs n y6 y4 y3 y2 = some z → ∀ ls : Array Slot, lv_has ls 7 [(6, .int y6), (4, .int y4), (3, .int y3), (2, .int y2), (0, .ref sy), (1, .int x1)] → (∀ ls : Array Slot, lv_has ls 7 [(3, .int z.1), (2, .int z.2), (0, .ref sy), (1, .int x1)] → W p l e ({ frames := 6, cells := 0, slots := 0, locals := 120 } : Room) s m args below meth c H locs 0 0 Q (F0 m 125 ls [])) → W p l e ({ frames := 6, cells := 0, slots := 0, locals := 120 } : Room) s m args below meth c H locs 0 0 Q (F0 m 60 ls []) := by
  intro n
  induction n with
  | zero => intro y6 y4 y3 y2 z h ls hl K; exact absurd h (by simp [m_X0_silence_L1])
  | succ n ih =>
    intro y6 y4 y3 y2 z h ls hl K
    unfold m_X0_silence_L1 at h
    refine lv_iload hx hb dX0_silence_60 (lv_at hl 0 rfl) ?_
    refine lv_aload_n hx hb dX0_silence_62 rfl (lv_at hl 4 rfl) ?_
    refine va_get (ci := 0) (v := .ref (lL a)) (C := RX0) (T := TX0) (N := 3) hx hb hts in_X0 hown hG.K (sy_o hP) 0 rfl rfl 0 (by decide) (hts _ q220) (fun _ h9 => h9) rfl dX0_silence_63 ?_
    obtain ⟨r2, e1, h⟩ := pb_some h
    refine c_call (va_runV (As := []) (rest := [.int y6]) ⟨hx, hb, hml, hown, hts⟩ (met_X1_lastEnd hvs hO  e1) (cwV 0 hts (lw_V q924 q925 q926 q67 q927) rfl rfl rfl ⟨rfl, hd_X1_lastEnd⟩ ⟨Nat.le_of_ble_eq_true rfl, Nat.le_of_ble_eq_true rfl⟩) (g_preV hG hSa (sy_l hP) (va_recv hG.K (le_o (sy_l hP)) (ci := 1) (q0 := 0) rfl rfl)) rfl rfl hl.1 rfl (lv_room (Nat.le_of_ble_eq_true rfl)) dX0_silence_66 ⟨Nat.le_of_ble_eq_true rfl, Nat.le_of_ble_eq_true rfl⟩) ?_
    refine lv_icmp_ge (tgt := 125) hx hb dX0_silence_69 (by decide) (fun c3 => ?_) (fun c3 => ?_)
    · have h := pi_t c3 h
      cases h
      exact K ls (lv_sub hl [2, 3, 4, 5] rfl)
    · have h := pi_f c3 h
      refine lv_aload_n hx hb dX0_silence_72 rfl (lv_at hl 4 rfl) ?_
      refine va_get (ci := 0) (v := .ref (lL a)) (C := RX0) (T := TX0) (N := 3) hx hb hts in_X0 hown hG.K (sy_o hP) 0 rfl rfl 0 (by decide) (hts _ q220) (fun _ h9 => h9) rfl dX0_silence_73 ?_
      refine lv_iload hx hb dX0_silence_76 (lv_at hl 0 rfl) ?_
      obtain ⟨r5, e4, h⟩ := pb_some h
      refine c_call (va_runV (As := [.int y6]) (rest := []) ⟨hx, hb, hml, hown, hts⟩ (met_X1_going hvs hO  e4) (cwV 1 hts (lw_V q929 q814 q815 q67 q816) rfl rfl rfl ⟨rfl, hd_X1_going⟩ ⟨Nat.le_of_ble_eq_true rfl, Nat.le_of_ble_eq_true rfl⟩) (g_preV hG hSa (sy_l hP) (va_recv hG.K (le_o (sy_l hP)) (ci := 1) (q0 := 0) rfl rfl)) rfl rfl hl.1 rfl (lv_room (Nat.le_of_ble_eq_true rfl)) dX0_silence_78 ⟨Nat.le_of_ble_eq_true rfl, Nat.le_of_ble_eq_true rfl⟩) ?_
      obtain ⟨j7, hj, h⟩ := pb_some h
      refine W.cut (g' := F0 m 92 ls [.int j7]) ?_ (fun K => ?_)
      · refine lv_istore (lv' := [(4, .int j7), (6, .int y6), (3, .int y3), (2, .int y2), (0, .ref sy), (1, .int x1)]) hx hb dX0_silence_92 hl (by decide) rfl (fun ls hl => ?_)
        refine lv_iload hx hb dX0_silence_94 (lv_at hl 0 rfl) ?_
        refine lv_iload_n hx hb dX0_silence_96 rfl (lv_at hl 2 rfl) ?_
        obtain ⟨j9, hj, h⟩ := pb_some h
        refine W.cut (g' := F0 m 111 ls [.int j9]) ?_ (fun K => ?_)
        · refine lv_istore_n (lv' := [(2, .int j9), (4, .int j7), (6, .int y6), (3, .int y3), (0, .ref sy), (1, .int x1)]) hx hb dX0_silence_111 rfl hl (by decide) rfl (fun ls hl => ?_)
          refine lv_iload_n hx hb dX0_silence_112 rfl (lv_at hl 3 rfl) ?_
          refine lv_iload hx hb dX0_silence_113 (lv_at hl 1 rfl) ?_
          refine va_mmax hx hb (hml.trans hl.1.symm) hown (hts _ q919) (hts _ q374) (hts _ q83) (hts _ q375) (Nat.le_of_ble_eq_true rfl) (Nat.le_of_ble_eq_true rfl) (Nat.le_of_ble_eq_true rfl) (Nat.le_of_ble_eq_true rfl) dX0_silence_115 ?_
          refine lv_istore_n (lv' := [(3, .int (if y3 < j7 then j7 else y3)), (2, .int j9), (4, .int j7), (6, .int y6), (0, .ref sy), (1, .int x1)]) hx hb dX0_silence_118 rfl hl (by decide) rfl (fun ls hl => ?_)
          refine lv_iinc (v := (y6 + (1 : Int32))) (lv' := [(6, .int (y6 + (1 : Int32))), (3, .int (if y3 < j7 then j7 else y3)), (2, .int j9), (4, .int j7), (0, .ref sy), (1, .int x1)]) hx hb dX0_silence_119 hl (k := 3) rfl (by rfl) (by decide) rfl (fun ls hl => ?_)
          refine lv_goto (tgt := 60) hx hb dX0_silence_122 (by decide) ?_
          exact ih _ _ _ _ _ h ls (lv_sub hl [0, 3, 1, 2, 4, 5] rfl) K
        · have h := hj
          refine lv_icmp_le (tgt := 110) hx hb dX0_silence_97 (by decide) (fun c8 => ?_) (fun c8 => ?_)
          · have h := pi_t c8 h
            refine lv_iload_n hx hb dX0_silence_110 rfl (lv_at hl 3 rfl) ?_
            cases h
            exact K
          · have h := pi_f c8 h
            refine lv_iload hx hb dX0_silence_100 (lv_at hl 1 rfl) ?_
            refine lv_iload hx hb dX0_silence_102 (lv_at hl 0 rfl) ?_
            refine lv_isub hx hb dX0_silence_104 ?_
            refine lv_iconst (v := 1) hx hb dX0_silence_105 (by decide) ?_
            refine lv_iadd hx hb dX0_silence_106 ?_
            refine lv_goto (tgt := 111) hx hb dX0_silence_107 (by decide) ?_
            cases h
            exact K
      · have h := hj
        refine lv_if_ne (tgt := 91) hx hb dX0_silence_81 (by decide) (fun c6 => ?_) (fun c6 => ?_)
        · have h := pi_f c6 h
          refine lv_iconst (v := 0) hx hb dX0_silence_91 (by decide) ?_
          cases h
          exact K
        · have h := pi_t c6 h
          refine lv_iload hx hb dX0_silence_84 (lv_at hl 1 rfl) ?_
          refine lv_iconst (v := 1) hx hb dX0_silence_86 (by decide) ?_
          refine lv_iadd hx hb dX0_silence_87 ?_
          refine lv_goto (tgt := 92) hx hb dX0_silence_88 (by decide) ?_
          cases h
          exact K
set_option maxHeartbeats 4000000 in
set_option maxRecDepth 100000 in
theorem met_X0_silence {l : Launch} {k : Cx} {a : LA} {T : List TT} {vs : List TV} {pit cor : Nat → Int32} {tol : Int32} {sy hi tx : Nat} {nf : Nat} {x1 : Int32} {r : Int32} (hvs : T.map Prod.snd = vs) (hO : leOk k a T) (h : m_X0_silence nf vs  x1 = some r) : Met l yX0_silence (ws_ yX0_silence cX0_silence 7 (some .int)) ({ frames := 6, cells := 0, slots := 0, locals := 120 } : Room) (gPc [.ref sy, .int x1] k (syO sy a hi tx :: leW k a T pit cor tol)) (QcV (some (.int r))) 0 0 (fun _ => False) := by
  refine Met.ofW (cc := cX0_silence) (maxL := 7) (ret := (some .int)) (by decide) rfl ?_
  intro p e s m args below meth c s₁ B hml hv
  obtain ⟨rfl, hP, hG⟩ := hv
  have hx := B.exec
  have hb := B.bytes
  have hr := B.returns
  have hts := atoms_spec (ws := ws_ yX0_silence cX0_silence 7 (some .int)) B.pre
  have hts : ∀ w ∈ lw_all, w.before _ s = true := fun w h => hts w (List.mem_cons_of_mem _ h)
  have hown : s.vm.findClass RX0 = some m.cls := findClass_of_methodNamed B.named
  have hlocks := B.notSynchronized
  have hSa : va_S (Ab k) s.heap s.heap [] := va_S.rf
  have hl := lv_entry ([.ref sy, .int x1]) (n := 7) (Nat.le_of_ble_eq_true rfl)
  rw [lg_entry_eq]
  generalize (lg_sl ([.ref sy, .int x1]) ++ List.replicate (7 - (lg_sl ([.ref sy, .int x1])).length) Slot.unset).toArray = ls at hl ⊢
  have hl : lv_has ls 7 [(0, .ref sy), (1, .int x1)] := hl
  unfold m_X0_silence at h
  refine lv_iload_n hx hb dX0_silence_0 rfl (lv_at hl 1 rfl) ?_
  refine lv_i2l hx hb dX0_silence_1 rfl ?_
  refine lv_lconst (v := 0) hx hb dX0_silence_2 (by decide) ?_
  refine lv_lconst (v := 1) hx hb dX0_silence_3 (by decide) ?_
  obtain ⟨b2, e1, h⟩ := pb_some h
  refine c_call (va_runS (As := [.long x1.toInt64, .long (0 : Int64), .long (1 : Int64)]) (rest := []) ⟨hx, hb, hml, hown, hts⟩ (met_X0_isBetween e1) (va_cwS 3 hts (lw_S q454 q446 q66 q447) rfl rfl rfl hd_X0_isBetween ⟨Nat.le_of_ble_eq_true rfl, Nat.le_of_ble_eq_true rfl⟩) m_preS rfl rfl hl.1 rfl (lv_room (Nat.le_of_ble_eq_true rfl)) dX0_silence_4 ⟨Nat.le_of_ble_eq_true rfl, Nat.le_of_ble_eq_true rfl⟩) ?_
  refine lv_if_ne (tgt := 13) hx hb dX0_silence_7 (by decide) (fun c3 => ?_) (fun c3 => ?_)
  · have h := pi_f c3 h
    refine lv_iconst (v := 0) hx hb dX0_silence_13 (by decide) ?_
    refine lv_istore_n (lv' := [(2, .int (0 : Int32)), (0, .ref sy), (1, .int x1)]) hx hb dX0_silence_14 rfl hl (by decide) rfl (fun ls hl => ?_)
    refine lv_iconst (v := 0) hx hb dX0_silence_15 (by decide) ?_
    refine lv_istore_n (lv' := [(3, .int (0 : Int32)), (2, .int (0 : Int32)), (0, .ref sy), (1, .int x1)]) hx hb dX0_silence_16 rfl hl (by decide) rfl (fun ls hl => ?_)
    refine lv_iconst (v := 0) hx hb dX0_silence_17 (by decide) ?_
    refine lv_istore (lv' := [(4, .int (0 : Int32)), (3, .int (0 : Int32)), (2, .int (0 : Int32)), (0, .ref sy), (1, .int x1)]) hx hb dX0_silence_18 hl (by decide) rfl (fun ls hl => ?_)
    refine lv_aload_n hx hb dX0_silence_20 rfl (lv_at hl 3 rfl) ?_
    refine va_get (ci := 0) (v := .ref (lL a)) (C := RX0) (T := TX0) (N := 3) hx hb hts in_X0 hown hG.K (sy_o hP) 0 rfl rfl 0 (by decide) (hts _ q220) (fun _ h9 => h9) rfl dX0_silence_21 ?_
    refine va_getN (ci := 1) (v := .ref (lS a)) (C := RX1) (T := TX1) (N := 4) hx hb hts in_X1 hown hG.K (le_o (sy_l hP)) 0 rfl rfl 0 (by decide) (nf_LectureTurns_132 hG) (fun _ h9 => h9) rfl dX0_silence_24 ?_
    refine c_call (va_runV (As := []) (rest := []) ⟨hx, hb, hml, hown, hts⟩ (met_X2_size (n := vs.length) (by rw [← hvs]; simp)) (cwV 0 hts (lw_V q853 q244 q245 q68 q246) rfl rfl rfl ⟨rfl, hd_X2_size⟩ ⟨Nat.le_of_ble_eq_true rfl, Nat.le_of_ble_eq_true rfl⟩) (g_preV hG hSa (le_st (sy_l hP)) (va_recv hG.K (le_s (sy_l hP)) (ci := 2) (q0 := 0) rfl rfl)) rfl rfl hl.1 rfl (lv_room (Nat.le_of_ble_eq_true rfl)) dX0_silence_27 ⟨Nat.le_of_ble_eq_true rfl, Nat.le_of_ble_eq_true rfl⟩) ?_
    obtain ⟨j7, hj, h⟩ := pb_some h
    refine W.cut (g' := F0 m 54 ls [.int j7]) ?_ (fun K => ?_)
    · refine lv_istore (lv' := [(5, .int j7), (4, .int (0 : Int32)), (3, .int (0 : Int32)), (2, .int (0 : Int32)), (0, .ref sy), (1, .int x1)]) hx hb dX0_silence_54 hl (by decide) rfl (fun ls hl => ?_)
      refine lv_iload hx hb dX0_silence_56 (lv_at hl 0 rfl) ?_
      refine lv_istore (lv' := [(6, .int j7), (5, .int j7), (4, .int (0 : Int32)), (3, .int (0 : Int32)), (2, .int (0 : Int32)), (0, .ref sy), (1, .int x1)]) hx hb dX0_silence_58 hl (by decide) rfl (fun ls hl => ?_)
      obtain ⟨⟨o8, o9⟩, e501, h⟩ := pb_some h
      refine lp_X0_silence_1 hx hb hml hown hts hG hSa hP hvs hO _ _ _ _ _ _ _ e501 ls (lv_sub hl [0, 2, 3, 4, 5, 6] rfl) (fun ls hl => ?_)
      refine lv_iload_n hx hb dX0_silence_125 rfl (lv_at hl 0 rfl) ?_
      refine lv_if_ne (tgt := 134) hx hb dX0_silence_126 (by decide) (fun c10 => ?_) (fun c10 => ?_)
      · have h := pi_f c10 h
        refine lv_iload_n hx hb dX0_silence_134 rfl (lv_at hl 3 rfl) ?_
        refine lv_if_ne (tgt := 142) hx hb dX0_silence_135 (by decide) (fun c11 => ?_) (fun c11 => ?_)
        · have h := pi_f c11 h
          refine lv_iload_n hx hb dX0_silence_142 rfl (lv_at hl 0 rfl) ?_
          cases h
          exact W.iret hx hb hr (fun t ht hW => c_ret ht) (fun q hq => absurd hq List.not_mem_nil) dX0_silence_143
        · have h := pi_t c11 h
          refine lv_iload_n hx hb dX0_silence_138 rfl (lv_at hl 1 rfl) ?_
          refine lv_goto (tgt := 143) hx hb dX0_silence_139 (by decide) ?_
          cases h
          exact W.iret hx hb hr (fun t ht hW => c_ret ht) (fun q hq => absurd hq List.not_mem_nil) dX0_silence_143
      · have h := pi_t c10 h
        refine lv_ldc hx hb hown (hts _ q783) dX0_silence_129 ?_
        refine lv_goto (tgt := 143) hx hb dX0_silence_131 (by decide) ?_
        cases h
        exact W.iret hx hb hr (fun t ht hW => c_ret ht) (fun q hq => absurd hq List.not_mem_nil) dX0_silence_143
    · have h := hj
      refine lv_if_ne (tgt := 37) hx hb dX0_silence_30 (by decide) (fun c5 => ?_) (fun c5 => ?_)
      · have h := pi_f c5 h
        refine lv_aload_n hx hb dX0_silence_37 rfl (lv_at hl 3 rfl) ?_
        refine va_get (ci := 0) (v := .ref (lL a)) (C := RX0) (T := TX0) (N := 3) hx hb hts in_X0 hown hG.K (sy_o hP) 0 rfl rfl 0 (by decide) (hts _ q220) (fun _ h9 => h9) rfl dX0_silence_38 ?_
        refine va_getN (ci := 1) (v := .ref (lS a)) (C := RX1) (T := TX1) (N := 4) hx hb hts in_X1 hown hG.K (le_o (sy_l hP)) 0 rfl rfl 0 (by decide) (nf_LectureTurns_132 hG) (fun _ h9 => h9) rfl dX0_silence_41 ?_
        refine lv_iconst (v := 0) hx hb dX0_silence_44 (by decide) ?_
        obtain ⟨v6, e6, h⟩ := pb_some h
        obtain ⟨a6, e6, q6⟩ := pAt_T hvs e6
        refine c_call (va_runV (As := [.int (0 : Int32)]) (rest := []) ⟨hx, hb, hml, hown, hts⟩ (met_X2_at (t := (a6, v6)) hO.1 q6) (cwV 1 hts (lw_V q765 q254 q255 q68 q256) rfl rfl rfl ⟨rfl, hd_X2_at⟩ ⟨Nat.le_of_ble_eq_true rfl, Nat.le_of_ble_eq_true rfl⟩) (g_preV hG hSa (va_P.cons (le_t (sy_l hP) e6) (le_st (sy_l hP))) (va_recv hG.K (le_s (sy_l hP)) (ci := 2) (q0 := 0) rfl rfl)) rfl rfl hl.1 rfl (lv_room (Nat.le_of_ble_eq_true rfl)) dX0_silence_45 ⟨Nat.le_of_ble_eq_true rfl, Nat.le_of_ble_eq_true rfl⟩) ?_
        refine va_castS hx hb hown (hts _ q766) (hG.K.1 4 _ rfl).2 (va_recv hG.K (le_t (sy_l hP) e6) (ci := 4) (q0 := 0) rfl rfl) dX0_silence_48 ?_
        refine va_getN (ci := 4) (v := .int (vB v6)) (C := RX4) (T := TX4) (N := 5) hx hb hts in_X4 hown hG.K (le_t (sy_l hP) e6) 0 rfl rfl 0 (by decide) (nf_LectureTurns_253 hG) (fun _ h9 => h9) rfl dX0_silence_51 ?_
        cases h
        exact K
      · have h := pi_t c5 h
        refine lv_iconst (v := 0) hx hb dX0_silence_33 (by decide) ?_
        refine lv_goto (tgt := 54) hx hb dX0_silence_34 (by decide) ?_
        cases h
        exact K
  · have h := pi_t c3 h
    refine lv_ldc hx hb hown (hts _ q758) dX0_silence_10 ?_
    cases h
    exact W.iret hx hb hr (fun t ht hW => c_ret ht) (fun q hq => absurd hq List.not_mem_nil) dX0_silence_12
theorem hd_X0_doubtful : yX0_doubtful.cls ≠ "java/lang/invoke/MethodHandle" ∧ yX0_doubtful.cls ≠ "java/lang/invoke/VarHandle" ∧ (parseMethodDescriptor yX0_doubtful.desc).map (fun d => d.parameters.length) = some 1 := by decide +kernel
set_option maxHeartbeats 4000000 in
set_option maxRecDepth 100000 in
theorem lp_X0_doubtful_1 {p : Program} {l : Launch} {e : Env} {s : State} {m : MethodId} {args : Array Value} {below : List Frame} {meth : Method} {c : Code} {Q : State → Prop} {H : Heap} {locs : List Loc} {k : Cx} {a : LA} {T : List TT} {vs : List TV} {pit cor : Nat → Int32} {tol : Int32} {sy hi tx : Nat}  (hx : p.tables.exec = Jvm.exec) (hb : c.code = cX0_doubtful) (hml : c.maxLocals = 7) (hown : s.vm.findClass RX0 = some m.cls) (hts : ∀ w ∈ lw_all, w.before args s = true) (hG : GU k s) (hSa : va_S (Ab k) s.heap H locs) (hP : va_P (kD k) gCl (syO sy a hi tx :: leW k a T pit cor tol) H) (hvs : T.map Prod.snd = vs) (hO : leOk k a T) {x1 : Int32} (nf : Nat) : ∀ (n : Nat) (y4 : Int32) (y3 : Int32) (y2 : Int32) (z : (Int32 × Int32)), m_X0_doubtful_L1 nf vs pit n y4 y3 y2 = some z → ∀ ls : Array Slot, lv_has ls 7 [(4, .int y4), (3, .int y3), (2, .int y2), (0, .ref sy), (1, .int x1)] → (∀ ls : Array Slot, lv_has ls 7 [(3, .int z.1), (2, .int z.2), (0, .ref sy), (1, .int x1)] → W p l e ({ frames := 5, cells := 0, slots := 0, locals := 97 } : Room) s m args below meth c H locs 0 0 Q (F0 m 115 ls [])) → W p l e ({ frames := 5, cells := 0, slots := 0, locals := 97 } : Room) s m args below meth c H locs 0 0 Q (F0 m 20 ls []) := by
  intro n
  induction n with
  | zero => intro y4 y3 y2 z h ls hl K; exact absurd h (by simp [m_X0_doubtful_L1])
  | succ n ih =>
    intro y4 y3 y2 z h ls hl K
    unfold m_X0_doubtful_L1 at h
    refine lv_iload hx hb dX0_doubtful_20 (lv_at hl 0 rfl) ?_
    refine lv_aload_n hx hb dX0_doubtful_22 rfl (lv_at hl 3 rfl) ?_
    refine va_get (ci := 0) (v := .ref (lL a)) (C := RX0) (T := TX0) (N := 3) hx hb hts in_X0 hown hG.K (sy_o hP) 0 rfl rfl 0 (by decide) (hts _ q220) (fun _ h9 => h9) rfl dX0_doubtful_23 ?_
    refine va_getN (ci := 1) (v := .ref (lS a)) (C := RX1) (T := TX1) (N := 4) hx hb hts in_X1 hown hG.K (le_o (sy_l hP)) 0 rfl rfl 0 (by decide) (nf_LectureTurns_132 hG) (fun _ h9 => h9) rfl dX0_doubtful_26 ?_
    refine c_call (va_runV (As := []) (rest := [.int y4]) ⟨hx, hb, hml, hown, hts⟩ (met_X2_size (n := vs.length) (by rw [← hvs]; simp)) (cwV 0 hts (lw_V q853 q244 q245 q68 q246) rfl rfl rfl ⟨rfl, hd_X2_size⟩ ⟨Nat.le_of_ble_eq_true rfl, Nat.le_of_ble_eq_true rfl⟩) (g_preV hG hSa (le_st (sy_l hP)) (va_recv hG.K (le_s (sy_l hP)) (ci := 2) (q0 := 0) rfl rfl)) rfl rfl hl.1 rfl (lv_room (Nat.le_of_ble_eq_true rfl)) dX0_doubtful_29 ⟨Nat.le_of_ble_eq_true rfl, Nat.le_of_ble_eq_true rfl⟩) ?_
    refine lv_icmp_ge (tgt := 115) hx hb dX0_doubtful_32 (by decide) (fun c2 => ?_) (fun c2 => ?_)
    · have h := pi_t c2 h
      cases h
      exact K ls (lv_sub hl [1, 2, 3, 4] rfl)
    · have h := pi_f c2 h
      refine lv_aload_n hx hb dX0_doubtful_35 rfl (lv_at hl 3 rfl) ?_
      refine va_get (ci := 0) (v := .ref (lL a)) (C := RX0) (T := TX0) (N := 3) hx hb hts in_X0 hown hG.K (sy_o hP) 0 rfl rfl 0 (by decide) (hts _ q220) (fun _ h9 => h9) rfl dX0_doubtful_36 ?_
      refine va_getN (ci := 1) (v := .ref (lS a)) (C := RX1) (T := TX1) (N := 4) hx hb hts in_X1 hown hG.K (le_o (sy_l hP)) 0 rfl rfl 0 (by decide) (nf_LectureTurns_132 hG) (fun _ h9 => h9) rfl dX0_doubtful_39 ?_
      refine lv_iload hx hb dX0_doubtful_42 (lv_at hl 0 rfl) ?_
      obtain ⟨v3, e3, h⟩ := pb_some h
      obtain ⟨a3, e3, q3⟩ := pAt_T hvs e3
      refine c_call (va_runV (As := [.int y4]) (rest := []) ⟨hx, hb, hml, hown, hts⟩ (met_X2_at (t := (a3, v3)) hO.1 q3) (cwV 1 hts (lw_V q765 q254 q255 q68 q256) rfl rfl rfl ⟨rfl, hd_X2_at⟩ ⟨Nat.le_of_ble_eq_true rfl, Nat.le_of_ble_eq_true rfl⟩) (g_preV hG hSa (va_P.cons (le_t (sy_l hP) e3) (le_st (sy_l hP))) (va_recv hG.K (le_s (sy_l hP)) (ci := 2) (q0 := 0) rfl rfl)) rfl rfl hl.1 rfl (lv_room (Nat.le_of_ble_eq_true rfl)) dX0_doubtful_44 ⟨Nat.le_of_ble_eq_true rfl, Nat.le_of_ble_eq_true rfl⟩) ?_
      refine va_castS hx hb hown (hts _ q766) (hG.K.1 4 _ rfl).2 (va_recv hG.K (le_t (sy_l hP) e3) (ci := 4) (q0 := 0) rfl rfl) dX0_doubtful_47 ?_
      refine lv_astore (lv' := [(5, .ref (aT a3)), (4, .int y4), (3, .int y3), (2, .int y2), (0, .ref sy), (1, .int x1)]) hx hb dX0_doubtful_50 hl (by decide) rfl (fun ls hl => ?_)
      refine lv_aload hx hb dX0_doubtful_52 (lv_at hl 0 rfl) ?_
      refine va_getN (ci := 4) (v := .int (vS v3)) (C := RX4) (T := TX4) (N := 5) hx hb hts in_X4 hown hG.K (le_t (sy_l hP) e3) 0 rfl rfl 3 (by decide) (nf_LectureTurns_174 hG) (fun _ h9 => h9) rfl dX0_doubtful_54 ?_
      refine lv_iconst (v := -1) hx hb dX0_doubtful_57 (by decide) ?_
      obtain ⟨j6, hj, h⟩ := pb_some h
      refine W.cut (g' := F0 m 87 ls [.int j6]) ?_ (fun K => ?_)
      · refine lv_istore (lv' := [(6, .int j6), (5, .ref (aT a3)), (4, .int y4), (3, .int y3), (2, .int y2), (0, .ref sy), (1, .int x1)]) hx hb dX0_doubtful_87 hl (by decide) rfl (fun ls hl => ?_)
        refine lv_iload hx hb dX0_doubtful_89 (lv_at hl 0 rfl) ?_
        refine lv_iload_n hx hb dX0_doubtful_91 rfl (lv_at hl 3 rfl) ?_
        obtain ⟨j8, hj, h⟩ := pb_some h
        refine W.cut (g' := F0 m 101 ls [.int j8]) ?_ (fun K => ?_)
        · refine lv_istore_n (lv' := [(2, .int j8), (6, .int j6), (5, .ref (aT a3)), (4, .int y4), (3, .int y3), (0, .ref sy), (1, .int x1)]) hx hb dX0_doubtful_101 rfl hl (by decide) rfl (fun ls hl => ?_)
          refine lv_iload_n hx hb dX0_doubtful_102 rfl (lv_at hl 4 rfl) ?_
          refine lv_iload hx hb dX0_doubtful_103 (lv_at hl 1 rfl) ?_
          refine va_mmax hx hb (hml.trans hl.1.symm) hown (hts _ q919) (hts _ q374) (hts _ q83) (hts _ q375) (Nat.le_of_ble_eq_true rfl) (Nat.le_of_ble_eq_true rfl) (Nat.le_of_ble_eq_true rfl) (Nat.le_of_ble_eq_true rfl) dX0_doubtful_105 ?_
          refine lv_istore_n (lv' := [(3, .int (if y3 < j6 then j6 else y3)), (2, .int j8), (6, .int j6), (5, .ref (aT a3)), (4, .int y4), (0, .ref sy), (1, .int x1)]) hx hb dX0_doubtful_108 rfl hl (by decide) rfl (fun ls hl => ?_)
          refine lv_iinc (v := (y4 + (1 : Int32))) (lv' := [(4, .int (y4 + (1 : Int32))), (3, .int (if y3 < j6 then j6 else y3)), (2, .int j8), (6, .int j6), (5, .ref (aT a3)), (0, .ref sy), (1, .int x1)]) hx hb dX0_doubtful_109 hl (k := 4) rfl (by rfl) (by decide) rfl (fun ls hl => ?_)
          refine lv_goto (tgt := 20) hx hb dX0_doubtful_112 (by decide) ?_
          exact ih _ _ _ _ h ls (lv_sub hl [0, 1, 2, 5, 6] rfl) K
        · have h := hj
          refine lv_icmp_le (tgt := 100) hx hb dX0_doubtful_92 (by decide) (fun c7 => ?_) (fun c7 => ?_)
          · have h := pi_t c7 h
            refine lv_iload_n hx hb dX0_doubtful_100 rfl (lv_at hl 4 rfl) ?_
            cases h
            exact K
          · have h := pi_f c7 h
            refine lv_iload hx hb dX0_doubtful_95 (lv_at hl 2 rfl) ?_
            refine lv_goto (tgt := 101) hx hb dX0_doubtful_97 (by decide) ?_
            cases h
            exact K
      · have h := hj
        refine lv_icmp_ne (tgt := 65) hx hb dX0_doubtful_58 (by decide) (fun c4 => ?_) (fun c4 => ?_)
        · have h := pi_f c4 h
          refine lv_aload hx hb dX0_doubtful_65 (lv_at hl 0 rfl) ?_
          refine va_getN (ci := 4) (v := .int (vP v3)) (C := RX4) (T := TX4) (N := 5) hx hb hts in_X4 hown hG.K (le_t (sy_l hP) e3) 0 rfl rfl 2 (by decide) (nf_LectureTurns_262 hG) (fun _ h9 => h9) rfl dX0_doubtful_67 ?_
          refine lv_aload_n hx hb dX0_doubtful_70 rfl (lv_at hl 4 rfl) ?_
          refine va_get (ci := 0) (v := .ref (lL a)) (C := RX0) (T := TX0) (N := 3) hx hb hts in_X0 hown hG.K (sy_o hP) 0 rfl rfl 0 (by decide) (hts _ q220) (fun _ h9 => h9) rfl dX0_doubtful_71 ?_
          refine va_getN (ci := 1) (v := .ref (lP a)) (C := RX1) (T := TX1) (N := 4) hx hb hts in_X1 hown hG.K (le_o (sy_l hP)) 0 rfl rfl 1 (by decide) (nf_LectureTurns_211 hG) (fun _ h9 => h9) rfl dX0_doubtful_74 ?_
          refine lv_aload hx hb dX0_doubtful_77 (lv_at hl 0 rfl) ?_
          refine va_getN (ci := 4) (v := .int (vS v3)) (C := RX4) (T := TX4) (N := 5) hx hb hts in_X4 hown hG.K (le_t (sy_l hP) e3) 0 rfl rfl 3 (by decide) (nf_LectureTurns_174 hG) (fun _ h9 => h9) rfl dX0_doubtful_79 ?_
          obtain ⟨g5, h⟩ := pg_some h
          refine va_iald hx hb hG.K (le_p (sy_l hP)) 0 0 rfl rfl g5 dX0_doubtful_82 ?_
          refine lv_isub hx hb dX0_doubtful_83 ?_
          refine va_mabs hx hb (hml.trans hl.1.symm) hown (hts _ q934) (hts _ q532) (hts _ q83) (hts _ q533) (Nat.le_of_ble_eq_true rfl) (Nat.le_of_ble_eq_true rfl) (Nat.le_of_ble_eq_true rfl) (Nat.le_of_ble_eq_true rfl) dX0_doubtful_84 ?_
          cases h
          exact K
        · have h := pi_t c4 h
          refine lv_iconst (v := -1) hx hb dX0_doubtful_61 (by decide) ?_
          refine lv_goto (tgt := 87) hx hb dX0_doubtful_62 (by decide) ?_
          cases h
          exact K
set_option maxHeartbeats 4000000 in
set_option maxRecDepth 100000 in
theorem met_X0_doubtful {l : Launch} {k : Cx} {a : LA} {T : List TT} {vs : List TV} {pit cor : Nat → Int32} {tol : Int32} {sy hi tx : Nat} {nf : Nat} {x1 : Int32} {r : Int32} (hvs : T.map Prod.snd = vs) (hO : leOk k a T) (h : m_X0_doubtful nf vs pit  x1 = some r) : Met l yX0_doubtful (ws_ yX0_doubtful cX0_doubtful 7 (some .int)) ({ frames := 5, cells := 0, slots := 0, locals := 97 } : Room) (gPc [.ref sy, .int x1] k (syO sy a hi tx :: leW k a T pit cor tol)) (QcV (some (.int r))) 0 0 (fun _ => False) := by
  refine Met.ofW (cc := cX0_doubtful) (maxL := 7) (ret := (some .int)) (by decide) rfl ?_
  intro p e s m args below meth c s₁ B hml hv
  obtain ⟨rfl, hP, hG⟩ := hv
  have hx := B.exec
  have hb := B.bytes
  have hr := B.returns
  have hts := atoms_spec (ws := ws_ yX0_doubtful cX0_doubtful 7 (some .int)) B.pre
  have hts : ∀ w ∈ lw_all, w.before _ s = true := fun w h => hts w (List.mem_cons_of_mem _ h)
  have hown : s.vm.findClass RX0 = some m.cls := findClass_of_methodNamed B.named
  have hlocks := B.notSynchronized
  have hSa : va_S (Ab k) s.heap s.heap [] := va_S.rf
  have hl := lv_entry ([.ref sy, .int x1]) (n := 7) (Nat.le_of_ble_eq_true rfl)
  rw [lg_entry_eq]
  generalize (lg_sl ([.ref sy, .int x1]) ++ List.replicate (7 - (lg_sl ([.ref sy, .int x1])).length) Slot.unset).toArray = ls at hl ⊢
  have hl : lv_has ls 7 [(0, .ref sy), (1, .int x1)] := hl
  unfold m_X0_doubtful at h
  refine lv_iload_n hx hb dX0_doubtful_0 rfl (lv_at hl 1 rfl) ?_
  refine lv_i2l hx hb dX0_doubtful_1 rfl ?_
  refine lv_lconst (v := 0) hx hb dX0_doubtful_2 (by decide) ?_
  refine lv_lconst (v := 1) hx hb dX0_doubtful_3 (by decide) ?_
  obtain ⟨b2, e1, h⟩ := pb_some h
  refine c_call (va_runS (As := [.long x1.toInt64, .long (0 : Int64), .long (1 : Int64)]) (rest := []) ⟨hx, hb, hml, hown, hts⟩ (met_X0_isBetween e1) (va_cwS 3 hts (lw_S q454 q446 q66 q447) rfl rfl rfl hd_X0_isBetween ⟨Nat.le_of_ble_eq_true rfl, Nat.le_of_ble_eq_true rfl⟩) m_preS rfl rfl hl.1 rfl (lv_room (Nat.le_of_ble_eq_true rfl)) dX0_doubtful_4 ⟨Nat.le_of_ble_eq_true rfl, Nat.le_of_ble_eq_true rfl⟩) ?_
  refine lv_if_ne (tgt := 13) hx hb dX0_doubtful_7 (by decide) (fun c3 => ?_) (fun c3 => ?_)
  · have h := pi_f c3 h
    refine lv_iconst (v := -1) hx hb dX0_doubtful_13 (by decide) ?_
    refine lv_istore_n (lv' := [(2, .int (-1 : Int32)), (0, .ref sy), (1, .int x1)]) hx hb dX0_doubtful_14 rfl hl (by decide) rfl (fun ls hl => ?_)
    refine lv_iconst (v := -1) hx hb dX0_doubtful_15 (by decide) ?_
    refine lv_istore_n (lv' := [(3, .int (-1 : Int32)), (2, .int (-1 : Int32)), (0, .ref sy), (1, .int x1)]) hx hb dX0_doubtful_16 rfl hl (by decide) rfl (fun ls hl => ?_)
    refine lv_iconst (v := 0) hx hb dX0_doubtful_17 (by decide) ?_
    refine lv_istore (lv' := [(4, .int (0 : Int32)), (3, .int (-1 : Int32)), (2, .int (-1 : Int32)), (0, .ref sy), (1, .int x1)]) hx hb dX0_doubtful_18 hl (by decide) rfl (fun ls hl => ?_)
    obtain ⟨⟨o4, o5⟩, e501, h⟩ := pb_some h
    refine lp_X0_doubtful_1 hx hb hml hown hts hG hSa hP hvs hO _ _ _ _ _ _ e501 ls (lv_sub hl [0, 1, 2, 3, 4] rfl) (fun ls hl => ?_)
    refine lv_iload_n hx hb dX0_doubtful_115 rfl (lv_at hl 3 rfl) ?_
    obtain ⟨j7, hj, h⟩ := pb_some h
    refine W.cut (g' := F0 m 124 ls [.int j7]) ?_ (fun K => ?_)
    · obtain ⟨r9, e8, h⟩ := pb_some h
      refine c_call (va_runS (As := [.int j7]) (rest := []) ⟨hx, hb, hml, hown, hts⟩ (met_X0_orNotFound e8) (va_cwS 1 hts (lw_S q780 q781 q66 q782) rfl rfl rfl hd_X0_orNotFound ⟨Nat.le_of_ble_eq_true rfl, Nat.le_of_ble_eq_true rfl⟩) m_preS rfl rfl hl.1 rfl (lv_room (Nat.le_of_ble_eq_true rfl)) dX0_doubtful_124 ⟨Nat.le_of_ble_eq_true rfl, Nat.le_of_ble_eq_true rfl⟩) ?_
      cases h
      exact W.iret hx hb hr (fun t ht hW => c_ret ht) (fun q hq => absurd hq List.not_mem_nil) dX0_doubtful_127
    · have h := hj
      refine lv_if_ne (tgt := 123) hx hb dX0_doubtful_116 (by decide) (fun c6 => ?_) (fun c6 => ?_)
      · have h := pi_f c6 h
        refine lv_iload_n hx hb dX0_doubtful_123 rfl (lv_at hl 0 rfl) ?_
        cases h
        exact K
      · have h := pi_t c6 h
        refine lv_iload_n hx hb dX0_doubtful_119 rfl (lv_at hl 1 rfl) ?_
        refine lv_goto (tgt := 124) hx hb dX0_doubtful_120 (by decide) ?_
        cases h
        exact K
  · have h := pi_t c3 h
    refine lv_ldc hx hb hown (hts _ q758) dX0_doubtful_10 ?_
    cases h
    exact W.iret hx hb hr (fun t ht hW => c_ret ht) (fun q hq => absurd hq List.not_mem_nil) dX0_doubtful_12
theorem hd_X0_secondsWith : yX0_secondsWith.cls ≠ "java/lang/invoke/MethodHandle" ∧ yX0_secondsWith.cls ≠ "java/lang/invoke/VarHandle" ∧ (parseMethodDescriptor yX0_secondsWith.desc).map (fun d => d.parameters.length) = some 1 := by decide +kernel
set_option maxHeartbeats 4000000 in
set_option maxRecDepth 100000 in
theorem lp_X0_secondsWith_1 {p : Program} {l : Launch} {e : Env} {s : State} {m : MethodId} {args : Array Value} {below : List Frame} {meth : Method} {c : Code} {Q : State → Prop} {H : Heap} {locs : List Loc} {k : Cx} {a : LA} {T : List TT} {vs : List TV} {pit cor : Nat → Int32} {tol : Int32} {sy hi tx : Nat}  (hx : p.tables.exec = Jvm.exec) (hb : c.code = cX0_secondsWith) (hml : c.maxLocals = 4) (hown : s.vm.findClass RX0 = some m.cls) (hts : ∀ w ∈ lw_all, w.before args s = true) (hG : GU k s) (hSa : va_S (Ab k) s.heap H locs) (hP : va_P (kD k) gCl (syO sy a hi tx :: leW k a T pit cor tol) H) (hvs : T.map Prod.snd = vs) (hO : leOk k a T) {x1 : Int32} (nf : Nat) : ∀ (n : Nat) (y3 : Int32) (y2 : Int32) (z : Int32), m_X0_secondsWith_L1 nf vs x1 n y3 y2 = some z → ∀ ls : Array Slot, lv_has ls 4 [(3, .int y3), (2, .int y2), (0, .ref sy), (1, .int x1)] → (∀ ls : Array Slot, lv_has ls 4 [(2, .int z), (0, .ref sy), (1, .int x1)] → W p l e ({ frames := 6, cells := 0, slots := 0, locals := 120 } : Room) s m args below meth c H locs 0 0 Q (F0 m 41 ls [])) → W p l e ({ frames := 6, cells := 0, slots := 0, locals := 120 } : Room) s m args below meth c H locs 0 0 Q (F0 m 4 ls []) := by
  intro n
  induction n with
  | zero => intro y3 y2 z h ls hl K; exact absurd h (by simp [m_X0_secondsWith_L1])
  | succ n ih =>
    intro y3 y2 z h ls hl K
    unfold m_X0_secondsWith_L1 at h
    refine lv_iload_n hx hb dX0_secondsWith_4 rfl (lv_at hl 0 rfl) ?_
    refine lv_aload_n hx hb dX0_secondsWith_5 rfl (lv_at hl 2 rfl) ?_
    refine va_get (ci := 0) (v := .ref (lL a)) (C := RX0) (T := TX0) (N := 3) hx hb hts in_X0 hown hG.K (sy_o hP) 0 rfl rfl 0 (by decide) (hts _ q220) (fun _ h9 => h9) rfl dX0_secondsWith_6 ?_
    obtain ⟨r2, e1, h⟩ := pb_some h
    refine c_call (va_runV (As := []) (rest := [.int y3]) ⟨hx, hb, hml, hown, hts⟩ (met_X1_lastEnd hvs hO  e1) (cwV 0 hts (lw_V q924 q925 q926 q67 q927) rfl rfl rfl ⟨rfl, hd_X1_lastEnd⟩ ⟨Nat.le_of_ble_eq_true rfl, Nat.le_of_ble_eq_true rfl⟩) (g_preV hG hSa (sy_l hP) (va_recv hG.K (le_o (sy_l hP)) (ci := 1) (q0 := 0) rfl rfl)) rfl rfl hl.1 rfl (lv_room (Nat.le_of_ble_eq_true rfl)) dX0_secondsWith_9 ⟨Nat.le_of_ble_eq_true rfl, Nat.le_of_ble_eq_true rfl⟩) ?_
    refine lv_icmp_ge (tgt := 41) hx hb dX0_secondsWith_12 (by decide) (fun c3 => ?_) (fun c3 => ?_)
    · have h := pi_t c3 h
      cases h
      exact K ls (lv_sub hl [1, 2, 3] rfl)
    · have h := pi_f c3 h
      refine lv_iload_n hx hb dX0_secondsWith_15 rfl (lv_at hl 1 rfl) ?_
      refine lv_aload_n hx hb dX0_secondsWith_16 rfl (lv_at hl 2 rfl) ?_
      refine va_get (ci := 0) (v := .ref (lL a)) (C := RX0) (T := TX0) (N := 3) hx hb hts in_X0 hown hG.K (sy_o hP) 0 rfl rfl 0 (by decide) (hts _ q220) (fun _ h9 => h9) rfl dX0_secondsWith_17 ?_
      refine lv_iload_n hx hb dX0_secondsWith_20 rfl (lv_at hl 0 rfl) ?_
      obtain ⟨r5, e4, h⟩ := pb_some h
      refine c_call (va_runV (As := [.int y3]) (rest := [.int y2]) ⟨hx, hb, hml, hown, hts⟩ (met_X1_going hvs hO  e4) (cwV 1 hts (lw_V q929 q814 q815 q67 q816) rfl rfl rfl ⟨rfl, hd_X1_going⟩ ⟨Nat.le_of_ble_eq_true rfl, Nat.le_of_ble_eq_true rfl⟩) (g_preV hG hSa (sy_l hP) (va_recv hG.K (le_o (sy_l hP)) (ci := 1) (q0 := 0) rfl rfl)) rfl rfl hl.1 rfl (lv_room (Nat.le_of_ble_eq_true rfl)) dX0_secondsWith_21 ⟨Nat.le_of_ble_eq_true rfl, Nat.le_of_ble_eq_true rfl⟩) ?_
      refine lv_iload_n hx hb dX0_secondsWith_24 rfl (lv_at hl 3 rfl) ?_
      obtain ⟨j7, hj, h⟩ := pb_some h
      refine W.cut (g' := F0 m 33 ls [.int (bi j7), .int y2]) ?_ (fun K => ?_)
      · refine lv_iadd hx hb dX0_secondsWith_33 ?_
        refine lv_istore_n (lv' := [(2, .int (y2 + (bi j7))), (3, .int y3), (0, .ref sy), (1, .int x1)]) hx hb dX0_secondsWith_34 rfl hl (by decide) rfl (fun ls hl => ?_)
        refine lv_iinc (v := (y3 + (1 : Int32))) (lv' := [(3, .int (y3 + (1 : Int32))), (2, .int (y2 + (bi j7))), (0, .ref sy), (1, .int x1)]) hx hb dX0_secondsWith_35 hl (k := 1) rfl (by rfl) (by decide) rfl (fun ls hl => ?_)
        refine lv_goto (tgt := 4) hx hb dX0_secondsWith_38 (by decide) ?_
        exact ih _ _ _ h ls (lv_sub hl [0, 1, 2, 3] rfl) K
      · have h := hj
        refine lv_icmp_lt (tgt := 32) hx hb dX0_secondsWith_25 (by decide) (fun c6 => ?_) (fun c6 => ?_)
        · have h := pi_t c6 h
          refine lv_iconst (v := 0) hx hb dX0_secondsWith_32 (by decide) ?_
          cases h
          exact K
        · have h := pi_f c6 h
          refine lv_iconst (v := 1) hx hb dX0_secondsWith_28 (by decide) ?_
          refine lv_goto (tgt := 33) hx hb dX0_secondsWith_29 (by decide) ?_
          cases h
          exact K
set_option maxHeartbeats 4000000 in
set_option maxRecDepth 100000 in
theorem met_X0_secondsWith {l : Launch} {k : Cx} {a : LA} {T : List TT} {vs : List TV} {pit cor : Nat → Int32} {tol : Int32} {sy hi tx : Nat} {nf : Nat} {x1 : Int32} {r : Int32} (hvs : T.map Prod.snd = vs) (hO : leOk k a T) (h : m_X0_secondsWith nf vs  x1 = some r) : Met l yX0_secondsWith (ws_ yX0_secondsWith cX0_secondsWith 4 (some .int)) ({ frames := 6, cells := 0, slots := 0, locals := 120 } : Room) (gPc [.ref sy, .int x1] k (syO sy a hi tx :: leW k a T pit cor tol)) (QcV (some (.int r))) 0 0 (fun _ => False) := by
  refine Met.ofW (cc := cX0_secondsWith) (maxL := 4) (ret := (some .int)) (by decide) rfl ?_
  intro p e s m args below meth c s₁ B hml hv
  obtain ⟨rfl, hP, hG⟩ := hv
  have hx := B.exec
  have hb := B.bytes
  have hr := B.returns
  have hts := atoms_spec (ws := ws_ yX0_secondsWith cX0_secondsWith 4 (some .int)) B.pre
  have hts : ∀ w ∈ lw_all, w.before _ s = true := fun w h => hts w (List.mem_cons_of_mem _ h)
  have hown : s.vm.findClass RX0 = some m.cls := findClass_of_methodNamed B.named
  have hlocks := B.notSynchronized
  have hSa : va_S (Ab k) s.heap s.heap [] := va_S.rf
  have hl := lv_entry ([.ref sy, .int x1]) (n := 4) (Nat.le_of_ble_eq_true rfl)
  rw [lg_entry_eq]
  generalize (lg_sl ([.ref sy, .int x1]) ++ List.replicate (4 - (lg_sl ([.ref sy, .int x1])).length) Slot.unset).toArray = ls at hl ⊢
  have hl : lv_has ls 4 [(0, .ref sy), (1, .int x1)] := hl
  unfold m_X0_secondsWith at h
  refine lv_iconst (v := 0) hx hb dX0_secondsWith_0 (by decide) ?_
  refine lv_istore_n (lv' := [(2, .int (0 : Int32)), (0, .ref sy), (1, .int x1)]) hx hb dX0_secondsWith_1 rfl hl (by decide) rfl (fun ls hl => ?_)
  refine lv_iconst (v := 0) hx hb dX0_secondsWith_2 (by decide) ?_
  refine lv_istore_n (lv' := [(3, .int (0 : Int32)), (2, .int (0 : Int32)), (0, .ref sy), (1, .int x1)]) hx hb dX0_secondsWith_3 rfl hl (by decide) rfl (fun ls hl => ?_)
  obtain ⟨o1, e501, h⟩ := pb_some h
  refine lp_X0_secondsWith_1 hx hb hml hown hts hG hSa hP hvs hO _ _ _ _ _ e501 ls (lv_sub hl [0, 1, 2, 3] rfl) (fun ls hl => ?_)
  refine lv_iload_n hx hb dX0_secondsWith_41 rfl (lv_at hl 0 rfl) ?_
  cases h
  exact W.iret hx hb hr (fun t ht hW => c_ret ht) (fun q hq => absurd hq List.not_mem_nil) dX0_secondsWith_42
theorem hd_X0_there : yX0_there.cls ≠ "java/lang/invoke/MethodHandle" ∧ yX0_there.cls ≠ "java/lang/invoke/VarHandle" ∧ (parseMethodDescriptor yX0_there.desc).map (fun d => d.parameters.length) = some 1 := by decide +kernel
set_option maxHeartbeats 4000000 in
set_option maxRecDepth 100000 in
theorem lp_X0_there_1 {p : Program} {l : Launch} {e : Env} {s : State} {m : MethodId} {args : Array Value} {below : List Frame} {meth : Method} {c : Code} {Q : State → Prop} {H : Heap} {locs : List Loc} {k : Cx} {a : LA} {T : List TT} {vs : List TV} {pit cor : Nat → Int32} {tol : Int32} {sy hi tx : Nat}  (hx : p.tables.exec = Jvm.exec) (hb : c.code = cX0_there) (hml : c.maxLocals = 5) (hown : s.vm.findClass RX0 = some m.cls) (hts : ∀ w ∈ lw_all, w.before args s = true) (hG : GU k s) (hSa : va_S (Ab k) s.heap H locs) (hP : va_P (kD k) gCl (syO sy a hi tx :: leW k a T pit cor tol) H) (hvs : T.map Prod.snd = vs) (hO : leOk k a T) {x1 : Int32} (nf : Nat) : ∀ (n : Nat) (y3 : Int32) (y2 : Int32) (z : Int32), m_X0_there_L1 nf pit cor x1 n y3 y2 = some z → ∀ ls : Array Slot, lv_has ls 5 [(3, .int y3), (2, .int y2), (0, .ref sy), (1, .int x1)] → (∀ ls : Array Slot, lv_has ls 5 [(2, .int z), (0, .ref sy), (1, .int x1)] → W p l e ({ frames := 3, cells := 0, slots := 0, locals := 58 } : Room) s m args below meth c H locs 0 0 Q (F0 m 66 ls [])) → W p l e ({ frames := 3, cells := 0, slots := 0, locals := 58 } : Room) s m args below meth c H locs 0 0 Q (F0 m 4 ls []) := by
  intro n
  induction n with
  | zero => intro y3 y2 z h ls hl K; exact absurd h (by simp [m_X0_there_L1])
  | succ n ih =>
    intro y3 y2 z h ls hl K
    unfold m_X0_there_L1 at h
    refine lv_iload_n hx hb dX0_there_4 rfl (lv_at hl 0 rfl) ?_
    refine lv_bipush (v := 16) hx hb dX0_there_5 (by decide) ?_
    refine lv_icmp_ge (tgt := 66) hx hb dX0_there_7 (by decide) (fun c1 => ?_) (fun c1 => ?_)
    · have h := pi_t c1 h
      cases h
      exact K ls (lv_sub hl [1, 2, 3] rfl)
    · have h := pi_f c1 h
      refine lv_iload_n hx hb dX0_there_10 rfl (lv_at hl 3 rfl) ?_
      obtain ⟨j7, hj, h⟩ := pb_some h
      refine W.cut (g' := F0 m 43 ls [.int (bi j7)]) ?_ (fun K => ?_)
      · refine lv_istore (lv' := [(4, .int (bi j7)), (3, .int y3), (2, .int y2), (0, .ref sy), (1, .int x1)]) hx hb dX0_there_43 hl (by decide) rfl (fun ls hl => ?_)
        refine lv_iload_n hx hb dX0_there_45 rfl (lv_at hl 2 rfl) ?_
        refine lv_iload hx hb dX0_there_46 (lv_at hl 0 rfl) ?_
        obtain ⟨j9, hj, h⟩ := pb_some h
        refine W.cut (g' := F0 m 58 ls [.int j9, .int y2]) ?_ (fun K => ?_)
        · refine lv_ior hx hb dX0_there_58 ?_
          refine lv_istore_n (lv' := [(2, .int (y2 ||| j9)), (4, .int (bi j7)), (3, .int y3), (0, .ref sy), (1, .int x1)]) hx hb dX0_there_59 rfl hl (by decide) rfl (fun ls hl => ?_)
          refine lv_iinc (v := (y3 + (1 : Int32))) (lv' := [(3, .int (y3 + (1 : Int32))), (2, .int (y2 ||| j9)), (4, .int (bi j7)), (0, .ref sy), (1, .int x1)]) hx hb dX0_there_60 hl (k := 2) rfl (by rfl) (by decide) rfl (fun ls hl => ?_)
          refine lv_goto (tgt := 4) hx hb dX0_there_63 (by decide) ?_
          exact ih _ _ _ h ls (lv_sub hl [0, 1, 3, 4] rfl) K
        · have h := hj
          refine lv_if_eq (tgt := 57) hx hb dX0_there_48 (by decide) (fun c8 => ?_) (fun c8 => ?_)
          · have h := pi_t c8 h
            refine lv_iconst (v := 0) hx hb dX0_there_57 (by decide) ?_
            cases h
            exact K
          · have h := pi_f c8 h
            refine lv_iconst (v := 1) hx hb dX0_there_51 (by decide) ?_
            refine lv_iload_n hx hb dX0_there_52 rfl (lv_at hl 1 rfl) ?_
            refine lv_ishl hx hb dX0_there_53 ?_
            refine lv_goto (tgt := 58) hx hb dX0_there_54 (by decide) ?_
            cases h
            exact K
      · have h := hj
        refine lv_if_eq (tgt := 25) hx hb dX0_there_11 (by decide) (fun c2 => ?_) (fun c2 => ?_)
        · have h := pi_t c2 h
          refine lv_aload_n hx hb dX0_there_25 rfl (lv_at hl 2 rfl) ?_
          refine va_get (ci := 0) (v := .ref (lL a)) (C := RX0) (T := TX0) (N := 3) hx hb hts in_X0 hown hG.K (sy_o hP) 0 rfl rfl 0 (by decide) (hts _ q220) (fun _ h9 => h9) rfl dX0_there_26 ?_
          refine va_getN (ci := 1) (v := .ref (lK a)) (C := RX1) (T := TX1) (N := 4) hx hb hts in_X1 hown hG.K (le_o (sy_l hP)) 0 rfl rfl 2 (by decide) (nf_LectureTurns_182 hG) (fun _ h9 => h9) rfl dX0_there_29 ?_
          refine lv_iload_n hx hb dX0_there_32 rfl (lv_at hl 0 rfl) ?_
          obtain ⟨g3, h⟩ := pg_some h
          refine va_iald hx hb hG.K (le_c (sy_l hP)) 0 0 rfl rfl g3 dX0_there_33 ?_
          refine lv_iconst (v := -1) hx hb dX0_there_34 (by decide) ?_
          refine lv_icmp_eq (tgt := 42) hx hb dX0_there_35 (by decide) (fun c4 => ?_) (fun c4 => ?_)
          · have h := pi_t c4 h
            refine lv_iconst (v := 0) hx hb dX0_there_42 (by decide) ?_
            cases h
            exact K
          · have h := pi_f c4 h
            refine lv_iconst (v := 1) hx hb dX0_there_38 (by decide) ?_
            refine lv_goto (tgt := 43) hx hb dX0_there_39 (by decide) ?_
            cases h
            exact K
        · have h := pi_f c2 h
          refine lv_aload_n hx hb dX0_there_14 rfl (lv_at hl 2 rfl) ?_
          refine va_get (ci := 0) (v := .ref (lL a)) (C := RX0) (T := TX0) (N := 3) hx hb hts in_X0 hown hG.K (sy_o hP) 0 rfl rfl 0 (by decide) (hts _ q220) (fun _ h9 => h9) rfl dX0_there_15 ?_
          refine lv_iload_n hx hb dX0_there_18 rfl (lv_at hl 0 rfl) ?_
          obtain ⟨b6, e5, h⟩ := pb_some h
          refine c_call (va_runV (As := [.int y3]) (rest := []) ⟨hx, hb, hml, hown, hts⟩ (met_X1_isSpeaker hvs hO  e5) (cwV 1 hts (lw_V q862 q660 q661 q67 q662) rfl rfl rfl ⟨rfl, hd_X1_isSpeaker⟩ ⟨Nat.le_of_ble_eq_true rfl, Nat.le_of_ble_eq_true rfl⟩) (g_preV hG hSa (sy_l hP) (va_recv hG.K (le_o (sy_l hP)) (ci := 1) (q0 := 0) rfl rfl)) rfl rfl hl.1 rfl (lv_room (Nat.le_of_ble_eq_true rfl)) dX0_there_19 ⟨Nat.le_of_ble_eq_true rfl, Nat.le_of_ble_eq_true rfl⟩) ?_
          refine lv_goto (tgt := 43) hx hb dX0_there_22 (by decide) ?_
          cases h
          exact K
set_option maxHeartbeats 4000000 in
set_option maxRecDepth 100000 in
theorem met_X0_there {l : Launch} {k : Cx} {a : LA} {T : List TT} {vs : List TV} {pit cor : Nat → Int32} {tol : Int32} {sy hi tx : Nat} {nf : Nat} {x1 : Int32} {r : Int32} (hvs : T.map Prod.snd = vs) (hO : leOk k a T) (h : m_X0_there nf pit cor  x1 = some r) : Met l yX0_there (ws_ yX0_there cX0_there 5 (some .int)) ({ frames := 3, cells := 0, slots := 0, locals := 58 } : Room) (gPc [.ref sy, .int x1] k (syO sy a hi tx :: leW k a T pit cor tol)) (QcV (some (.int r))) 0 0 (fun _ => False) := by
  refine Met.ofW (cc := cX0_there) (maxL := 5) (ret := (some .int)) (by decide) rfl ?_
  intro p e s m args below meth c s₁ B hml hv
  obtain ⟨rfl, hP, hG⟩ := hv
  have hx := B.exec
  have hb := B.bytes
  have hr := B.returns
  have hts := atoms_spec (ws := ws_ yX0_there cX0_there 5 (some .int)) B.pre
  have hts : ∀ w ∈ lw_all, w.before _ s = true := fun w h => hts w (List.mem_cons_of_mem _ h)
  have hown : s.vm.findClass RX0 = some m.cls := findClass_of_methodNamed B.named
  have hlocks := B.notSynchronized
  have hSa : va_S (Ab k) s.heap s.heap [] := va_S.rf
  have hl := lv_entry ([.ref sy, .int x1]) (n := 5) (Nat.le_of_ble_eq_true rfl)
  rw [lg_entry_eq]
  generalize (lg_sl ([.ref sy, .int x1]) ++ List.replicate (5 - (lg_sl ([.ref sy, .int x1])).length) Slot.unset).toArray = ls at hl ⊢
  have hl : lv_has ls 5 [(0, .ref sy), (1, .int x1)] := hl
  unfold m_X0_there at h
  refine lv_iconst (v := 0) hx hb dX0_there_0 (by decide) ?_
  refine lv_istore_n (lv' := [(2, .int (0 : Int32)), (0, .ref sy), (1, .int x1)]) hx hb dX0_there_1 rfl hl (by decide) rfl (fun ls hl => ?_)
  refine lv_iconst (v := 0) hx hb dX0_there_2 (by decide) ?_
  refine lv_istore_n (lv' := [(3, .int (0 : Int32)), (2, .int (0 : Int32)), (0, .ref sy), (1, .int x1)]) hx hb dX0_there_3 rfl hl (by decide) rfl (fun ls hl => ?_)
  obtain ⟨o1, e501, h⟩ := pb_some h
  refine lp_X0_there_1 hx hb hml hown hts hG hSa hP hvs hO _ _ _ _ _ e501 ls (lv_sub hl [0, 1, 2, 3] rfl) (fun ls hl => ?_)
  refine lv_iload_n hx hb dX0_there_66 rfl (lv_at hl 0 rfl) ?_
  cases h
  exact W.iret hx hb hr (fun t ht hW => c_ret ht) (fun q hq => absurd hq List.not_mem_nil) dX0_there_67
theorem hd_X0_sum : yX0_sum.cls ≠ "java/lang/invoke/MethodHandle" ∧ yX0_sum.cls ≠ "java/lang/invoke/VarHandle" ∧ (parseMethodDescriptor yX0_sum.desc).map (fun d => d.parameters.length) = some 1 := by decide +kernel
set_option maxHeartbeats 4000000 in
set_option maxRecDepth 100000 in
theorem lp_X0_sum_1 {p : Program} {l : Launch} {e : Env} {s : State} {m : MethodId} {args : Array Value} {below : List Frame} {meth : Method} {c : Code} {Q : State → Prop} {H : Heap} {locs : List Loc} {k : Cx} {a : LA} {T : List TT} {vs : List TV} {pit cor : Nat → Int32} {tol : Int32} {sy hi tx : Nat}  (hx : p.tables.exec = Jvm.exec) (hb : c.code = cX0_sum) (hml : c.maxLocals = 5) (hown : s.vm.findClass RX0 = some m.cls) (hts : ∀ w ∈ lw_all, w.before args s = true) (hG : GU k s) (hSa : va_S (Ab k) s.heap H locs) (hP : va_P (kD k) gCl (syO sy a hi tx :: leW k a T pit cor tol) H) (hvs : T.map Prod.snd = vs) (hO : leOk k a T) (hN : (tads T).Nodup) {x1 : Int32} (nf : Nat) : ∀ (n : Nat) (y3 : Int32) (y2 : Int32) (z : Int32), m_X0_sum_L1 nf vs x1 n y3 y2 = some z → ∀ ls : Array Slot, lv_has ls 5 [(3, .int y3), (2, .int y2), (0, .ref sy), (1, .int x1)] → (∀ ls : Array Slot, lv_has ls 5 [(2, .int z), (0, .ref sy), (1, .int x1)] → W p l e ({ frames := 6, cells := 0, slots := 0, locals := 120 } : Room) s m args below meth c H locs 0 0 Q (F0 m 93 ls [])) → W p l e ({ frames := 6, cells := 0, slots := 0, locals := 120 } : Room) s m args below meth c H locs 0 0 Q (F0 m 4 ls []) := by
  intro n
  induction n with
  | zero => intro y3 y2 z h ls hl K; exact absurd h (by simp [m_X0_sum_L1])
  | succ n ih =>
    intro y3 y2 z h ls hl K
    unfold m_X0_sum_L1 at h
    refine lv_iload_n hx hb dX0_sum_4 rfl (lv_at hl 0 rfl) ?_
    refine lv_aload_n hx hb dX0_sum_5 rfl (lv_at hl 2 rfl) ?_
    refine va_get (ci := 0) (v := .ref (lL a)) (C := RX0) (T := TX0) (N := 3) hx hb hts in_X0 hown hG.K (sy_o hP) 0 rfl rfl 0 (by decide) (hts _ q220) (fun _ h9 => h9) rfl dX0_sum_6 ?_
    refine va_getN (ci := 1) (v := .ref (lS a)) (C := RX1) (T := TX1) (N := 4) hx hb hts in_X1 hown hG.K (le_o (sy_l hP)) 0 rfl rfl 0 (by decide) (nf_LectureTurns_132 hG) (fun _ h9 => h9) rfl dX0_sum_9 ?_
    refine c_call (va_runV (As := []) (rest := [.int y3]) ⟨hx, hb, hml, hown, hts⟩ (met_X2_size (n := vs.length) (by rw [← hvs]; simp)) (cwV 0 hts (lw_V q853 q244 q245 q68 q246) rfl rfl rfl ⟨rfl, hd_X2_size⟩ ⟨Nat.le_of_ble_eq_true rfl, Nat.le_of_ble_eq_true rfl⟩) (g_preV hG hSa (le_st (sy_l hP)) (va_recv hG.K (le_s (sy_l hP)) (ci := 2) (q0 := 0) rfl rfl)) rfl rfl hl.1 rfl (lv_room (Nat.le_of_ble_eq_true rfl)) dX0_sum_12 ⟨Nat.le_of_ble_eq_true rfl, Nat.le_of_ble_eq_true rfl⟩) ?_
    refine lv_icmp_ge (tgt := 93) hx hb dX0_sum_15 (by decide) (fun c2 => ?_) (fun c2 => ?_)
    · have h := pi_t c2 h
      cases h
      exact K ls (lv_sub hl [1, 2, 3] rfl)
    · have h := pi_f c2 h
      refine lv_aload_n hx hb dX0_sum_18 rfl (lv_at hl 2 rfl) ?_
      refine va_get (ci := 0) (v := .ref (lL a)) (C := RX0) (T := TX0) (N := 3) hx hb hts in_X0 hown hG.K (sy_o hP) 0 rfl rfl 0 (by decide) (hts _ q220) (fun _ h9 => h9) rfl dX0_sum_19 ?_
      refine va_getN (ci := 1) (v := .ref (lS a)) (C := RX1) (T := TX1) (N := 4) hx hb hts in_X1 hown hG.K (le_o (sy_l hP)) 0 rfl rfl 0 (by decide) (nf_LectureTurns_132 hG) (fun _ h9 => h9) rfl dX0_sum_22 ?_
      refine lv_iload_n hx hb dX0_sum_25 rfl (lv_at hl 0 rfl) ?_
      obtain ⟨v3, e3, h⟩ := pb_some h
      obtain ⟨a3, e3, q3⟩ := pAt_T hvs e3
      refine c_call (va_runV (As := [.int y3]) (rest := []) ⟨hx, hb, hml, hown, hts⟩ (met_X2_at (t := (a3, v3)) hO.1 q3) (cwV 1 hts (lw_V q765 q254 q255 q68 q256) rfl rfl rfl ⟨rfl, hd_X2_at⟩ ⟨Nat.le_of_ble_eq_true rfl, Nat.le_of_ble_eq_true rfl⟩) (g_preV hG hSa (va_P.cons (le_t (sy_l hP) e3) (le_st (sy_l hP))) (va_recv hG.K (le_s (sy_l hP)) (ci := 2) (q0 := 0) rfl rfl)) rfl rfl hl.1 rfl (lv_room (Nat.le_of_ble_eq_true rfl)) dX0_sum_26 ⟨Nat.le_of_ble_eq_true rfl, Nat.le_of_ble_eq_true rfl⟩) ?_
      refine va_castS hx hb hown (hts _ q766) (hG.K.1 4 _ rfl).2 (va_recv hG.K (le_t (sy_l hP) e3) (ci := 4) (q0 := 0) rfl rfl) dX0_sum_29 ?_
      refine lv_astore (lv' := [(4, .ref (aT a3)), (3, .int y3), (2, .int y2), (0, .ref sy), (1, .int x1)]) hx hb dX0_sum_32 hl (by decide) rfl (fun ls hl => ?_)
      refine lv_iload_n hx hb dX0_sum_34 rfl (lv_at hl 2 rfl) ?_
      refine lv_iload_n hx hb dX0_sum_35 rfl (lv_at hl 4 rfl) ?_
      refine lv_iconst (v := 2) hx hb dX0_sum_36 (by decide) ?_
      obtain ⟨j12, hj, h⟩ := pb_some h
      refine W.cut (g' := F0 m 85 ls [.int j12, .int y2]) ?_ (fun K => ?_)
      · refine lv_iadd hx hb dX0_sum_85 ?_
        refine lv_istore_n (lv' := [(2, .int (y2 + j12)), (4, .ref (aT a3)), (3, .int y3), (0, .ref sy), (1, .int x1)]) hx hb dX0_sum_86 rfl hl (by decide) rfl (fun ls hl => ?_)
        refine lv_iinc (v := (y3 + (1 : Int32))) (lv' := [(3, .int (y3 + (1 : Int32))), (2, .int (y2 + j12)), (4, .ref (aT a3)), (0, .ref sy), (1, .int x1)]) hx hb dX0_sum_87 hl (k := 2) rfl (by rfl) (by decide) rfl (fun ls hl => ?_)
        refine lv_goto (tgt := 4) hx hb dX0_sum_90 (by decide) ?_
        exact ih _ _ _ h ls (lv_sub hl [0, 1, 3, 4] rfl) K
      · have h := hj
        refine lv_icmp_ne (tgt := 51) hx hb dX0_sum_37 (by decide) (fun c4 => ?_) (fun c4 => ?_)
        · have h := pi_f c4 h
          refine lv_iload_n hx hb dX0_sum_51 rfl (lv_at hl 4 rfl) ?_
          refine lv_iconst (v := 4) hx hb dX0_sum_52 (by decide) ?_
          refine lv_icmp_ne (tgt := 73) hx hb dX0_sum_53 (by decide) (fun c5 => ?_) (fun c5 => ?_)
          · have h := pi_f c5 h
            refine lv_aload_n hx hb dX0_sum_73 rfl (lv_at hl 3 rfl) ?_
            refine va_get (ci := 0) (v := .ref (lL a)) (C := RX0) (T := TX0) (N := 3) hx hb hts in_X0 hown hG.K (sy_o hP) 0 rfl rfl 0 (by decide) (hts _ q220) (fun _ h9 => h9) rfl dX0_sum_74 ?_
            refine lv_aload hx hb dX0_sum_77 (lv_at hl 0 rfl) ?_
            obtain ⟨r7, e6, h⟩ := pb_some h
            refine c_call (va_runV (As := [.ref (aT a3)]) (rest := [.int y2]) ⟨hx, hb, hml, hown, hts⟩ (met_X1_meeting hvs hO hN e3 e6) (cwV 1 hts (lw_V q789 q790 q791 q67 q792) rfl rfl rfl ⟨rfl, hd_X1_meeting⟩ ⟨Nat.le_of_ble_eq_true rfl, Nat.le_of_ble_eq_true rfl⟩) (g_preV hG hSa (sy_l hP) (va_recv hG.K (le_o (sy_l hP)) (ci := 1) (q0 := 0) rfl rfl)) rfl rfl hl.1 rfl (lv_room (Nat.le_of_ble_eq_true rfl)) dX0_sum_79 ⟨Nat.le_of_ble_eq_true rfl, Nat.le_of_ble_eq_true rfl⟩) ?_
            obtain ⟨r9, e8, h⟩ := pb_some h
            refine c_call (va_runS (As := [.int r7]) (rest := [.int y2]) ⟨hx, hb, hml, hown, hts⟩ (met_J17_bitCount e8) (va_cwS 1 hts (lw_S q943 q944 q90 q945) rfl rfl rfl hd_J17_bitCount ⟨Nat.le_of_ble_eq_true rfl, Nat.le_of_ble_eq_true rfl⟩) m_preS rfl rfl hl.1 rfl (lv_room (Nat.le_of_ble_eq_true rfl)) dX0_sum_82 ⟨Nat.le_of_ble_eq_true rfl, Nat.le_of_ble_eq_true rfl⟩) ?_
            cases h
            exact K
          · have h := pi_t c5 h
            refine lv_aload hx hb dX0_sum_56 (lv_at hl 0 rfl) ?_
            refine va_getN (ci := 4) (v := .int (vS v3)) (C := RX4) (T := TX4) (N := 5) hx hb hts in_X4 hown hG.K (le_t (sy_l hP) e3) 0 rfl rfl 3 (by decide) (nf_LectureTurns_174 hG) (fun _ h9 => h9) rfl dX0_sum_58 ?_
            refine lv_iconst (v := -1) hx hb dX0_sum_61 (by decide) ?_
            refine lv_icmp_ne (tgt := 69) hx hb dX0_sum_62 (by decide) (fun c10 => ?_) (fun c10 => ?_)
            · have h := pi_f c10 h
              refine lv_iconst (v := 0) hx hb dX0_sum_69 (by decide) ?_
              refine lv_goto (tgt := 85) hx hb dX0_sum_70 (by decide) ?_
              cases h
              exact K
            · have h := pi_t c10 h
              refine lv_iconst (v := 1) hx hb dX0_sum_65 (by decide) ?_
              refine lv_goto (tgt := 85) hx hb dX0_sum_66 (by decide) ?_
              cases h
              exact K
        · have h := pi_t c4 h
          refine lv_aload hx hb dX0_sum_40 (lv_at hl 0 rfl) ?_
          refine va_getN (ci := 4) (v := .ref (aL a3)) (C := RX4) (T := TX4) (N := 5) hx hb hts in_X4 hown hG.K (le_t (sy_l hP) e3) 0 rfl rfl 4 (by decide) (nf_LectureTurns_150 hG) (fun _ h9 => h9) rfl dX0_sum_42 ?_
          refine c_call (va_runV (As := []) (rest := [.int y2]) ⟨hx, hb, hml, hown, hts⟩ (met_J2_size (n := (vT v3).length) (by simp)) (cwV 0 hts (lw_V q786 q248 q249 q71 q250) rfl rfl rfl ⟨rfl, hd_J2_size⟩ ⟨Nat.le_of_ble_eq_true rfl, Nat.le_of_ble_eq_true rfl⟩) (g_preV hG hSa (tu_l (le_tw (sy_l hP) e3)) (va_recv hG.K (tu_l (le_tw (sy_l hP) e3)) (ci := 9) (q0 := 0) rfl rfl)) rfl rfl hl.1 rfl (lv_room (Nat.le_of_ble_eq_true rfl)) dX0_sum_45 ⟨Nat.le_of_ble_eq_true rfl, Nat.le_of_ble_eq_true rfl⟩) ?_
          refine lv_goto (tgt := 85) hx hb dX0_sum_48 (by decide) ?_
          cases h
          exact K
set_option maxHeartbeats 4000000 in
set_option maxRecDepth 100000 in
theorem met_X0_sum {l : Launch} {k : Cx} {a : LA} {T : List TT} {vs : List TV} {pit cor : Nat → Int32} {tol : Int32} {sy hi tx : Nat} {nf : Nat} {x1 : Int32} {r : Int32} (hvs : T.map Prod.snd = vs) (hO : leOk k a T) (hN : (tads T).Nodup) (h : m_X0_sum nf vs  x1 = some r) : Met l yX0_sum (ws_ yX0_sum cX0_sum 5 (some .int)) ({ frames := 6, cells := 0, slots := 0, locals := 120 } : Room) (gPc [.ref sy, .int x1] k (syO sy a hi tx :: leW k a T pit cor tol)) (QcV (some (.int r))) 0 0 (fun _ => False) := by
  refine Met.ofW (cc := cX0_sum) (maxL := 5) (ret := (some .int)) (by decide) rfl ?_
  intro p e s m args below meth c s₁ B hml hv
  obtain ⟨rfl, hP, hG⟩ := hv
  have hx := B.exec
  have hb := B.bytes
  have hr := B.returns
  have hts := atoms_spec (ws := ws_ yX0_sum cX0_sum 5 (some .int)) B.pre
  have hts : ∀ w ∈ lw_all, w.before _ s = true := fun w h => hts w (List.mem_cons_of_mem _ h)
  have hown : s.vm.findClass RX0 = some m.cls := findClass_of_methodNamed B.named
  have hlocks := B.notSynchronized
  have hSa : va_S (Ab k) s.heap s.heap [] := va_S.rf
  have hl := lv_entry ([.ref sy, .int x1]) (n := 5) (Nat.le_of_ble_eq_true rfl)
  rw [lg_entry_eq]
  generalize (lg_sl ([.ref sy, .int x1]) ++ List.replicate (5 - (lg_sl ([.ref sy, .int x1])).length) Slot.unset).toArray = ls at hl ⊢
  have hl : lv_has ls 5 [(0, .ref sy), (1, .int x1)] := hl
  unfold m_X0_sum at h
  refine lv_iconst (v := 0) hx hb dX0_sum_0 (by decide) ?_
  refine lv_istore_n (lv' := [(2, .int (0 : Int32)), (0, .ref sy), (1, .int x1)]) hx hb dX0_sum_1 rfl hl (by decide) rfl (fun ls hl => ?_)
  refine lv_iconst (v := 0) hx hb dX0_sum_2 (by decide) ?_
  refine lv_istore_n (lv' := [(3, .int (0 : Int32)), (2, .int (0 : Int32)), (0, .ref sy), (1, .int x1)]) hx hb dX0_sum_3 rfl hl (by decide) rfl (fun ls hl => ?_)
  obtain ⟨o1, e501, h⟩ := pb_some h
  refine lp_X0_sum_1 hx hb hml hown hts hG hSa hP hvs hO hN _ _ _ _ _ e501 ls (lv_sub hl [0, 1, 2, 3] rfl) (fun ls hl => ?_)
  refine lv_iload_n hx hb dX0_sum_93 rfl (lv_at hl 2 rfl) ?_
  refine lv_iconst (v := 5) hx hb dX0_sum_94 (by decide) ?_
  refine lv_icmp_ne (tgt := 104) hx hb dX0_sum_95 (by decide) (fun c2 => ?_) (fun c2 => ?_)
  · have h := pi_f c2 h
    refine lv_iload_n hx hb dX0_sum_104 rfl (lv_at hl 0 rfl) ?_
    cases h
    exact W.iret hx hb hr (fun t ht hW => c_ret ht) (fun q hq => absurd hq List.not_mem_nil) dX0_sum_105
  · have h := pi_t c2 h
    refine lv_iload_n hx hb dX0_sum_98 rfl (lv_at hl 0 rfl) ?_
    refine lv_iconst (v := 2) hx hb dX0_sum_99 (by decide) ?_
    refine lv_idiv hx hb dX0_sum_100 (by decide) ?_
    refine lv_goto (tgt := 105) hx hb dX0_sum_101 (by decide) ?_
    cases h
    exact W.iret hx hb hr (fun t ht hW => c_ret ht) (fun q hq => absurd hq List.not_mem_nil) dX0_sum_105
