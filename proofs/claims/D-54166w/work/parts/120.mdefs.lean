/-! LectureTurnsModel: its methods as functions (printed by wip/gen/gen_model.py out of the decode rows) -/
def m_J18_isNaN  (x0 : UInt32) : Option Bool :=
  if (Op.cmpValue (FP.fcmp x0 x0) .l) = 0 then
    some false
  else
    some true
def m_J18_floatToIntBits  (x0 : UInt32) : Option Int32 :=
  pb (m_J18_isNaN x0) <| fun b2 =>
  if (bi b2) = 0 then
    some ((x0).toInt32)
  else
    some (2143289344 : Int32)
def m_changes_L1 (nf : Nat)   : Nat → Int32 → (Nat → Int32) → Option (Nat → Int32)
  | 0, _, _ => none
  | n + 1, y1, past =>
    if (852 : Int32) ≤ y1 then
      some past
    else
      pg (¬ ((y1 + (284 : Int32)) < 0 ∨ 1136 ≤ (y1 + (284 : Int32)).toNatClampNeg)) <|
      pg (¬ (y1 < 0 ∨ 1136 ≤ y1.toNatClampNeg)) <|
      m_changes_L1 nf  n (y1 + (1 : Int32)) (upd past y1.toNatClampNeg (past (y1 + (284 : Int32)).toNatClampNeg))
def m_changes_L2 (nf : Nat) (sA : Nat → Int32) (pasts : Int32)  : Nat → Int32 → (Nat → Int32) → Option (Nat → Int32)
  | 0, _, _ => none
  | n + 1, y1, past =>
    if (284 : Int32) ≤ y1 then
      some past
    else
      pg (¬ (y1 < 0 ∨ 284 ≤ y1.toNatClampNeg)) <|
      pg (¬ ((((284 : Int32) * pasts) + y1) < 0 ∨ 1136 ≤ (((284 : Int32) * pasts) + y1).toNatClampNeg)) <|
      m_changes_L2 nf sA pasts n (y1 + (1 : Int32)) (upd past (((284 : Int32) * pasts) + y1).toNatClampNeg (sA y1.toNatClampNeg))
def m_changes (nf : Nat) (sA : Nat → Int32) (past : Nat → Int32) (pasts : Int32) (runs : Int32)  : Option ((Nat → Int32) × Int32) :=
  if runs = 0 then
    pb (
      if pasts = (4 : Int32) then
        pb (m_changes_L1 nf  nf (0 : Int32) past) <| fun past_3 =>
        some (past_3, (pasts - (1 : Int32)))
      else
        some (past, pasts)) <| fun (past_4, pasts_5) =>
    pb (m_changes_L2 nf sA pasts_5 nf (0 : Int32) past_4) <| fun past_6 =>
    some (past_6, (pasts_5 + (1 : Int32)))
  else
    some (past, pasts)
def m_in  (x0 : Int32) (x1 : Int32) (x2 : Int32) : Option Bool :=
  if x0 < x1 then
    some false
  else
    if x2 < x0 then
      some false
    else
      some true
def m_of (sA : Nat → Int32) (x1 : Int32) (x2 : Int32) : Option Int32 :=
  pg (¬ ((((13 : Int32) * x1) + x2) < 0 ∨ 284 ≤ (((13 : Int32) * x1) + x2).toNatClampNeg)) <|
  some (sA (((13 : Int32) * x1) + x2).toNatClampNeg)
def m_opens_L1 (nf : Nat) (sA : Nat → Int32) (x1 : Int32) : Nat → Int32 → Option Int32
  | 0, _ => none
  | n + 1, y2 =>
    if y2 ≤ 0 then
      some y2
    else
      pb (m_of sA (y2 - (1 : Int32)) (0 : Int32)) <| fun r3 =>
      if r3 ≤ x1 then
        some y2
      else
        m_opens_L1 nf sA x1 n (y2 + (-1 : Int32))
def m_opens_L2 (nf : Nat)  (x2 : Int32) : Nat → Int32 → (Nat → Int32) → Option (Nat → Int32)
  | 0, _, _ => none
  | n + 1, y3, sA =>
    if y3 < ((13 : Int32) * x2) then
      some sA
    else
      pg (¬ (y3 < 0 ∨ 284 ≤ y3.toNatClampNeg)) <|
      pg (¬ ((y3 + (13 : Int32)) < 0 ∨ 284 ≤ (y3 + (13 : Int32)).toNatClampNeg)) <|
      m_opens_L2 nf x2 n (y3 + (-1 : Int32)) (upd sA (y3 + (13 : Int32)).toNatClampNeg (sA y3.toNatClampNeg))
def m_opens (nf : Nat) (sA : Nat → Int32) (x1 : Int32) : Option (Int32 × (Nat → Int32)) :=
  pb (m_opens_L1 nf sA x1 nf (sA 282)) <| fun o1 =>
  pb (m_opens_L2 nf o1 nf (((13 : Int32) * (sA 282)) - (1 : Int32)) sA) <| fun sA_2 =>
  some (o1, (upd sA_2 282 ((sA_2 282) + (1 : Int32))))
def m_sets (sA : Nat → Int32) (x1 : Int32) (x2 : Int32) (x3 : Int32) : Option (Nat → Int32) :=
  pg (¬ ((((13 : Int32) * x1) + x2) < 0 ∨ 284 ≤ (((13 : Int32) * x1) + x2).toNatClampNeg)) <|
  some (upd sA (((13 : Int32) * x1) + x2).toNatClampNeg x3)
def m_far  (x0 : Int32) (x1 : Int32) : Option Int32 :=
  if x1 ≤ x0 then
    some (x0 - x1)
  else
    some (x1 - x0)
def m_voiceFor_L1 (nf : Nat) (sA : Nat → Int32) (x1 : Int32) : Nat → Int32 → Int32 → Option Int32
  | 0, _, _ => none
  | n + 1, y3, y2 =>
    if (6 : Int32) ≤ y3 then
      some y2
    else
      pg (¬ (((276 : Int32) + y3) < 0 ∨ 284 ≤ ((276 : Int32) + y3).toNatClampNeg)) <|
      pb (
        if (sA ((276 : Int32) + y3).toNatClampNeg) ≤ 0 then
          some false
        else
          pb (m_far (sA ((276 : Int32) + y3).toNatClampNeg) x1) <| fun r5 =>
          if (sA 283) < r5 then
            some false
          else
            some true) <| fun j7 =>
      pb (
        if (bi j7) = 0 then
          some y2
        else
          if y2 < 0 then
            some y3
          else
            pb (m_far (sA ((276 : Int32) + y3).toNatClampNeg) x1) <| fun r11 =>
            pg (¬ (((276 : Int32) + y2) < 0 ∨ 284 ≤ ((276 : Int32) + y2).toNatClampNeg)) <|
            pb (m_far (sA ((276 : Int32) + y2).toNatClampNeg) x1) <| fun r14 =>
            if r14 ≤ r11 then
              some y2
            else
              some y3) <| fun j16 =>
      m_voiceFor_L1 nf sA x1 n (y3 + (1 : Int32)) j16
def m_voiceFor (nf : Nat) (sA : Nat → Int32) (x1 : Int32) : Option Int32 :=
  pb (m_voiceFor_L1 nf sA x1 nf (0 : Int32) (-1 : Int32)) <| fun o1 =>
  some o1
def m_turn (nf : Nat) (sA : Nat → Int32) (past : Nat → Int32) (pasts : Int32) (runs : Int32) (x1 : Int32) (x2 : Int32) (x3 : Int32) : Option (Int32 × (Nat → Int32) × (Nat → Int32) × Int32) :=
  pb (m_in x1 (0 : Int32) (1998 : Int32)) <| fun b2 =>
  if (bi b2) = 0 then
    some ((-1000001 : Int32), sA, past, pasts)
  else
    pb (m_in x2 (x1 + (1 : Int32)) (1999 : Int32)) <| fun b5 =>
    if (bi b5) = 0 then
      some ((-1000001 : Int32), sA, past, pasts)
    else
      pb (m_in x3 (50 : Int32) (500 : Int32)) <| fun b8 =>
      if (bi b8) = 0 then
        some ((-1000001 : Int32), sA, past, pasts)
      else
        if (sA 282) = (20 : Int32) then
          some ((-1000003 : Int32), sA, past, pasts)
        else
          pb (m_changes nf sA past pasts runs) <| fun (past_12, pasts_13) =>
          pb (m_opens nf sA x1) <| fun (r15, sA_16) =>
          pb (m_sets sA_16 r15 (0 : Int32) x1) <| fun sA_18 =>
          pb (m_sets sA_18 r15 (1 : Int32) x2) <| fun sA_20 =>
          pb (m_sets sA_20 r15 (2 : Int32) x3) <| fun sA_22 =>
          pb (m_voiceFor nf sA_22 x3) <| fun r24 =>
          pb (m_sets sA_22 r15 (3 : Int32) r24) <| fun sA_26 =>
          pb (m_sets sA_26 r15 (4 : Int32) (0 : Int32)) <| fun sA_28 =>
          some (r15, sA_28, past_12, pasts_13)
def m_isTerm  (x0 : Int32) : Option Bool :=
  pb (m_in x0 (0 : Int32) (15 : Int32)) <| fun b2 =>
  some b2
def m_isTurn (sA : Nat → Int32) (x1 : Int32) : Option Bool :=
  if x1 < 0 then
    some false
  else
    if (sA 282) ≤ x1 then
      some false
    else
      some true
def m_say (nf : Nat) (sA : Nat → Int32) (past : Nat → Int32) (pasts : Int32) (runs : Int32) (x1 : Int32) (x2 : Int32) : Option (Int32 × (Nat → Int32) × (Nat → Int32) × Int32) :=
  pb (m_isTurn sA x1) <| fun b2 =>
  if (bi b2) = 0 then
    some ((-1000001 : Int32), sA, past, pasts)
  else
    pb (m_isTerm x2) <| fun b5 =>
    if (bi b5) = 0 then
      some ((-1000001 : Int32), sA, past, pasts)
    else
      pb (m_of sA x1 (4 : Int32)) <| fun r8 =>
      if r8 = (8 : Int32) then
        some ((-1000003 : Int32), sA, past, pasts)
      else
        pb (m_changes nf sA past pasts runs) <| fun (past_11, pasts_12) =>
        pb (m_sets sA x1 ((5 : Int32) + r8) x2) <| fun sA_14 =>
        pb (m_sets sA_14 x1 (4 : Int32) (r8 + (1 : Int32))) <| fun sA_16 =>
        some ((r8 + (1 : Int32)), sA_16, past_11, pasts_12)
def m_part_L1 (nf : Nat) (sA : Nat → Int32) (x1 : Int32) : Nat → Int32 → (Nat → Int32) → Option (Nat → Int32)
  | 0, _, _ => none
  | n + 1, y4, parted =>
    if (13 : Int32) ≤ y4 then
      some parted
    else
      pb (m_of sA x1 y4) <| fun r3 =>
      pg (¬ (y4 < 0 ∨ 13 ≤ y4.toNatClampNeg)) <|
      m_part_L1 nf sA x1 n (y4 + (1 : Int32)) (upd parted y4.toNatClampNeg r3)
def m_part_L2 (nf : Nat) (parted : Nat → Int32) (x4 : Int32) : Nat → Int32 → (Nat → Int32) → Option (Nat → Int32)
  | 0, _, _ => none
  | n + 1, y5, sA =>
    if (13 : Int32) ≤ y5 then
      some sA
    else
      pg (¬ (y5 < 0 ∨ 13 ≤ y5.toNatClampNeg)) <|
      pb (m_sets sA x4 y5 (parted y5.toNatClampNeg)) <| fun sA_4 =>
      m_part_L2 nf parted x4 n (y5 + (1 : Int32)) sA_4
def m_part_L3 (nf : Nat) (parted : Nat → Int32) (x4 : Int32) (x3 : Int32) : Nat → Int32 → (Nat → Int32) → Option (Nat → Int32)
  | 0, _, _ => none
  | n + 1, y5, sA =>
    if (parted 4) ≤ y5 then
      some sA
    else
      pg (¬ (((5 : Int32) + y5) < 0 ∨ 13 ≤ ((5 : Int32) + y5).toNatClampNeg)) <|
      pb (m_sets sA x4 (((5 : Int32) + y5) - x3) (parted ((5 : Int32) + y5).toNatClampNeg)) <| fun sA_4 =>
      m_part_L3 nf parted x4 x3 n (y5 + (1 : Int32)) sA_4
def m_part (nf : Nat) (sA : Nat → Int32) (past : Nat → Int32) (parted : Nat → Int32) (pasts : Int32) (runs : Int32) (x1 : Int32) (x2 : Int32) (x3 : Int32) : Option (Int32 × (Nat → Int32) × (Nat → Int32) × (Nat → Int32) × Int32) :=
  pb (m_isTurn sA x1) <| fun b2 =>
  if (bi b2) = 0 then
    some ((-1000001 : Int32), sA, past, parted, pasts)
  else
    pb (m_of sA x1 (0 : Int32)) <| fun r5 =>
    if x2 ≤ r5 then
      some ((-1000001 : Int32), sA, past, parted, pasts)
    else
      pb (m_of sA x1 (1 : Int32)) <| fun r8 =>
      if r8 ≤ x2 then
        some ((-1000001 : Int32), sA, past, parted, pasts)
      else
        pb (m_of sA x1 (4 : Int32)) <| fun r11 =>
        pb (m_in x3 (0 : Int32) r11) <| fun b13 =>
        if (bi b13) = 0 then
          some ((-1000001 : Int32), sA, past, parted, pasts)
        else
          if (sA 282) = (20 : Int32) then
            some ((-1000003 : Int32), sA, past, parted, pasts)
          else
            pb (m_changes nf sA past pasts runs) <| fun (past_17, pasts_18) =>
            pb (m_part_L1 nf sA x1 nf (0 : Int32) parted) <| fun parted_19 =>
            pb (m_sets sA x1 (1 : Int32) x2) <| fun sA_21 =>
            pb (m_sets sA_21 x1 (4 : Int32) x3) <| fun sA_23 =>
            pb (m_opens nf sA_23 x2) <| fun (r25, sA_26) =>
            pb (m_part_L2 nf parted_19 r25 nf (0 : Int32) sA_26) <| fun sA_27 =>
            pb (m_sets sA_27 r25 (0 : Int32) x2) <| fun sA_29 =>
            pb (m_sets sA_29 r25 (4 : Int32) ((parted_19 4) - x3)) <| fun sA_31 =>
            pb (m_part_L3 nf parted_19 r25 x3 nf x3 sA_31) <| fun sA_32 =>
            some (r25, sA_32, past_17, parted_19, pasts_18)
def m_remove_L1 (nf : Nat)   : Nat → Int32 → (Nat → Int32) → Option (Nat → Int32)
  | 0, _, _ => none
  | n + 1, y2, sA =>
    if ((13 : Int32) * (sA 282)) ≤ y2 then
      some sA
    else
      pg (¬ ((y2 + (13 : Int32)) < 0 ∨ 284 ≤ (y2 + (13 : Int32)).toNatClampNeg)) <|
      pg (¬ (y2 < 0 ∨ 284 ≤ y2.toNatClampNeg)) <|
      m_remove_L1 nf  n (y2 + (1 : Int32)) (upd sA y2.toNatClampNeg (sA (y2 + (13 : Int32)).toNatClampNeg))
def m_remove (nf : Nat) (sA : Nat → Int32) (past : Nat → Int32) (pasts : Int32) (runs : Int32) (x1 : Int32) : Option (Int32 × (Nat → Int32) × (Nat → Int32) × Int32) :=
  pb (m_isTurn sA x1) <| fun b2 =>
  if (bi b2) = 0 then
    some ((-1000001 : Int32), sA, past, pasts)
  else
    pb (m_changes nf sA past pasts runs) <| fun (past_5, pasts_6) =>
    pb (m_remove_L1 nf  nf ((13 : Int32) * x1) (upd sA 282 ((sA 282) - (1 : Int32)))) <| fun sA_7 =>
    some ((sA_7 282), sA_7, past_5, pasts_6)
def m_isOn_L1 (nf : Nat) (sA : Nat → Int32) (x1 : Int32) : Nat → Int32 → Option Int32
  | 0, _ => none
  | n + 1, y3 =>
    if y3 = x1 then
      some y3
    else
      pg (¬ (((260 : Int32) + y3) < 0 ∨ 284 ≤ ((260 : Int32) + y3).toNatClampNeg)) <|
      if (sA ((260 : Int32) + y3).toNatClampNeg) < 0 then
        some y3
      else
        m_isOn_L1 nf sA x1 n (sA ((260 : Int32) + y3).toNatClampNeg)
def m_isOn (nf : Nat) (sA : Nat → Int32) (x1 : Int32) (x2 : Int32) : Option Bool :=
  pb (m_isOn_L1 nf sA x1 nf x2) <| fun o1 =>
  if o1 = x1 then
    some true
  else
    some false
def m_mayCorrect (nf : Nat) (sA : Nat → Int32) (x1 : Int32) (x2 : Int32) : Option Int32 :=
  pb (m_isTerm x1) <| fun b2 =>
  if (bi b2) = 0 then
    some (-1000001 : Int32)
  else
    pb (m_isTerm x2) <| fun b5 =>
    if (bi b5) = 0 then
      some (-1000001 : Int32)
    else
      if x1 = x2 then
        some (-1000001 : Int32)
      else
        pb (m_isOn nf sA x1 x2) <| fun b9 =>
        if (bi b9) = 0 then
          some (0 : Int32)
        else
          some (-1000002 : Int32)
def m_shown_L1 (nf : Nat) (sA : Nat → Int32)  : Nat → Int32 → Option Int32
  | 0, _ => none
  | n + 1, y2 =>
    pg (¬ (((260 : Int32) + y2) < 0 ∨ 284 ≤ ((260 : Int32) + y2).toNatClampNeg)) <|
    if (sA ((260 : Int32) + y2).toNatClampNeg) < 0 then
      some y2
    else
      m_shown_L1 nf sA n (sA ((260 : Int32) + y2).toNatClampNeg)
def m_shown (nf : Nat) (sA : Nat → Int32) (x1 : Int32) : Option Int32 :=
  pb (m_shown_L1 nf sA nf x1) <| fun o1 =>
  some o1
def m_turnsTo_L1 (nf : Nat) (sA : Nat → Int32)  : Nat → Int32 → (Nat → Int32) → Option (Nat → Int32)
  | 0, _, _ => none
  | n + 1, y5, asShown =>
    if (16 : Int32) ≤ y5 then
      some asShown
    else
      pb (m_shown nf sA y5) <| fun r3 =>
      pg (¬ (y5 < 0 ∨ 16 ≤ y5.toNatClampNeg)) <|
      m_turnsTo_L1 nf sA n (y5 + (1 : Int32)) (upd asShown y5.toNatClampNeg r3)
def m_turnsTo_L3 (nf : Nat) (sA : Nat → Int32) (asShown : Nat → Int32) (x6 : Int32) : Nat → Int32 → Int32 → Option Int32
  | 0, _, _ => none
  | n + 1, y7, y5 =>
    pb (m_of sA x6 (4 : Int32)) <| fun r2 =>
    if r2 ≤ y7 then
      some y5
    else
      pb (m_of sA x6 ((5 : Int32) + y7)) <| fun r5 =>
      pb (m_shown nf sA r5) <| fun r7 =>
      pb (m_of sA x6 ((5 : Int32) + y7)) <| fun r9 =>
      pg (¬ (r9 < 0 ∨ 16 ≤ r9.toNatClampNeg)) <|
      pb (
        if r7 = (asShown r9.toNatClampNeg) then
          some false
        else
          some true) <| fun j12 =>
      m_turnsTo_L3 nf sA asShown x6 n (y7 + (1 : Int32)) (y5 + (bi j12))
def m_turnsTo_L2 (nf : Nat) (sA : Nat → Int32) (asShown : Nat → Int32)  : Nat → Int32 → Int32 → Option Int32
  | 0, _, _ => none
  | n + 1, y6, y5 =>
    if (sA 282) ≤ y6 then
      some y5
    else
      pb (m_turnsTo_L3 nf sA asShown y6 nf (0 : Int32) y5) <| fun o2 =>
      m_turnsTo_L2 nf sA asShown n (y6 + (1 : Int32)) o2
def m_turnsTo (nf : Nat) (sA : Nat → Int32) (asShown : Nat → Int32) (x1 : Int32) (x2 : Int32) (x3 : Int32) : Option (Int32 × (Nat → Int32) × (Nat → Int32)) :=
  pg (¬ (((260 : Int32) + x1) < 0 ∨ 284 ≤ ((260 : Int32) + x1).toNatClampNeg)) <|
  pb (m_turnsTo_L1 nf sA nf (0 : Int32) asShown) <| fun asShown_2 =>
  pb (m_turnsTo_L2 nf (upd sA ((260 : Int32) + x1).toNatClampNeg x2) asShown_2 nf (0 : Int32) (0 : Int32)) <| fun o3 =>
  pb (
    if x3 = 0 then
      some (sA ((260 : Int32) + x1).toNatClampNeg)
    else
      some x2) <| fun j5 =>
  some (o3, (upd (upd sA ((260 : Int32) + x1).toNatClampNeg x2) ((260 : Int32) + x1).toNatClampNeg j5), asShown_2)
def m_correct (nf : Nat) (sA : Nat → Int32) (past : Nat → Int32) (asShown : Nat → Int32) (pasts : Int32) (runs : Int32) (x1 : Int32) (x2 : Int32) : Option (Int32 × (Nat → Int32) × (Nat → Int32) × (Nat → Int32) × Int32) :=
  pb (m_mayCorrect nf sA x1 x2) <| fun r2 =>
  if 0 ≤ r2 then
    pb (m_changes nf sA past pasts runs) <| fun (past_5, pasts_6) =>
    pb (m_turnsTo nf sA asShown x1 x2 (1 : Int32)) <| fun (r8, sA_9, asShown_10) =>
    some (r8, sA_9, past_5, asShown_10, pasts_6)
  else
    some (r2, sA, past, asShown, pasts)
def m_uncorrect (nf : Nat) (sA : Nat → Int32) (past : Nat → Int32) (asShown : Nat → Int32) (pasts : Int32) (runs : Int32) (x1 : Int32) : Option (Int32 × (Nat → Int32) × (Nat → Int32) × (Nat → Int32) × Int32) :=
  pb (m_isTerm x1) <| fun b2 =>
  if (bi b2) = 0 then
    some ((-1000001 : Int32), sA, past, asShown, pasts)
  else
    pg (¬ (((260 : Int32) + x1) < 0 ∨ 284 ≤ ((260 : Int32) + x1).toNatClampNeg)) <|
    if 0 ≤ (sA ((260 : Int32) + x1).toNatClampNeg) then
      pb (m_changes nf sA past pasts runs) <| fun (past_7, pasts_8) =>
      pb (m_turnsTo nf sA asShown x1 (-1 : Int32) (1 : Int32)) <| fun (r10, sA_11, asShown_12) =>
      some (r10, sA_11, past_7, asShown_12, pasts_8)
    else
      some ((-1000002 : Int32), sA, past, asShown, pasts)
def m_speaker_L1 (nf : Nat) (sA : Nat → Int32)  : Nat → Int32 → Option Int32
  | 0, _ => none
  | n + 1, y2 =>
    if (6 : Int32) ≤ y2 then
      some y2
    else
      pg (¬ (((276 : Int32) + y2) < 0 ∨ 284 ≤ ((276 : Int32) + y2).toNatClampNeg)) <|
      if (sA ((276 : Int32) + y2).toNatClampNeg) ≤ 0 then
        some y2
      else
        m_speaker_L1 nf sA n (y2 + (1 : Int32))
def m_speaker (nf : Nat) (sA : Nat → Int32) (past : Nat → Int32) (pasts : Int32) (runs : Int32) (x1 : Int32) : Option (Int32 × (Nat → Int32) × (Nat → Int32) × Int32) :=
  pb (m_in x1 (50 : Int32) (500 : Int32)) <| fun b2 =>
  if (bi b2) = 0 then
    some ((-1000001 : Int32), sA, past, pasts)
  else
    pb (m_speaker_L1 nf sA nf (0 : Int32)) <| fun o4 =>
    if o4 = (6 : Int32) then
      some ((-1000003 : Int32), sA, past, pasts)
    else
      pb (m_changes nf sA past pasts runs) <| fun (past_7, pasts_8) =>
      pg (¬ (((276 : Int32) + o4) < 0 ∨ 284 ≤ ((276 : Int32) + o4).toNatClampNeg)) <|
      some (o4, (upd sA ((276 : Int32) + o4).toNatClampNeg x1), past_7, pasts_8)
def m_isVoice (sA : Nat → Int32) (x1 : Int32) : Option Bool :=
  pb (m_in x1 (0 : Int32) (5 : Int32)) <| fun b2 =>
  if (bi b2) = 0 then
    some false
  else
    pg (¬ (((276 : Int32) + x1) < 0 ∨ 284 ≤ ((276 : Int32) + x1).toNatClampNeg)) <|
    if (sA ((276 : Int32) + x1).toNatClampNeg) ≤ 0 then
      some false
    else
      some true
def m_turnsOf_L1 (nf : Nat) (sA : Nat → Int32) (x1 : Int32) : Nat → Int32 → Int32 → Option Int32
  | 0, _, _ => none
  | n + 1, y3, y2 =>
    if (sA 282) ≤ y3 then
      some y2
    else
      pb (m_of sA y3 (3 : Int32)) <| fun r3 =>
      pb (
        if r3 = x1 then
          some true
        else
          some false) <| fun j5 =>
      m_turnsOf_L1 nf sA x1 n (y3 + (1 : Int32)) (y2 + (bi j5))
def m_turnsOf (nf : Nat) (sA : Nat → Int32) (x1 : Int32) : Option Int32 :=
  pb (m_turnsOf_L1 nf sA x1 nf (0 : Int32) (0 : Int32)) <| fun o1 =>
  some o1
def m_tunes_L1 (nf : Nat) (sA : Nat → Int32) (x1 : Int32) : Nat → Int32 → Int32 → Option Int32
  | 0, _, _ => none
  | n + 1, y3, y2 =>
    if (sA 282) ≤ y3 then
      some y2
    else
      pb (m_of sA y3 (3 : Int32)) <| fun r3 =>
      pb (
        if r3 = x1 then
          pb (m_of sA y3 (2 : Int32)) <| fun r6 =>
          some r6
        else
          some (0 : Int32)) <| fun j7 =>
      m_tunes_L1 nf sA x1 n (y3 + (1 : Int32)) (y2 + j7)
def m_tunes (nf : Nat) (sA : Nat → Int32) (x1 : Int32) : Option (Nat → Int32) :=
  pb (m_tunes_L1 nf sA x1 nf (0 : Int32) (0 : Int32)) <| fun o1 =>
  pb (m_turnsOf nf sA x1) <| fun r3 =>
  pb (
    if r3 = 0 then
      pg (¬ (((276 : Int32) + x1) < 0 ∨ 284 ≤ ((276 : Int32) + x1).toNatClampNeg)) <|
      some (sA ((276 : Int32) + x1).toNatClampNeg)
    else
      pg (¬ r3 = 0) <|
      some (o1 / r3)) <| fun j7 =>
  pg (¬ (((276 : Int32) + x1) < 0 ∨ 284 ≤ ((276 : Int32) + x1).toNatClampNeg)) <|
  some (upd sA ((276 : Int32) + x1).toNatClampNeg j7)
def m_give (nf : Nat) (sA : Nat → Int32) (past : Nat → Int32) (pasts : Int32) (runs : Int32) (x1 : Int32) (x2 : Int32) : Option (Int32 × (Nat → Int32) × (Nat → Int32) × Int32) :=
  pb (m_isTurn sA x1) <| fun b2 =>
  if (bi b2) = 0 then
    some ((-1000001 : Int32), sA, past, pasts)
  else
    pb (m_isVoice sA x2) <| fun b5 =>
    if (bi b5) = 0 then
      some ((-1000001 : Int32), sA, past, pasts)
    else
      pb (m_of sA x1 (3 : Int32)) <| fun r8 =>
      if r8 = x2 then
        some ((-1000002 : Int32), sA, past, pasts)
      else
        pb (m_changes nf sA past pasts runs) <| fun (past_11, pasts_12) =>
        pb (m_sets sA x1 (3 : Int32) x2) <| fun sA_14 =>
        pb (m_tunes nf sA_14 x2) <| fun sA_16 =>
        pg (¬ (((276 : Int32) + x2) < 0 ∨ 284 ≤ ((276 : Int32) + x2).toNatClampNeg)) <|
        some ((sA_16 ((276 : Int32) + x2).toNatClampNeg), sA_16, past_11, pasts_12)
def m_join_L1 (nf : Nat)  (x1 : Int32) (x2 : Int32) : Nat → Int32 → (Nat → Int32) → Option (Nat → Int32)
  | 0, _, _ => none
  | n + 1, y3, sA =>
    if (sA 282) ≤ y3 then
      some sA
    else
      pb (m_of sA y3 (3 : Int32)) <| fun r3 =>
      pb (
        if r3 = x1 then
          some x2
        else
          pb (m_of sA y3 (3 : Int32)) <| fun r6 =>
          some r6) <| fun j7 =>
      pb (m_sets sA y3 (3 : Int32) j7) <| fun sA_9 =>
      m_join_L1 nf x1 x2 n (y3 + (1 : Int32)) sA_9
def m_join (nf : Nat) (sA : Nat → Int32) (past : Nat → Int32) (pasts : Int32) (runs : Int32) (x1 : Int32) (x2 : Int32) : Option (Int32 × (Nat → Int32) × (Nat → Int32) × Int32) :=
  pb (m_isVoice sA x1) <| fun b2 =>
  if (bi b2) = 0 then
    some ((-1000001 : Int32), sA, past, pasts)
  else
    pb (m_isVoice sA x2) <| fun b5 =>
    if (bi b5) = 0 then
      some ((-1000001 : Int32), sA, past, pasts)
    else
      if x1 = x2 then
        some ((-1000001 : Int32), sA, past, pasts)
      else
        pb (m_changes nf sA past pasts runs) <| fun (past_9, pasts_10) =>
        pb (m_join_L1 nf x1 x2 nf (0 : Int32) sA) <| fun sA_11 =>
        pg (¬ (((276 : Int32) + x1) < 0 ∨ 284 ≤ ((276 : Int32) + x1).toNatClampNeg)) <|
        pb (m_tunes nf (upd sA_11 ((276 : Int32) + x1).toNatClampNeg (0 : Int32)) x2) <| fun sA_14 =>
        pb (m_turnsOf nf sA_14 x2) <| fun r16 =>
        some (r16, sA_14, past_9, pasts_10)
def m_set (nf : Nat) (sA : Nat → Int32) (past : Nat → Int32) (pasts : Int32) (runs : Int32) (x1 : Int32) (x2 : Int32) : Option (Int32 × (Nat → Int32) × (Nat → Int32) × Int32) :=
  if x1 = 0 then
    pb (m_in x2 (0 : Int32) (200 : Int32)) <| fun b3 =>
    if (bi b3) = 0 then
      some ((-1000001 : Int32), sA, past, pasts)
    else
      pb (m_changes nf sA past pasts runs) <| fun (past_6, pasts_7) =>
      some ((sA 283), (upd sA 283 x2), past_6, pasts_7)
  else
    some ((-1000001 : Int32), sA, past, pasts)
def m_goesOn (sA : Nat → Int32) (x1 : Int32) (x2 : Int32) : Option Bool :=
  pb (m_of sA x1 (0 : Int32)) <| fun r2 =>
  if x2 < r2 then
    some false
  else
    pb (m_of sA x1 (1 : Int32)) <| fun r5 =>
    if r5 ≤ x2 then
      some false
    else
      some true
def m_going_L1 (nf : Nat) (sA : Nat → Int32) (x1 : Int32) : Nat → Int32 → Int32 → Option Int32
  | 0, _, _ => none
  | n + 1, y3, y2 =>
    if (sA 282) ≤ y3 then
      some y2
    else
      pb (m_goesOn sA y3 x1) <| fun b3 =>
      pb (
        if (bi b3) = 0 then
          some (0 : Int32)
        else
          some ((1 : Int32) <<< (y3 &&& 31))) <| fun j5 =>
      m_going_L1 nf sA x1 n (y3 + (1 : Int32)) (y2 ||| j5)
def m_going (nf : Nat) (sA : Nat → Int32) (x1 : Int32) : Option Int32 :=
  pb (m_going_L1 nf sA x1 nf (0 : Int32) (0 : Int32)) <| fun o1 =>
  some o1
def m_alone_L1 (nf : Nat) (sA : Nat → Int32) (x1 : Int32) : Nat → Int32 → Int32 → Option Int32
  | 0, _, _ => none
  | n + 1, y3, y2 =>
    pb (m_of sA x1 (1 : Int32)) <| fun r2 =>
    if r2 ≤ y3 then
      some y2
    else
      pb (m_going nf sA y3) <| fun r5 =>
      pb (
        if r5 = ((1 : Int32) <<< (x1 &&& 31)) then
          some true
        else
          some false) <| fun j7 =>
      m_alone_L1 nf sA x1 n (y3 + (1 : Int32)) (y2 + (bi j7))
def m_alone (nf : Nat) (sA : Nat → Int32) (x1 : Int32) : Option Int32 :=
  pb (m_of sA x1 (0 : Int32)) <| fun r2 =>
  pb (m_alone_L1 nf sA x1 nf r2 (0 : Int32)) <| fun o3 =>
  some o3
def m_interrupt (sA : Nat → Int32) (x1 : Int32) (x2 : Int32) : Option Bool :=
  pb (m_of sA x1 (0 : Int32)) <| fun r2 =>
  pb (m_of sA x2 (0 : Int32)) <| fun r4 =>
  pb (
    if r2 ≤ r4 then
      some false
    else
      pb (m_of sA x1 (0 : Int32)) <| fun r7 =>
      pb (m_of sA x2 (1 : Int32)) <| fun r9 =>
      if r9 ≤ r7 then
        some false
      else
        some true) <| fun j11 =>
  if (bi j11) = 0 then
    some false
  else
    pb (m_of sA x1 (3 : Int32)) <| fun r14 =>
    if r14 < 0 then
      some false
    else
      pb (m_of sA x2 (3 : Int32)) <| fun r17 =>
      if r17 < 0 then
        some false
      else
        pb (m_of sA x1 (3 : Int32)) <| fun r20 =>
        pb (m_of sA x2 (3 : Int32)) <| fun r22 =>
        if r20 = r22 then
          some false
        else
          some true
def m_overlap (sA : Nat → Int32) (x1 : Int32) (x2 : Int32) : Option Bool :=
  if x1 = x2 then
    some false
  else
    pb (m_of sA x1 (0 : Int32)) <| fun r3 =>
    pb (m_of sA x2 (1 : Int32)) <| fun r5 =>
    if r5 ≤ r3 then
      some false
    else
      pb (m_of sA x2 (0 : Int32)) <| fun r8 =>
      pb (m_of sA x1 (1 : Int32)) <| fun r10 =>
      if r10 ≤ r8 then
        some false
      else
        some true
def m_overlapping_L1 (nf : Nat) (sA : Nat → Int32) (x1 : Int32) (x2 : Int32) : Nat → Int32 → Int32 → Option Int32
  | 0, _, _ => none
  | n + 1, y4, y3 =>
    if (sA 282) ≤ y4 then
      some y3
    else
      pb (
        if x2 = 0 then
          pb (m_overlap sA x1 y4) <| fun b4 =>
          if (bi b4) = 0 then
            some (0 : Int32)
          else
            some ((1 : Int32) <<< (y4 &&& 31))
        else
          pb (m_interrupt sA x1 y4) <| fun b7 =>
          if (bi b7) = 0 then
            some (0 : Int32)
          else
            some ((1 : Int32) <<< (y4 &&& 31))) <| fun j9 =>
      m_overlapping_L1 nf sA x1 x2 n (y4 + (1 : Int32)) (y3 ||| j9)
def m_overlapping (nf : Nat) (sA : Nat → Int32) (x1 : Int32) (x2 : Int32) : Option Int32 :=
  pb (m_overlapping_L1 nf sA x1 x2 nf (0 : Int32) (0 : Int32)) <| fun o1 =>
  some o1
def m_turnOf (nf : Nat) (sA : Nat → Int32) (x1 : Int32) (x2 : Int32) : Option Int32 :=
  pb (m_isTurn sA x1) <| fun b2 =>
  if (bi b2) = 0 then
    some (-1000001 : Int32)
  else
    pb (m_in x2 (0 : Int32) (7 : Int32)) <| fun b5 =>
    if (bi b5) = 0 then
      some (-1000001 : Int32)
    else
      if x2 = (3 : Int32) then
        pb (m_of sA x1 (3 : Int32)) <| fun r9 =>
        if 0 ≤ r9 then
          pb (m_of sA x1 (3 : Int32)) <| fun r12 =>
          some r12
        else
          some (-1000004 : Int32)
      else
      if x2 = (4 : Int32) then
        pb (m_of sA x1 x2) <| fun r15 =>
        some r15
      else
      if x2 = (5 : Int32) then
        pb (
          if x2 = (6 : Int32) then
            some true
          else
            some false) <| fun j18 =>
        pb (m_overlapping nf sA x1 (bi j18)) <| fun r20 =>
        some r20
      else
      if x2 = (6 : Int32) then
        pb (
          if x2 = (6 : Int32) then
            some true
          else
            some false) <| fun j23 =>
        pb (m_overlapping nf sA x1 (bi j23)) <| fun r25 =>
        some r25
      else
      if x2 = (7 : Int32) then
        pb (m_alone nf sA x1) <| fun r28 =>
        some r28
      else
      pb (m_of sA x1 x2) <| fun r30 =>
      some r30
def m_termAt (nf : Nat) (sA : Nat → Int32) (x1 : Int32) (x2 : Int32) (x3 : Int32) : Option Int32 :=
  pb (m_isTurn sA x1) <| fun b2 =>
  if (bi b2) = 0 then
    some (-1000001 : Int32)
  else
    if x2 < 0 then
      some (-1000001 : Int32)
    else
      pb (m_in x3 (0 : Int32) (1 : Int32)) <| fun b6 =>
      if (bi b6) = 0 then
        some (-1000001 : Int32)
      else
        pb (m_of sA x1 (4 : Int32)) <| fun r9 =>
        if x2 < r9 then
          pb (m_of sA x1 ((5 : Int32) + x2)) <| fun r12 =>
          if x3 = 0 then
            some r12
          else
            pb (m_shown nf sA r12) <| fun r15 =>
            some r15
        else
          some (-1000004 : Int32)
def m_chain_L1 (nf : Nat) (sA : Nat → Int32)  : Nat → Int32 → Int32 → Option Int32
  | 0, _, _ => none
  | n + 1, y3, y2 =>
    pg (¬ (((260 : Int32) + y3) < 0 ∨ 284 ≤ ((260 : Int32) + y3).toNatClampNeg)) <|
    if (sA ((260 : Int32) + y3).toNatClampNeg) < 0 then
      some y2
    else
      m_chain_L1 nf sA n (sA ((260 : Int32) + y3).toNatClampNeg) (y2 + (1 : Int32))
def m_chain (nf : Nat) (sA : Nat → Int32) (x1 : Int32) : Option Int32 :=
  pb (m_chain_L1 nf sA nf x1 (0 : Int32)) <| fun o1 =>
  some o1
def m_shows_L1 (nf : Nat) (sA : Nat → Int32) (x1 : Int32) (x2 : Int32) : Nat → Int32 → Int32 → Option Int32
  | 0, _, _ => none
  | n + 1, y4, y3 =>
    pb (m_of sA x1 (4 : Int32)) <| fun r2 =>
    if r2 ≤ y4 then
      some y3
    else
      pb (m_of sA x1 ((5 : Int32) + y4)) <| fun r5 =>
      pb (m_shown nf sA r5) <| fun r7 =>
      pb (
        if r7 = x2 then
          some true
        else
          some false) <| fun j9 =>
      m_shows_L1 nf sA x1 x2 n (y4 + (1 : Int32)) (y3 + (bi j9))
def m_shows (nf : Nat) (sA : Nat → Int32) (x1 : Int32) (x2 : Int32) : Option Int32 :=
  pb (m_shows_L1 nf sA x1 x2 nf (0 : Int32) (0 : Int32)) <| fun o1 =>
  some o1
def m_showing_L1 (nf : Nat) (sA : Nat → Int32) (x1 : Int32) (x2 : Int32) : Nat → Int32 → Int32 → Option Int32
  | 0, _, _ => none
  | n + 1, y4, y3 =>
    if (sA 282) ≤ y4 then
      some y3
    else
      pb (m_shows nf sA y4 x1) <| fun r3 =>
      pb (m_of sA y4 (3 : Int32)) <| fun r5 =>
      pb (
        if r5 < 0 then
          some (0 : Int32)
        else
          pb (m_of sA y4 (3 : Int32)) <| fun r8 =>
          some ((1 : Int32) <<< (r8 &&& 31))) <| fun j9 =>
      pb (
        if x2 = (3 : Int32) then
          some (y3 + r3)
        else
          if r3 = 0 then
            some y3
          else
            pb (
              if x2 = (4 : Int32) then
                some ((1 : Int32) <<< (y4 &&& 31))
              else
                some j9) <| fun j13 =>
            some (y3 ||| j13)) <| fun j14 =>
      m_showing_L1 nf sA x1 x2 n (y4 + (1 : Int32)) j14
def m_showing (nf : Nat) (sA : Nat → Int32) (x1 : Int32) (x2 : Int32) : Option Int32 :=
  pb (m_showing_L1 nf sA x1 x2 nf (0 : Int32) (0 : Int32)) <| fun o1 =>
  some o1
def m_shownAs_L1 (nf : Nat) (sA : Nat → Int32) (x1 : Int32) : Nat → Int32 → Int32 → Option Int32
  | 0, _, _ => none
  | n + 1, y3, y2 =>
    if (16 : Int32) ≤ y3 then
      some y2
    else
      pb (m_shown nf sA y3) <| fun r3 =>
      pb (
        if r3 = x1 then
          some ((1 : Int32) <<< (y3 &&& 31))
        else
          some (0 : Int32)) <| fun j5 =>
      m_shownAs_L1 nf sA x1 n (y3 + (1 : Int32)) (y2 ||| j5)
def m_shownAs (nf : Nat) (sA : Nat → Int32) (x1 : Int32) : Option Int32 :=
  pb (m_shownAs_L1 nf sA x1 nf (0 : Int32) (0 : Int32)) <| fun o1 =>
  some o1
def m_termOf (nf : Nat) (sA : Nat → Int32) (x1 : Int32) (x2 : Int32) : Option Int32 :=
  pb (m_isTerm x1) <| fun b2 =>
  if (bi b2) = 0 then
    some (-1000001 : Int32)
  else
    pb (m_in x2 (0 : Int32) (6 : Int32)) <| fun b5 =>
    if (bi b5) = 0 then
      some (-1000001 : Int32)
    else
      if x2 = (0 : Int32) then
        pg (¬ (((260 : Int32) + x1) < 0 ∨ 284 ≤ ((260 : Int32) + x1).toNatClampNeg)) <|
        if 0 ≤ (sA ((260 : Int32) + x1).toNatClampNeg) then
          some (sA ((260 : Int32) + x1).toNatClampNeg)
        else
          some (-1000004 : Int32)
      else
      if x2 = (1 : Int32) then
        pb (m_shown nf sA x1) <| fun r12 =>
        some r12
      else
      if x2 = (2 : Int32) then
        pb (m_chain nf sA x1) <| fun r15 =>
        some r15
      else
      if x2 = (3 : Int32) then
        pb (m_showing nf sA x1 x2) <| fun r18 =>
        some r18
      else
      if x2 = (4 : Int32) then
        pb (m_showing nf sA x1 x2) <| fun r21 =>
        some r21
      else
      if x2 = (5 : Int32) then
        pb (m_showing nf sA x1 x2) <| fun r24 =>
        some r24
      else
      if x2 = (6 : Int32) then
        pb (m_shownAs nf sA x1) <| fun r27 =>
        some r27
      else
      pb (m_showing nf sA x1 x2) <| fun r29 =>
      some r29
def m_secondsOf_L1 (nf : Nat) (sA : Nat → Int32) (x1 : Int32) : Nat → Int32 → Int32 → Option Int32
  | 0, _, _ => none
  | n + 1, y3, y2 =>
    if (sA 282) ≤ y3 then
      some y2
    else
      pb (m_of sA y3 (3 : Int32)) <| fun r3 =>
      pb (
        if r3 = x1 then
          pb (m_of sA y3 (1 : Int32)) <| fun r6 =>
          pb (m_of sA y3 (0 : Int32)) <| fun r8 =>
          some (r6 - r8)
        else
          some (0 : Int32)) <| fun j9 =>
      m_secondsOf_L1 nf sA x1 n (y3 + (1 : Int32)) (y2 + j9)
def m_secondsOf (nf : Nat) (sA : Nat → Int32) (x1 : Int32) : Option Int32 :=
  pb (m_secondsOf_L1 nf sA x1 nf (0 : Int32) (0 : Int32)) <| fun o1 =>
  some o1
def m_termsOf_L2 (nf : Nat) (sA : Nat → Int32) (x4 : Int32) (x2 : Int32) : Nat → Int32 → Int32 → Option Int32
  | 0, _, _ => none
  | n + 1, y5, y3 =>
    pb (m_of sA x4 (4 : Int32)) <| fun r2 =>
    if r2 ≤ y5 then
      some y3
    else
      if x2 = 0 then
        some y3
      else
        pb (m_of sA x4 ((5 : Int32) + y5)) <| fun r6 =>
        pb (m_shown nf sA r6) <| fun r8 =>
        m_termsOf_L2 nf sA x4 x2 n (y5 + (1 : Int32)) (y3 ||| ((1 : Int32) <<< (r8 &&& 31)))
def m_termsOf_L1 (nf : Nat) (sA : Nat → Int32) (x1 : Int32) (x2 : Int32) : Nat → Int32 → Int32 → Option Int32
  | 0, _, _ => none
  | n + 1, y4, y3 =>
    if (sA 282) ≤ y4 then
      some y3
    else
      pb (m_of sA y4 (3 : Int32)) <| fun r3 =>
      pb (
        if r3 = x1 then
          pb (
            if x2 = 0 then
              pb (m_of sA y4 (4 : Int32)) <| fun r7 =>
              some r7
            else
              some (0 : Int32)) <| fun j8 =>
          pb (m_termsOf_L2 nf sA y4 x2 nf (0 : Int32) (y3 + j8)) <| fun o9 =>
          some o9
        else
          some y3) <| fun j10 =>
      m_termsOf_L1 nf sA x1 x2 n (y4 + (1 : Int32)) j10
def m_termsOf (nf : Nat) (sA : Nat → Int32) (x1 : Int32) (x2 : Int32) : Option Int32 :=
  pb (m_termsOf_L1 nf sA x1 x2 nf (0 : Int32) (0 : Int32)) <| fun o1 =>
  some o1
def m_byMinute (nf : Nat) (sA : Nat → Int32) (x1 : Int32) : Option Int32 :=
  pb (m_secondsOf nf sA x1) <| fun r2 =>
  pb (m_termsOf nf sA x1 (0 : Int32)) <| fun r4 =>
  pg ((FP.fmul (FP.i2f r4) (1114636288 : UInt32)) &&& 0x7fffffff ≤ 0x7f800000) <|
  pb (
    if r2 = 0 then
      some (1 : Int32)
    else
      some r2) <| fun j7 =>
  pg ((FP.fdiv (FP.fmul (FP.i2f r4) (1114636288 : UInt32)) (FP.i2f j7)) &&& 0x7fffffff ≤ 0x7f800000) <|
  if r2 = 0 then
    some (-1000004 : Int32)
  else
    pb (m_J18_floatToIntBits (FP.fdiv (FP.fmul (FP.i2f r4) (1114636288 : UInt32)) (FP.i2f j7))) <| fun r11 =>
    some r11
def m_often_L2 (nf : Nat) (sA : Nat → Int32) (x4 : Int32) (x1 : Int32) (x2 : Int32) : Nat → Int32 → Int32 → Option Int32
  | 0, _, _ => none
  | n + 1, y5, y3 =>
    if (sA 282) ≤ y5 then
      some y3
    else
      pb (
        if x1 < 0 then
          if x2 < 0 then
            some true
          else
            pb (m_of sA y5 (3 : Int32)) <| fun r5 =>
            if r5 = x2 then
              some true
            else
              some false
        else
          pb (m_of sA x4 (3 : Int32)) <| fun r8 =>
          if r8 = x1 then
            if x2 < 0 then
              some true
            else
              pb (m_of sA y5 (3 : Int32)) <| fun r12 =>
              if r12 = x2 then
                some true
              else
                some false
          else
            some false) <| fun j14 =>
      pb (
        if (bi j14) = 0 then
          some false
        else
          pb (m_interrupt sA x4 y5) <| fun b17 =>
          if (bi b17) = 0 then
            some false
          else
            some true) <| fun j19 =>
      m_often_L2 nf sA x4 x1 x2 n (y5 + (1 : Int32)) (y3 + (bi j19))
def m_often_L1 (nf : Nat) (sA : Nat → Int32) (x1 : Int32) (x2 : Int32) : Nat → Int32 → Int32 → Option Int32
  | 0, _, _ => none
  | n + 1, y4, y3 =>
    if (sA 282) ≤ y4 then
      some y3
    else
      pb (m_often_L2 nf sA y4 x1 x2 nf (0 : Int32) y3) <| fun o2 =>
      m_often_L1 nf sA x1 x2 n (y4 + (1 : Int32)) o2
def m_often (nf : Nat) (sA : Nat → Int32) (x1 : Int32) (x2 : Int32) : Option Int32 :=
  pb (m_often_L1 nf sA x1 x2 nf (0 : Int32) (0 : Int32)) <| fun o1 =>
  some o1
def m_speakerOf (nf : Nat) (sA : Nat → Int32) (x1 : Int32) (x2 : Int32) : Option Int32 :=
  pb (m_isVoice sA x1) <| fun b2 =>
  if (bi b2) = 0 then
    some (-1000001 : Int32)
  else
    pb (m_in x2 (0 : Int32) (6 : Int32)) <| fun b5 =>
    if (bi b5) = 0 then
      some (-1000001 : Int32)
    else
      if x2 = (0 : Int32) then
        pg (¬ (((276 : Int32) + x1) < 0 ∨ 284 ≤ ((276 : Int32) + x1).toNatClampNeg)) <|
        some (sA ((276 : Int32) + x1).toNatClampNeg)
      else
      if x2 = (1 : Int32) then
        pb (m_turnsOf nf sA x1) <| fun r11 =>
        some r11
      else
      if x2 = (2 : Int32) then
        pb (m_secondsOf nf sA x1) <| fun r14 =>
        some r14
      else
      if x2 = (3 : Int32) then
        pb (m_termsOf nf sA x1 (1 : Int32)) <| fun r17 =>
        some r17
      else
      if x2 = (4 : Int32) then
        pb (m_often nf sA x1 (-1 : Int32)) <| fun r20 =>
        some r20
      else
      if x2 = (5 : Int32) then
        pb (m_often nf sA (-1 : Int32) x1) <| fun r23 =>
        some r23
      else
      pb (m_byMinute nf sA x1) <| fun r25 =>
      some r25
def m_voices_L1 (nf : Nat) (sA : Nat → Int32) (x1 : Int32) : Nat → Int32 → Int32 → Option Int32
  | 0, _, _ => none
  | n + 1, y3, y2 =>
    if (sA 282) ≤ y3 then
      some y2
    else
      pb (
        if ((x1 >>> (y3 &&& 31)) &&& (1 : Int32)) = (1 : Int32) then
          pb (m_of sA y3 (3 : Int32)) <| fun r4 =>
          if r4 < 0 then
            some (0 : Int32)
          else
            pb (m_of sA y3 (3 : Int32)) <| fun r7 =>
            some ((1 : Int32) <<< (r7 &&& 31))
        else
          some (0 : Int32)) <| fun j8 =>
      m_voices_L1 nf sA x1 n (y3 + (1 : Int32)) (y2 ||| j8)
def m_voices (nf : Nat) (sA : Nat → Int32) (x1 : Int32) : Option Int32 :=
  pb (m_voices_L1 nf sA x1 nf (0 : Int32) (0 : Int32)) <| fun o1 =>
  some o1
def m_during (nf : Nat) (sA : Nat → Int32) (x1 : Int32) (x2 : Int32) : Option Int32 :=
  pb (m_in x1 (0 : Int32) (1999 : Int32)) <| fun b2 =>
  if (bi b2) = 0 then
    some (-1000001 : Int32)
  else
    pb (m_in x2 (0 : Int32) (1 : Int32)) <| fun b5 =>
    if (bi b5) = 0 then
      some (-1000001 : Int32)
    else
      if x2 = 0 then
        pb (m_going nf sA x1) <| fun r13 =>
        some r13
      else
        pb (m_going nf sA x1) <| fun r9 =>
        pb (m_voices nf sA r9) <| fun r11 =>
        some r11
def m_interrupts (nf : Nat) (sA : Nat → Int32) (x1 : Int32) (x2 : Int32) : Option Int32 :=
  pb (m_isVoice sA x1) <| fun b2 =>
  if (bi b2) = 0 then
    some (-1000001 : Int32)
  else
    pb (m_isVoice sA x2) <| fun b5 =>
    if (bi b5) = 0 then
      some (-1000001 : Int32)
    else
      if x1 = x2 then
        some (-1000001 : Int32)
      else
        pb (m_often nf sA x1 x2) <| fun r9 =>
        some r9
def m_nearest (nf : Nat) (sA : Nat → Int32) (x1 : Int32) : Option Int32 :=
  pb (m_in x1 (50 : Int32) (500 : Int32)) <| fun b2 =>
  if (bi b2) = 0 then
    some (-1000001 : Int32)
  else
    pb (m_voiceFor nf sA x1) <| fun r5 =>
    if 0 ≤ r5 then
      pb (m_voiceFor nf sA x1) <| fun r8 =>
      some r8
    else
      some (-1000004 : Int32)
def m_would (nf : Nat) (sA : Nat → Int32) (asShown : Nat → Int32) (x1 : Int32) (x2 : Int32) : Option (Int32 × (Nat → Int32) × (Nat → Int32)) :=
  pb (m_mayCorrect nf sA x1 x2) <| fun r2 =>
  if 0 ≤ r2 then
    pb (m_turnsTo nf sA asShown x1 x2 (0 : Int32)) <| fun (r5, sA_6, asShown_7) =>
    some (r5, sA_6, asShown_7)
  else
    some (r2, sA, asShown)
def m_both_L1 (nf : Nat) (sA : Nat → Int32) (x1 : Int32) (x2 : Int32) : Nat → Int32 → Int32 → Option Int32
  | 0, _, _ => none
  | n + 1, y4, y3 =>
    if (sA 282) ≤ y4 then
      some y3
    else
      pb (m_shows nf sA y4 x1) <| fun r3 =>
      pb (
        if r3 ≤ 0 then
          some false
        else
          pb (m_shows nf sA y4 x2) <| fun r6 =>
          if r6 ≤ 0 then
            some false
          else
            some true) <| fun j8 =>
      m_both_L1 nf sA x1 x2 n (y4 + (1 : Int32)) (y3 + (bi j8))
def m_both (nf : Nat) (sA : Nat → Int32) (x1 : Int32) (x2 : Int32) : Option Int32 :=
  pb (m_both_L1 nf sA x1 x2 nf (0 : Int32) (0 : Int32)) <| fun o1 =>
  some o1
def m_together_L2 (nf : Nat) (sA : Nat → Int32) (x5 : Int32) : Nat → Int32 → Int32 → Int32 → Int32 → Option (Int32 × Int32 × Int32)
  | 0, _, _, _, _ => none
  | n + 1, y6, y4, y3, y2 =>
    if (16 : Int32) ≤ y6 then
      some (y4, y3, y2)
    else
      pb (m_both nf sA x5 y6) <| fun r3 =>
      pb (
        if r3 ≤ y4 then
          some y2
        else
          some x5) <| fun j5 =>
      pb (
        if r3 ≤ y4 then
          some y3
        else
          some y6) <| fun j7 =>
      pb (
        if r3 ≤ y4 then
          some y4
        else
          some r3) <| fun j9 =>
      m_together_L2 nf sA x5 n (y6 + (1 : Int32)) j9 j7 j5
def m_together_L1 (nf : Nat) (sA : Nat → Int32)  : Nat → Int32 → Int32 → Int32 → Int32 → Option (Int32 × Int32 × Int32)
  | 0, _, _, _, _ => none
  | n + 1, y5, y4, y3, y2 =>
    if (16 : Int32) ≤ y5 then
      some (y4, y3, y2)
    else
      pb (m_together_L2 nf sA y5 nf (y5 + (1 : Int32)) y4 y3 y2) <| fun (o2, o3, o4) =>
      m_together_L1 nf sA n (y5 + (1 : Int32)) o2 o3 o4
def m_together (nf : Nat) (sA : Nat → Int32) (x1 : Int32) : Option Int32 :=
  pb (m_in x1 (0 : Int32) (2 : Int32)) <| fun b2 =>
  if (bi b2) = 0 then
    some (-1000001 : Int32)
  else
    pb (m_together_L1 nf sA nf (0 : Int32) (0 : Int32) (0 : Int32) (0 : Int32)) <| fun (o4, o5, o6) =>
    if o4 = 0 then
      some (-1000004 : Int32)
    else
      if x1 = 0 then
        some o6
      else
        if x1 = (1 : Int32) then
          some o5
        else
          some o4
def m_lastEnd_L1 (nf : Nat) (sA : Nat → Int32)  : Nat → Int32 → Int32 → Option Int32
  | 0, _, _ => none
  | n + 1, y2, y1 =>
    if (sA 282) ≤ y2 then
      some y1
    else
      pb (m_of sA y2 (1 : Int32)) <| fun r3 =>
      pb (
        if r3 ≤ y1 then
          some y1
        else
          pb (m_of sA y2 (1 : Int32)) <| fun r6 =>
          some r6) <| fun j7 =>
      m_lastEnd_L1 nf sA n (y2 + (1 : Int32)) j7
def m_lastEnd (nf : Nat) (sA : Nat → Int32)  : Option Int32 :=
  pb (m_lastEnd_L1 nf sA nf (0 : Int32) (0 : Int32)) <| fun o1 =>
  some o1
def m_silence_L1 (nf : Nat) (sA : Nat → Int32) (x5 : Int32) : Nat → Int32 → Int32 → Int32 → Int32 → Option (Int32 × Int32)
  | 0, _, _, _, _ => none
  | n + 1, y6, y4, y3, y2 =>
    if x5 ≤ y6 then
      some (y3, y2)
    else
      if (sA 282) ≤ 0 then
        some (y3, y2)
      else
        pb (m_going nf sA y6) <| fun r4 =>
        pb (
          if r4 = 0 then
            some (y4 + (1 : Int32))
          else
            some (0 : Int32)) <| fun j6 =>
        pb (
          if j6 ≤ y3 then
            some y2
          else
            some ((y6 - j6) + (1 : Int32))) <| fun j8 =>
        pb (
          if j6 ≤ y3 then
            some y3
          else
            some j6) <| fun j10 =>
        m_silence_L1 nf sA x5 n (y6 + (1 : Int32)) j6 j10 j8
def m_silence (nf : Nat) (sA : Nat → Int32) (x1 : Int32) : Option Int32 :=
  pb (m_in x1 (0 : Int32) (1 : Int32)) <| fun b2 =>
  if (bi b2) = 0 then
    some (-1000001 : Int32)
  else
    pb (m_lastEnd nf sA) <| fun r5 =>
    pb (m_of sA (0 : Int32) (0 : Int32)) <| fun r7 =>
    pb (m_silence_L1 nf sA r5 nf r7 (0 : Int32) (0 : Int32) (0 : Int32)) <| fun (o8, o9) =>
    if o8 = 0 then
      some (-1000004 : Int32)
    else
      if x1 = 0 then
        some o9
      else
        some o8
def m_doubtful_L1 (nf : Nat) (sA : Nat → Int32)  : Nat → Int32 → Int32 → Int32 → Option (Int32 × Int32)
  | 0, _, _, _ => none
  | n + 1, y4, y3, y2 =>
    if (sA 282) ≤ y4 then
      some (y3, y2)
    else
      pb (m_of sA y4 (3 : Int32)) <| fun r3 =>
      pb (
        if 0 ≤ r3 then
          pb (m_of sA y4 (3 : Int32)) <| fun r6 =>
          pg (¬ (((276 : Int32) + r6) < 0 ∨ 284 ≤ ((276 : Int32) + r6).toNatClampNeg)) <|
          pb (m_of sA y4 (2 : Int32)) <| fun r9 =>
          pb (m_far (sA ((276 : Int32) + r6).toNatClampNeg) r9) <| fun r11 =>
          some r11
        else
          some (-1 : Int32)) <| fun j12 =>
      pb (
        if j12 ≤ y3 then
          some y2
        else
          some y4) <| fun j14 =>
      pb (
        if j12 ≤ y3 then
          some y3
        else
          some j12) <| fun j16 =>
      m_doubtful_L1 nf sA n (y4 + (1 : Int32)) j16 j14
def m_doubtful (nf : Nat) (sA : Nat → Int32) (x1 : Int32) : Option Int32 :=
  pb (m_in x1 (0 : Int32) (1 : Int32)) <| fun b2 =>
  if (bi b2) = 0 then
    some (-1000001 : Int32)
  else
    pb (m_doubtful_L1 nf sA nf (0 : Int32) (-1 : Int32) (-1000004 : Int32)) <| fun (o4, o5) =>
    if o5 < 0 then
      some o5
    else
      if x1 = 0 then
        some o5
      else
        some o4
def m_corrections_L1 (nf : Nat) (sA : Nat → Int32)  : Nat → Int32 → Int32 → Option Int32
  | 0, _, _ => none
  | n + 1, y2, y1 =>
    if (16 : Int32) ≤ y2 then
      some y1
    else
      pg (¬ (((260 : Int32) + y2) < 0 ∨ 284 ≤ ((260 : Int32) + y2).toNatClampNeg)) <|
      pb (
        if (sA ((260 : Int32) + y2).toNatClampNeg) < 0 then
          some false
        else
          some true) <| fun j4 =>
      m_corrections_L1 nf sA n (y2 + (1 : Int32)) (y1 + (bi j4))
def m_corrections (nf : Nat) (sA : Nat → Int32)  : Option Int32 :=
  pb (m_corrections_L1 nf sA nf (0 : Int32) (0 : Int32)) <| fun o1 =>
  some o1
def m_ones_L1 (nf : Nat)   : Nat → Int32 → Int32 → Option Int32
  | 0, _, _ => none
  | n + 1, y2, y1 =>
    if y2 = 0 then
      some y1
    else
      m_ones_L1 nf  n (y2 &&& (y2 - (1 : Int32))) (y1 + (1 : Int32))
def m_ones (nf : Nat)  (x0 : Int32) : Option Int32 :=
  pb (m_ones_L1 nf  nf x0 (0 : Int32)) <| fun o1 =>
  some o1
def m_ofTurns_L1 (nf : Nat) (sA : Nat → Int32) (x1 : Int32) : Nat → Int32 → Int32 → Option Int32
  | 0, _, _ => none
  | n + 1, y3, y2 =>
    if (sA 282) ≤ y3 then
      some y2
    else
      pb (
        if x1 = (2 : Int32) then
          pb (m_of sA y3 (4 : Int32)) <| fun r12 =>
          some r12
        else
          if x1 = (4 : Int32) then
            pb (m_of sA y3 (3 : Int32)) <| fun r9 =>
            if 0 ≤ r9 then
              some (0 : Int32)
            else
              some (1 : Int32)
          else
            pb (m_overlapping nf sA y3 (0 : Int32)) <| fun r5 =>
            pb (m_ones nf r5) <| fun r7 =>
            some r7) <| fun j13 =>
      m_ofTurns_L1 nf sA x1 n (y3 + (1 : Int32)) (y2 + j13)
def m_ofTurns (nf : Nat) (sA : Nat → Int32) (x1 : Int32) : Option Int32 :=
  pb (m_ofTurns_L1 nf sA x1 nf (0 : Int32) (0 : Int32)) <| fun o1 =>
  if x1 = (5 : Int32) then
    some (o1 / (2 : Int32))
  else
    some o1
def m_seconds_L1 (nf : Nat) (sA : Nat → Int32) (x1 : Int32) : Nat → Int32 → Int32 → Option Int32
  | 0, _, _ => none
  | n + 1, y3, y2 =>
    if (1999 : Int32) < y3 then
      some y2
    else
      pb (m_going nf sA y3) <| fun r3 =>
      pb (m_ones nf r3) <| fun r5 =>
      pb (
        if r5 < x1 then
          some false
        else
          some true) <| fun j7 =>
      m_seconds_L1 nf sA x1 n (y3 + (1 : Int32)) (y2 + (bi j7))
def m_seconds (nf : Nat) (sA : Nat → Int32) (x1 : Int32) : Option Int32 :=
  pb (m_seconds_L1 nf sA x1 nf (0 : Int32) (0 : Int32)) <| fun o1 =>
  some o1
def m_voicesAll_L1 (nf : Nat) (sA : Nat → Int32)  : Nat → Int32 → Int32 → Option Int32
  | 0, _, _ => none
  | n + 1, y2, y1 =>
    if (6 : Int32) ≤ y2 then
      some y1
    else
      pg (¬ (((276 : Int32) + y2) < 0 ∨ 284 ≤ ((276 : Int32) + y2).toNatClampNeg)) <|
      pb (
        if (sA ((276 : Int32) + y2).toNatClampNeg) ≤ 0 then
          some (0 : Int32)
        else
          some ((1 : Int32) <<< (y2 &&& 31))) <| fun j4 =>
      m_voicesAll_L1 nf sA n (y2 + (1 : Int32)) (y1 ||| j4)
def m_voicesAll (nf : Nat) (sA : Nat → Int32)  : Option Int32 :=
  pb (m_voicesAll_L1 nf sA nf (0 : Int32) (0 : Int32)) <| fun o1 =>
  some o1
def m_count (nf : Nat) (sA : Nat → Int32) (pasts : Int32) (typed : Int32) (x1 : Int32) : Option Int32 :=
  if x1 = (0 : Int32) then
    some (sA 282)
  else
  if x1 = (1 : Int32) then
    pb (m_voicesAll nf sA) <| fun r4 =>
    pb (m_ones nf r4) <| fun r6 =>
    some r6
  else
  if x1 = (2 : Int32) then
    pb (m_ofTurns nf sA x1) <| fun r9 =>
    some r9
  else
  if x1 = (3 : Int32) then
    pb (m_corrections nf sA) <| fun r12 =>
    some r12
  else
  if x1 = (4 : Int32) then
    pb (m_ofTurns nf sA x1) <| fun r15 =>
    some r15
  else
  if x1 = (5 : Int32) then
    pb (m_ofTurns nf sA x1) <| fun r18 =>
    some r18
  else
  if x1 = (6 : Int32) then
    pb (m_seconds nf sA (x1 - (5 : Int32))) <| fun r21 =>
    some r21
  else
  if x1 = (7 : Int32) then
    pb (m_seconds nf sA (x1 - (5 : Int32))) <| fun r24 =>
    some r24
  else
  if x1 = (8 : Int32) then
    some pasts
  else
  if x1 = (9 : Int32) then
    some typed
  else
  if x1 = (10 : Int32) then
    pb (m_voicesAll nf sA) <| fun r29 =>
    some r29
  else
  if x1 = (11 : Int32) then
    some (-1000001 : Int32)
  else
  if x1 = (12 : Int32) then
    some (-1000001 : Int32)
  else
  if x1 = (13 : Int32) then
    some (-1000001 : Int32)
  else
  if x1 = (14 : Int32) then
    some (-1000001 : Int32)
  else
  if x1 = (15 : Int32) then
    some (-1000001 : Int32)
  else
  if x1 = (16 : Int32) then
    some (-1000001 : Int32)
  else
  if x1 = (17 : Int32) then
    some (-1000001 : Int32)
  else
  if x1 = (18 : Int32) then
    some (-1000001 : Int32)
  else
  if x1 = (19 : Int32) then
    some (-1000001 : Int32)
  else
  if x1 = (20 : Int32) then
    some (sA 283)
  else
  some (-1000001 : Int32)
def m_undo_L1 (nf : Nat) (past : Nat → Int32) (pasts : Int32)  : Nat → Int32 → (Nat → Int32) → Option (Nat → Int32)
  | 0, _, _ => none
  | n + 1, y1, sA =>
    if (284 : Int32) ≤ y1 then
      some sA
    else
      pg (¬ ((((284 : Int32) * pasts) + y1) < 0 ∨ 1136 ≤ (((284 : Int32) * pasts) + y1).toNatClampNeg)) <|
      pg (¬ (y1 < 0 ∨ 284 ≤ y1.toNatClampNeg)) <|
      m_undo_L1 nf past pasts n (y1 + (1 : Int32)) (upd sA y1.toNatClampNeg (past (((284 : Int32) * pasts) + y1).toNatClampNeg))
def m_undo (nf : Nat) (sA : Nat → Int32) (past : Nat → Int32) (pasts : Int32)  : Option (Int32 × (Nat → Int32) × Int32) :=
  if pasts = 0 then
    some ((-1000002 : Int32), sA, pasts)
  else
    pb (m_undo_L1 nf past (pasts - (1 : Int32)) nf (0 : Int32) sA) <| fun sA_2 =>
    some ((pasts - (1 : Int32)), sA_2, (pasts - (1 : Int32)))
def m_type (text : Nat → Int32) (typed : Int32) (x1 : Int32) : Option (Int32 × (Nat → Int32) × Int32) :=
  pb (m_in x1 (32 : Int32) (126 : Int32)) <| fun b2 =>
  if (bi b2) = 0 then
    some ((-1000001 : Int32), text, typed)
  else
    if typed = (60 : Int32) then
      some ((-1000003 : Int32), text, typed)
    else
      pg (¬ (typed < 0 ∨ 60 ≤ typed.toNatClampNeg)) <|
      some ((typed + (1 : Int32)), (upd text typed.toNatClampNeg x1), (typed + (1 : Int32)))
def m_clearText (typed : Int32)  : Option (Int32 × Int32) :=
  some (typed, (0 : Int32))
def m_copies_sA_held_L1 (nf : Nat) (sA : Nat → Int32)  : Nat → Int32 → (Nat → Int32) → Option (Nat → Int32)
  | 0, _, _ => none
  | n + 1, y2, held =>
    if (284 : Int32) ≤ y2 then
      some held
    else
      pg (¬ (y2 < 0 ∨ 284 ≤ y2.toNatClampNeg)) <|
      m_copies_sA_held_L1 nf sA n (y2 + (1 : Int32)) (upd held y2.toNatClampNeg (sA y2.toNatClampNeg))
def m_copies_sA_held (nf : Nat) (sA : Nat → Int32) (held : Nat → Int32)  : Option (Nat → Int32) :=
  pb (m_copies_sA_held_L1 nf sA nf (0 : Int32) held) <| fun held_1 =>
  some held_1
def m_copies_held_sA_L1 (nf : Nat) (held : Nat → Int32)  : Nat → Int32 → (Nat → Int32) → Option (Nat → Int32)
  | 0, _, _ => none
  | n + 1, y2, sA =>
    if (284 : Int32) ≤ y2 then
      some sA
    else
      pg (¬ (y2 < 0 ∨ 284 ≤ y2.toNatClampNeg)) <|
      m_copies_held_sA_L1 nf held n (y2 + (1 : Int32)) (upd sA y2.toNatClampNeg (held y2.toNatClampNeg))
def m_copies_held_sA (nf : Nat) (sA : Nat → Int32) (held : Nat → Int32)  : Option (Nat → Int32) :=
  pb (m_copies_held_sA_L1 nf held nf (0 : Int32) sA) <| fun sA_1 =>
  some sA_1
def m_calls (nf : Nat) (sA : Nat → Int32) (past : Nat → Int32) (asShown : Nat → Int32) (told : Nat → Int32) (pasts : Int32) (runs : Int32) (order : Int32)  : Option (Int32 × (Nat → Int32) × (Nat → Int32) × (Nat → Int32) × Int32) :=
  if order = (99 : Int32) then
    pb (m_correct nf sA past asShown pasts runs (told 0) (told 1)) <| fun (r3, sA_4, past_5, asShown_6, pasts_7) =>
    some (r3, sA_4, past_5, asShown_6, pasts_7)
  else
  if order = (115 : Int32) then
    pb (m_speaker nf sA past pasts runs (told 0)) <| fun (r10, sA_11, past_12, pasts_13) =>
    some (r10, sA_11, past_12, asShown, pasts_13)
  else
  if order = (116 : Int32) then
    pb (m_turn nf sA past pasts runs (told 0) (told 1) (told 2)) <| fun (r16, sA_17, past_18, pasts_19) =>
    some (r16, sA_17, past_18, asShown, pasts_19)
  else
  if order = (119 : Int32) then
    pb (m_say nf sA past pasts runs (told 0) (told 1)) <| fun (r22, sA_23, past_24, pasts_25) =>
    some (r22, sA_23, past_24, asShown, pasts_25)
  else
  pb (m_give nf sA past pasts runs (told 0) (told 1)) <| fun (r27, sA_28, past_29, pasts_30) =>
  some (r27, sA_28, past_29, asShown, pasts_30)
def m_isAt (text : Nat → Int32) (typed : Int32) (spot : Int32) (x1 : Int32) (x2 : Int32) : Option Bool :=
  if typed ≤ spot then
    some false
  else
    pg (¬ (spot < 0 ∨ 60 ≤ spot.toNatClampNeg)) <|
    pb (m_in (text spot.toNatClampNeg) x1 x2) <| fun b4 =>
    if (bi b4) = 0 then
      some false
    else
      some true
def m_number_L1 (nf : Nat) (text : Nat → Int32) (typed : Int32) (x2 : Int32) (x1 : Int32) : Nat → (Nat → Int32) → Int32 → Option ((Nat → Int32) × Int32)
  | 0, _, _ => none
  | n + 1, told, spot =>
    pb (m_isAt text typed spot (48 : Int32) (57 : Int32)) <| fun b2 =>
    if (bi b2) = 0 then
      some (told, spot)
    else
      if (4 : Int32) ≤ (spot - x2) then
        some (told, spot)
      else
        pg (¬ (x1 < 0 ∨ 3 ≤ x1.toNatClampNeg)) <|
        pg (¬ (spot < 0 ∨ 60 ≤ spot.toNatClampNeg)) <|
        m_number_L1 nf text typed x2 x1 n (upd told x1.toNatClampNeg ((((10 : Int32) * (told x1.toNatClampNeg)) + (text spot.toNatClampNeg)) - (48 : Int32))) (spot + (1 : Int32))
def m_number (nf : Nat) (text : Nat → Int32) (told : Nat → Int32) (typed : Int32) (spot : Int32) (x1 : Int32) : Option (Bool × (Nat → Int32) × Int32) :=
  pg (¬ (x1 < 0 ∨ 3 ≤ x1.toNatClampNeg)) <|
  pb (m_number_L1 nf text typed spot x1 nf (upd told x1.toNatClampNeg (0 : Int32)) spot) <| fun (told_2, spot_3) =>
  if spot_3 ≤ spot then
    some (false, told_2, spot_3)
  else
    some (true, told_2, spot_3)
def m_numbersOf  (x0 : Int32) : Option Int32 :=
  if x0 = (116 : Int32) then
    some (3 : Int32)
  else
    if x0 = (119 : Int32) then
      some (2 : Int32)
    else
      if x0 = (99 : Int32) then
        some (2 : Int32)
      else
        if x0 = (103 : Int32) then
          some (2 : Int32)
        else
          if x0 = (115 : Int32) then
            some (1 : Int32)
          else
            some (0 : Int32)
def m_sign (text : Nat → Int32) (typed : Int32) (spot : Int32) (x1 : Int32) : Option (Bool × Int32) :=
  pb (m_isAt text typed spot x1 x1) <| fun b2 =>
  pb (
    if (bi b2) = 0 then
      some false
    else
      some true) <| fun j4 =>
  some (b2, (spot + (bi j4)))
def m_reads_L1 (nf : Nat) (text : Nat → Int32) (typed : Int32) (x1 : Int32) : Nat → Int32 → Bool → (Nat → Int32) → Int32 → Option (Bool × (Nat → Int32) × Int32)
  | 0, _, _, _, _ => none
  | n + 1, y3, y2, told, spot =>
    if x1 ≤ y3 then
      some (y2, told, spot)
    else
      if (bi y2) = 0 then
        some (y2, told, spot)
      else
        pb (m_sign text typed spot (44 : Int32)) <| fun (b4, spot_5) =>
        pb (
          if (bi b4) = 0 then
            some (false, told, spot_5)
          else
            pb (m_number nf text told typed spot_5 y3) <| fun (b8, told_9, spot_10) =>
            if (bi b8) = 0 then
              some (false, told_9, spot_10)
            else
              some (true, told_9, spot_10)) <| fun (j12, told_13, spot_14) =>
        m_reads_L1 nf text typed x1 n (y3 + (1 : Int32)) j12 told_13 spot_14
def m_reads (nf : Nat) (text : Nat → Int32) (told : Nat → Int32) (typed : Int32) (spot : Int32) (order : Int32)  : Option (Bool × (Nat → Int32) × Int32 × Int32) :=
  pb (m_isAt text typed spot (33 : Int32) (126 : Int32)) <| fun b2 =>
  pb (
    if (bi b2) = 0 then
      some (0 : Int32)
    else
      pg (¬ (spot < 0 ∨ 60 ≤ spot.toNatClampNeg)) <|
      some (text spot.toNatClampNeg)) <| fun j5 =>
  pb (m_numbersOf j5) <| fun r7 =>
  if r7 = 0 then
    some (false, told, spot, j5)
  else
    pb (m_number nf text told typed (spot + (1 : Int32)) (0 : Int32)) <| fun (b10, told_11, spot_12) =>
    pb (m_reads_L1 nf text typed r7 nf (1 : Int32) b10 told_11 spot_12) <| fun (o13, told_14, spot_15) =>
    if (bi o13) = 0 then
      some (false, told_14, spot_15, j5)
    else
      pb (m_sign text typed spot_15 (59 : Int32)) <| fun (b18, spot_19) =>
      if (bi b18) = 0 then
        some (false, told_14, spot_19, j5)
      else
        some (true, told_14, spot_19, j5)
def m_plays_L1 (nf : Nat) (text : Nat → Int32) (runs : Int32) (typed : Int32)  : Nat → Bool → (Nat → Int32) → (Nat → Int32) → (Nat → Int32) → (Nat → Int32) → Int32 → Int32 → Int32 → Int32 → Int32 → Int32 → Int32 → Option (Bool × (Nat → Int32) × (Nat → Int32) × (Nat → Int32) × (Nat → Int32) × Int32 × Int32 × Int32 × Int32 × Int32 × Int32 × Int32)
  | 0, _, _, _, _, _, _, _, _, _, _, _, _ => none
  | n + 1, y1, sA, past, asShown, told, pasts, spot, from_, reason, cause, orders, order =>
    if typed ≤ spot then
      some (y1, sA, past, asShown, told, pasts, spot, from_, reason, cause, orders, order)
    else
      if (bi y1) = 0 then
        some (y1, sA, past, asShown, told, pasts, spot, from_, reason, cause, orders, order)
      else
        pb (m_reads nf text told typed spot order) <| fun (b4, told_5, spot_6, order_7) =>
        pb (
          if (bi b4) = 0 then
            some ((0 : Int32), sA, past, asShown, pasts)
          else
            pb (m_calls nf sA past asShown told_5 pasts runs order_7) <| fun (r10, sA_11, past_12, asShown_13, pasts_14) =>
            some (r10, sA_11, past_12, asShown_13, pasts_14)) <| fun (j15, sA_16, past_17, asShown_18, pasts_19) =>
        pb (
          if (bi b4) = 0 then
            some false
          else
            if j15 < 0 then
              some false
            else
              some true) <| fun j22 =>
        pb (
          if (bi b4) = 0 then
            some (1 : Int32)
          else
            some (2 : Int32)) <| fun j24 =>
        pb (
          if (bi b4) = 0 then
            some (spot_6 - spot)
          else
            some j15) <| fun j26 =>
        m_plays_L1 nf text runs typed n j22 sA_16 past_17 asShown_18 told_5 pasts_19 spot_6 spot j24 j26 (orders + (1 : Int32)) order_7
def m_plays (nf : Nat) (sA : Nat → Int32) (past : Nat → Int32) (text : Nat → Int32) (asShown : Nat → Int32) (told : Nat → Int32) (pasts : Int32) (runs : Int32) (typed : Int32) (spot : Int32) (from_ : Int32) (reason : Int32) (cause : Int32) (orders : Int32) (order : Int32)  : Option (Bool × (Nat → Int32) × (Nat → Int32) × (Nat → Int32) × (Nat → Int32) × Int32 × Int32 × Int32 × Int32 × Int32 × Int32 × Int32 × Int32) :=
  pb (m_plays_L1 nf text (1 : Int32) typed nf true sA past asShown told pasts (0 : Int32) (0 : Int32) reason cause (0 : Int32) order) <| fun (o1, sA_2, past_3, asShown_4, told_5, pasts_6, spot_7, from_8, reason_9, cause_10, orders_11, order_12) =>
  some (o1, sA_2, past_3, asShown_4, told_5, pasts_6, (0 : Int32), spot_7, from_8, reason_9, cause_10, orders_11, order_12)
def m_fault (nf : Nat) (sA : Nat → Int32) (past : Nat → Int32) (held : Nat → Int32) (text : Nat → Int32) (asShown : Nat → Int32) (told : Nat → Int32) (pasts : Int32) (runs : Int32) (typed : Int32) (spot : Int32) (from_ : Int32) (reason : Int32) (cause : Int32) (orders : Int32) (order : Int32) (x1 : Int32) : Option (Int32 × (Nat → Int32) × (Nat → Int32) × (Nat → Int32) × (Nat → Int32) × (Nat → Int32) × Int32 × Int32 × Int32 × Int32 × Int32 × Int32 × Int32 × Int32) :=
  pb (m_in x1 (0 : Int32) (2 : Int32)) <| fun b2 =>
  if (bi b2) = 0 then
    some ((-1000001 : Int32), sA, past, held, asShown, told, pasts, runs, spot, from_, reason, cause, orders, order)
  else
    pb (m_copies_sA_held nf sA held) <| fun held_5 =>
    pb (m_plays nf sA past text asShown told pasts runs typed spot from_ reason cause orders order) <| fun (b7, sA_8, past_9, asShown_10, told_11, pasts_12, runs_13, spot_14, from_15, reason_16, cause_17, orders_18, order_19) =>
    pb (m_copies_held_sA nf sA_8 held_5) <| fun sA_21 =>
    if (bi b7) = 0 then
      if x1 = 0 then
        some (from_15, sA_21, past_9, held_5, asShown_10, told_11, pasts_12, runs_13, spot_14, from_15, reason_16, cause_17, orders_18, order_19)
      else
        if x1 = (1 : Int32) then
          some (reason_16, sA_21, past_9, held_5, asShown_10, told_11, pasts_12, runs_13, spot_14, from_15, reason_16, cause_17, orders_18, order_19)
        else
          some (cause_17, sA_21, past_9, held_5, asShown_10, told_11, pasts_12, runs_13, spot_14, from_15, reason_16, cause_17, orders_18, order_19)
    else
      some ((-1000004 : Int32), sA_21, past_9, held_5, asShown_10, told_11, pasts_12, runs_13, spot_14, from_15, reason_16, cause_17, orders_18, order_19)
def m_play (nf : Nat) (sA : Nat → Int32) (past : Nat → Int32) (held : Nat → Int32) (text : Nat → Int32) (asShown : Nat → Int32) (told : Nat → Int32) (pasts : Int32) (runs : Int32) (typed : Int32) (spot : Int32) (from_ : Int32) (reason : Int32) (cause : Int32) (orders : Int32) (order : Int32)  : Option (Int32 × (Nat → Int32) × (Nat → Int32) × (Nat → Int32) × (Nat → Int32) × (Nat → Int32) × Int32 × Int32 × Int32 × Int32 × Int32 × Int32 × Int32 × Int32) :=
  pb (m_copies_sA_held nf sA held) <| fun held_2 =>
  pb (m_plays nf sA past text asShown told pasts runs typed spot from_ reason cause orders order) <| fun (b4, sA_5, past_6, asShown_7, told_8, pasts_9, runs_10, spot_11, from_12, reason_13, cause_14, orders_15, order_16) =>
  pb (m_copies_held_sA nf sA_5 held_2) <| fun sA_18 =>
  if (bi b4) = 0 then
    some ((-1000002 : Int32), sA_18, past_6, held_2, asShown_7, told_8, pasts_9, runs_10, spot_11, from_12, reason_13, cause_14, orders_15, order_16)
  else
    pb (m_changes nf sA_18 past_6 pasts_9 runs_10) <| fun (past_21, pasts_22) =>
    pb (m_plays nf sA_18 past_21 text asShown_7 told_8 pasts_22 runs_10 typed spot_11 from_12 reason_13 cause_14 orders_15 order_16) <| fun (b24, sA_25, past_26, asShown_27, told_28, pasts_29, runs_30, spot_31, from_32, reason_33, cause_34, orders_35, order_36) =>
    if (bi b24) = 0 then
      some ((-1000004 : Int32), sA_25, past_26, held_2, asShown_27, told_28, pasts_29, runs_30, spot_31, from_32, reason_33, cause_34, orders_35, order_36)
    else
      some (orders_35, sA_25, past_26, held_2, asShown_27, told_28, pasts_29, runs_30, spot_31, from_32, reason_33, cause_34, orders_35, order_36)
