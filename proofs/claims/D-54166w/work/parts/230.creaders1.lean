/-! readers of ints and turns (printed by wip/gen/gen_comp.py) -/
def m_X0_isBetween   (x0 : Int64) (x2 : Int64) (x4 : Int64) : Option Bool :=
  if (lg_cmp x0 x2) < 0 then
    some false
  else
    if 0 < (lg_cmp x0 x4) then
      some false
    else
      some true
def m_X0_isTerm   (x0 : Int32) : Option Bool :=
  pb (m_X0_isBetween x0.toInt64 (0 : Int64) (15 : Int64)) <| fun b2 =>
  some b2
def m_X0_isPitch   (x0 : Int32) : Option Bool :=
  pb (m_X0_isBetween x0.toInt64 (50 : Int64) (500 : Int64)) <| fun b2 =>
  some b2
def m_X0_orNotFound   (x0 : Int32) : Option Int32 :=
  if x0 = (-1 : Int32) then
    some (-1000004 : Int32)
  else
    some x0
def m_J17_bitCount   (x0 : Int32) : Option Int32 :=
  some ((((((((x0 - ((x0.toUInt32 >>> ((1 : Int32).toUInt32 &&& Int32.toUInt32 31)).toInt32 &&& (1431655765 : Int32))) &&& (858993459 : Int32)) + (((x0 - ((x0.toUInt32 >>> ((1 : Int32).toUInt32 &&& Int32.toUInt32 31)).toInt32 &&& (1431655765 : Int32))).toUInt32 >>> ((2 : Int32).toUInt32 &&& Int32.toUInt32 31)).toInt32 &&& (858993459 : Int32))) + ((((x0 - ((x0.toUInt32 >>> ((1 : Int32).toUInt32 &&& Int32.toUInt32 31)).toInt32 &&& (1431655765 : Int32))) &&& (858993459 : Int32)) + (((x0 - ((x0.toUInt32 >>> ((1 : Int32).toUInt32 &&& Int32.toUInt32 31)).toInt32 &&& (1431655765 : Int32))).toUInt32 >>> ((2 : Int32).toUInt32 &&& Int32.toUInt32 31)).toInt32 &&& (858993459 : Int32))).toUInt32 >>> ((4 : Int32).toUInt32 &&& Int32.toUInt32 31)).toInt32) &&& (252645135 : Int32)) + ((((((x0 - ((x0.toUInt32 >>> ((1 : Int32).toUInt32 &&& Int32.toUInt32 31)).toInt32 &&& (1431655765 : Int32))) &&& (858993459 : Int32)) + (((x0 - ((x0.toUInt32 >>> ((1 : Int32).toUInt32 &&& Int32.toUInt32 31)).toInt32 &&& (1431655765 : Int32))).toUInt32 >>> ((2 : Int32).toUInt32 &&& Int32.toUInt32 31)).toInt32 &&& (858993459 : Int32))) + ((((x0 - ((x0.toUInt32 >>> ((1 : Int32).toUInt32 &&& Int32.toUInt32 31)).toInt32 &&& (1431655765 : Int32))) &&& (858993459 : Int32)) + (((x0 - ((x0.toUInt32 >>> ((1 : Int32).toUInt32 &&& Int32.toUInt32 31)).toInt32 &&& (1431655765 : Int32))).toUInt32 >>> ((2 : Int32).toUInt32 &&& Int32.toUInt32 31)).toInt32 &&& (858993459 : Int32))).toUInt32 >>> ((4 : Int32).toUInt32 &&& Int32.toUInt32 31)).toInt32) &&& (252645135 : Int32)).toUInt32 >>> ((8 : Int32).toUInt32 &&& Int32.toUInt32 31)).toInt32) + (((((((x0 - ((x0.toUInt32 >>> ((1 : Int32).toUInt32 &&& Int32.toUInt32 31)).toInt32 &&& (1431655765 : Int32))) &&& (858993459 : Int32)) + (((x0 - ((x0.toUInt32 >>> ((1 : Int32).toUInt32 &&& Int32.toUInt32 31)).toInt32 &&& (1431655765 : Int32))).toUInt32 >>> ((2 : Int32).toUInt32 &&& Int32.toUInt32 31)).toInt32 &&& (858993459 : Int32))) + ((((x0 - ((x0.toUInt32 >>> ((1 : Int32).toUInt32 &&& Int32.toUInt32 31)).toInt32 &&& (1431655765 : Int32))) &&& (858993459 : Int32)) + (((x0 - ((x0.toUInt32 >>> ((1 : Int32).toUInt32 &&& Int32.toUInt32 31)).toInt32 &&& (1431655765 : Int32))).toUInt32 >>> ((2 : Int32).toUInt32 &&& Int32.toUInt32 31)).toInt32 &&& (858993459 : Int32))).toUInt32 >>> ((4 : Int32).toUInt32 &&& Int32.toUInt32 31)).toInt32) &&& (252645135 : Int32)) + ((((((x0 - ((x0.toUInt32 >>> ((1 : Int32).toUInt32 &&& Int32.toUInt32 31)).toInt32 &&& (1431655765 : Int32))) &&& (858993459 : Int32)) + (((x0 - ((x0.toUInt32 >>> ((1 : Int32).toUInt32 &&& Int32.toUInt32 31)).toInt32 &&& (1431655765 : Int32))).toUInt32 >>> ((2 : Int32).toUInt32 &&& Int32.toUInt32 31)).toInt32 &&& (858993459 : Int32))) + ((((x0 - ((x0.toUInt32 >>> ((1 : Int32).toUInt32 &&& Int32.toUInt32 31)).toInt32 &&& (1431655765 : Int32))) &&& (858993459 : Int32)) + (((x0 - ((x0.toUInt32 >>> ((1 : Int32).toUInt32 &&& Int32.toUInt32 31)).toInt32 &&& (1431655765 : Int32))).toUInt32 >>> ((2 : Int32).toUInt32 &&& Int32.toUInt32 31)).toInt32 &&& (858993459 : Int32))).toUInt32 >>> ((4 : Int32).toUInt32 &&& Int32.toUInt32 31)).toInt32) &&& (252645135 : Int32)).toUInt32 >>> ((8 : Int32).toUInt32 &&& Int32.toUInt32 31)).toInt32).toUInt32 >>> ((16 : Int32).toUInt32 &&& Int32.toUInt32 31)).toInt32) &&& (63 : Int32))
def m_X4_begins   (v1 : TV) : Option Int32 :=
  some (vB v1)
def m_X4_seconds   (v1 : TV) : Option Int32 :=
  some ((vE v1) - (vB v1))
def m_X4_goesOn   (v1 : TV) (x1 : Int32) : Option Bool :=
  if x1 < (vB v1) then
    some false
  else
    if (vE v1) ≤ x1 then
      some false
    else
      some true
def m_X4_meets   (v1 : TV) (v2 : TV) : Option Bool :=
  if (vE v2) ≤ (vB v1) then
    some false
  else
    if (vE v1) ≤ (vB v2) then
      some false
    else
      some true
def m_X4_breaksInto   (v1 : TV) (v2 : TV) : Option Bool :=
  if (vB v1) ≤ (vB v2) then
    some false
  else
    if (vE v2) ≤ (vB v1) then
      some false
    else
      if (vS v1) = (-1 : Int32) then
        some false
      else
        if (vS v2) = (-1 : Int32) then
          some false
        else
          if (vS v1) = (vS v2) then
            some false
          else
            some true
theorem hd_X0_isBetween : yX0_isBetween.cls ≠ "java/lang/invoke/MethodHandle" ∧ yX0_isBetween.cls ≠ "java/lang/invoke/VarHandle" ∧ (parseMethodDescriptor yX0_isBetween.desc).map (fun d => d.parameters.length) = some 3 := by decide +kernel
set_option maxHeartbeats 4000000 in
set_option maxRecDepth 100000 in
theorem met_X0_isBetween {l : Launch} {x0 : Int64} {x2 : Int64} {x4 : Int64} {b : Bool}  (h : m_X0_isBetween   x0 x2 x4 = some b) : Met l yX0_isBetween (ws_ yX0_isBetween cX0_isBetween 6 (some .boolean)) ({ frames := 1, cells := 0, slots := 0, locals := 12 } : Room) (va_Pc [.long x0, .long x2, .long x4] (fun _ => True)) (QcV (some (.int (bi b)))) 0 0 (fun _ => False) := by
  refine Met.ofW (cc := cX0_isBetween) (maxL := 6) (ret := (some .boolean)) (by decide) rfl ?_
  intro p e s m args below meth c s₁ B hml hv
  obtain ⟨rfl, -⟩ := hv
  have hx := B.exec
  have hb := B.bytes
  have hr := B.returns
  have hts := atoms_spec (ws := ws_ yX0_isBetween cX0_isBetween 6 (some .boolean)) B.pre
  have hts : ∀ w ∈ lw_all, w.before _ s = true := fun w h => hts w (List.mem_cons_of_mem _ h)
  have hown : s.vm.findClass RX0 = some m.cls := findClass_of_methodNamed B.named
  have hlocks := B.notSynchronized
  have hl := lv_entry ([.long x0, .long x2, .long x4]) (n := 6) (Nat.le_of_ble_eq_true rfl)
  rw [lg_entry_eq]
  generalize (lg_sl ([.long x0, .long x2, .long x4]) ++ List.replicate (6 - (lg_sl ([.long x0, .long x2, .long x4])).length) Slot.unset).toArray = ls at hl ⊢
  have hl : lv_has ls 6 [(0, .long x0), (2, .long x2), (4, .long x4)] := hl
  unfold m_X0_isBetween at h
  refine lv_lload_n hx hb dX0_isBetween_0 rfl (lv_at hl 0 rfl) ?_
  refine lv_lload_n hx hb dX0_isBetween_1 rfl (lv_at hl 1 rfl) ?_
  refine W.lcmp hx hb dX0_isBetween_2 ?_
  refine lv_if_lt (tgt := 17) hx hb dX0_isBetween_3 (by decide) (fun c1 => ?_) (fun c1 => ?_)
  · have h := pi_t c1 h
    refine lv_iconst (v := 0) hx hb dX0_isBetween_17 (by decide) ?_
    cases h
    exact W.zret hx hb hr rfl (fun t ht hW => c_ret ht) (fun q hq => absurd hq List.not_mem_nil) dX0_isBetween_18
  · have h := pi_f c1 h
    refine lv_lload_n hx hb dX0_isBetween_6 rfl (lv_at hl 0 rfl) ?_
    refine lv_lload hx hb dX0_isBetween_7 (lv_at hl 2 rfl) ?_
    refine W.lcmp hx hb dX0_isBetween_9 ?_
    refine lv_if_gt (tgt := 17) hx hb dX0_isBetween_10 (by decide) (fun c2 => ?_) (fun c2 => ?_)
    · have h := pi_t c2 h
      refine lv_iconst (v := 0) hx hb dX0_isBetween_17 (by decide) ?_
      cases h
      exact W.zret hx hb hr rfl (fun t ht hW => c_ret ht) (fun q hq => absurd hq List.not_mem_nil) dX0_isBetween_18
    · have h := pi_f c2 h
      refine lv_iconst (v := 1) hx hb dX0_isBetween_13 (by decide) ?_
      refine lv_goto (tgt := 18) hx hb dX0_isBetween_14 (by decide) ?_
      cases h
      exact W.zret hx hb hr rfl (fun t ht hW => c_ret ht) (fun q hq => absurd hq List.not_mem_nil) dX0_isBetween_18
theorem hd_X0_isTerm : yX0_isTerm.cls ≠ "java/lang/invoke/MethodHandle" ∧ yX0_isTerm.cls ≠ "java/lang/invoke/VarHandle" ∧ (parseMethodDescriptor yX0_isTerm.desc).map (fun d => d.parameters.length) = some 1 := by decide +kernel
set_option maxHeartbeats 4000000 in
set_option maxRecDepth 100000 in
theorem met_X0_isTerm {l : Launch} {x0 : Int32} {b : Bool}  (h : m_X0_isTerm   x0 = some b) : Met l yX0_isTerm (ws_ yX0_isTerm cX0_isTerm 1 (some .boolean)) ({ frames := 2, cells := 0, slots := 0, locals := 37 } : Room) (va_Pc [.int x0] (fun _ => True)) (QcV (some (.int (bi b)))) 0 0 (fun _ => False) := by
  refine Met.ofW (cc := cX0_isTerm) (maxL := 1) (ret := (some .boolean)) (by decide) rfl ?_
  intro p e s m args below meth c s₁ B hml hv
  obtain ⟨rfl, -⟩ := hv
  have hx := B.exec
  have hb := B.bytes
  have hr := B.returns
  have hts := atoms_spec (ws := ws_ yX0_isTerm cX0_isTerm 1 (some .boolean)) B.pre
  have hts : ∀ w ∈ lw_all, w.before _ s = true := fun w h => hts w (List.mem_cons_of_mem _ h)
  have hown : s.vm.findClass RX0 = some m.cls := findClass_of_methodNamed B.named
  have hlocks := B.notSynchronized
  have hl := lv_entry ([.int x0]) (n := 1) (Nat.le_of_ble_eq_true rfl)
  rw [lg_entry_eq]
  generalize (lg_sl ([.int x0]) ++ List.replicate (1 - (lg_sl ([.int x0])).length) Slot.unset).toArray = ls at hl ⊢
  have hl : lv_has ls 1 [(0, .int x0)] := hl
  unfold m_X0_isTerm at h
  refine lv_iload_n hx hb dX0_isTerm_0 rfl (lv_at hl 0 rfl) ?_
  refine lv_i2l hx hb dX0_isTerm_1 rfl ?_
  refine lv_lconst (v := 0) hx hb dX0_isTerm_2 (by decide) ?_
  refine lv_ldc2 hx hb hown (hts _ q541) dX0_isTerm_3 ?_
  obtain ⟨b2, e1, h⟩ := pb_some h
  refine c_call (va_runS (As := [.long x0.toInt64, .long (0 : Int64), .long (15 : Int64)]) (rest := []) ⟨hx, hb, hml, hown, hts⟩ (met_X0_isBetween e1) (va_cwS 3 hts (lw_S q454 q446 q66 q447) rfl rfl rfl hd_X0_isBetween ⟨Nat.le_of_ble_eq_true rfl, Nat.le_of_ble_eq_true rfl⟩) m_preS rfl rfl hl.1 rfl (lv_room (Nat.le_of_ble_eq_true rfl)) dX0_isTerm_6 ⟨Nat.le_of_ble_eq_true rfl, Nat.le_of_ble_eq_true rfl⟩) ?_
  cases h
  exact W.zret hx hb hr (bi_nar _) (fun t ht hW => c_ret ht) (fun q hq => absurd hq List.not_mem_nil) dX0_isTerm_9
theorem hd_X0_isPitch : yX0_isPitch.cls ≠ "java/lang/invoke/MethodHandle" ∧ yX0_isPitch.cls ≠ "java/lang/invoke/VarHandle" ∧ (parseMethodDescriptor yX0_isPitch.desc).map (fun d => d.parameters.length) = some 1 := by decide +kernel
set_option maxHeartbeats 4000000 in
set_option maxRecDepth 100000 in
theorem met_X0_isPitch {l : Launch} {x0 : Int32} {b : Bool}  (h : m_X0_isPitch   x0 = some b) : Met l yX0_isPitch (ws_ yX0_isPitch cX0_isPitch 1 (some .boolean)) ({ frames := 2, cells := 0, slots := 0, locals := 37 } : Room) (va_Pc [.int x0] (fun _ => True)) (QcV (some (.int (bi b)))) 0 0 (fun _ => False) := by
  refine Met.ofW (cc := cX0_isPitch) (maxL := 1) (ret := (some .boolean)) (by decide) rfl ?_
  intro p e s m args below meth c s₁ B hml hv
  obtain ⟨rfl, -⟩ := hv
  have hx := B.exec
  have hb := B.bytes
  have hr := B.returns
  have hts := atoms_spec (ws := ws_ yX0_isPitch cX0_isPitch 1 (some .boolean)) B.pre
  have hts : ∀ w ∈ lw_all, w.before _ s = true := fun w h => hts w (List.mem_cons_of_mem _ h)
  have hown : s.vm.findClass RX0 = some m.cls := findClass_of_methodNamed B.named
  have hlocks := B.notSynchronized
  have hl := lv_entry ([.int x0]) (n := 1) (Nat.le_of_ble_eq_true rfl)
  rw [lg_entry_eq]
  generalize (lg_sl ([.int x0]) ++ List.replicate (1 - (lg_sl ([.int x0])).length) Slot.unset).toArray = ls at hl ⊢
  have hl : lv_has ls 1 [(0, .int x0)] := hl
  unfold m_X0_isPitch at h
  refine lv_iload_n hx hb dX0_isPitch_0 rfl (lv_at hl 0 rfl) ?_
  refine lv_i2l hx hb dX0_isPitch_1 rfl ?_
  refine lv_ldc2 hx hb hown (hts _ q452) dX0_isPitch_2 ?_
  refine lv_ldc2 hx hb hown (hts _ q453) dX0_isPitch_5 ?_
  obtain ⟨b2, e1, h⟩ := pb_some h
  refine c_call (va_runS (As := [.long x0.toInt64, .long (50 : Int64), .long (500 : Int64)]) (rest := []) ⟨hx, hb, hml, hown, hts⟩ (met_X0_isBetween e1) (va_cwS 3 hts (lw_S q454 q446 q66 q447) rfl rfl rfl hd_X0_isBetween ⟨Nat.le_of_ble_eq_true rfl, Nat.le_of_ble_eq_true rfl⟩) m_preS rfl rfl hl.1 rfl (lv_room (Nat.le_of_ble_eq_true rfl)) dX0_isPitch_8 ⟨Nat.le_of_ble_eq_true rfl, Nat.le_of_ble_eq_true rfl⟩) ?_
  cases h
  exact W.zret hx hb hr (bi_nar _) (fun t ht hW => c_ret ht) (fun q hq => absurd hq List.not_mem_nil) dX0_isPitch_11
theorem hd_X0_orNotFound : yX0_orNotFound.cls ≠ "java/lang/invoke/MethodHandle" ∧ yX0_orNotFound.cls ≠ "java/lang/invoke/VarHandle" ∧ (parseMethodDescriptor yX0_orNotFound.desc).map (fun d => d.parameters.length) = some 1 := by decide +kernel
set_option maxHeartbeats 4000000 in
set_option maxRecDepth 100000 in
theorem met_X0_orNotFound {l : Launch} {x0 : Int32} {r : Int32}  (h : m_X0_orNotFound   x0 = some r) : Met l yX0_orNotFound (ws_ yX0_orNotFound cX0_orNotFound 1 (some .int)) ({ frames := 1, cells := 0, slots := 0, locals := 12 } : Room) (va_Pc [.int x0] (fun _ => True)) (QcV (some (.int r))) 0 0 (fun _ => False) := by
  refine Met.ofW (cc := cX0_orNotFound) (maxL := 1) (ret := (some .int)) (by decide) rfl ?_
  intro p e s m args below meth c s₁ B hml hv
  obtain ⟨rfl, -⟩ := hv
  have hx := B.exec
  have hb := B.bytes
  have hr := B.returns
  have hts := atoms_spec (ws := ws_ yX0_orNotFound cX0_orNotFound 1 (some .int)) B.pre
  have hts : ∀ w ∈ lw_all, w.before _ s = true := fun w h => hts w (List.mem_cons_of_mem _ h)
  have hown : s.vm.findClass RX0 = some m.cls := findClass_of_methodNamed B.named
  have hlocks := B.notSynchronized
  have hl := lv_entry ([.int x0]) (n := 1) (Nat.le_of_ble_eq_true rfl)
  rw [lg_entry_eq]
  generalize (lg_sl ([.int x0]) ++ List.replicate (1 - (lg_sl ([.int x0])).length) Slot.unset).toArray = ls at hl ⊢
  have hl : lv_has ls 1 [(0, .int x0)] := hl
  unfold m_X0_orNotFound at h
  refine lv_iload_n hx hb dX0_orNotFound_0 rfl (lv_at hl 0 rfl) ?_
  refine lv_iconst (v := -1) hx hb dX0_orNotFound_1 (by decide) ?_
  refine lv_icmp_ne (tgt := 10) hx hb dX0_orNotFound_2 (by decide) (fun c1 => ?_) (fun c1 => ?_)
  · have h := pi_f c1 h
    refine lv_iload_n hx hb dX0_orNotFound_10 rfl (lv_at hl 0 rfl) ?_
    cases h
    exact W.iret hx hb hr (fun t ht hW => c_ret ht) (fun q hq => absurd hq List.not_mem_nil) dX0_orNotFound_11
  · have h := pi_t c1 h
    refine lv_ldc hx hb hown (hts _ q783) dX0_orNotFound_5 ?_
    refine lv_goto (tgt := 11) hx hb dX0_orNotFound_7 (by decide) ?_
    cases h
    exact W.iret hx hb hr (fun t ht hW => c_ret ht) (fun q hq => absurd hq List.not_mem_nil) dX0_orNotFound_11
theorem hd_J17_bitCount : yJ17_bitCount.cls ≠ "java/lang/invoke/MethodHandle" ∧ yJ17_bitCount.cls ≠ "java/lang/invoke/VarHandle" ∧ (parseMethodDescriptor yJ17_bitCount.desc).map (fun d => d.parameters.length) = some 1 := by decide +kernel
set_option maxHeartbeats 4000000 in
set_option maxRecDepth 100000 in
theorem met_J17_bitCount {l : Launch} {x0 : Int32} {r : Int32}  (h : m_J17_bitCount   x0 = some r) : Met l yJ17_bitCount (ws_ yJ17_bitCount cJ17_bitCount 1 (some .int)) ({ frames := 1, cells := 0, slots := 0, locals := 12 } : Room) (va_Pc [.int x0] (fun _ => True)) (QcV (some (.int r))) 0 0 (fun _ => False) := by
  refine va_MetF (cc := cJ17_bitCount) (maxL := 1) (ret := (some .int)) (by decide +kernel) rfl ?_
  intro p e s m args below meth c s₁ B hml hv
  obtain ⟨rfl, -⟩ := hv
  have hx := B.exec
  have hb := B.bytes
  have hr := B.returns
  have hts := atoms_spec (ws := ws_ yJ17_bitCount cJ17_bitCount 1 (some .int)) B.pre
  have hts : ∀ w ∈ lw_all, w.before _ s = true := fun w h => hts w (List.mem_cons_of_mem _ h)
  have hown : s.vm.findClass RJ17 = some m.cls := findClass_of_methodNamed B.named
  have hlocks := B.notSynchronized
  have hl := lv_entry ([.int x0]) (n := 1) (Nat.le_of_ble_eq_true rfl)
  rw [lg_entry_eq]
  generalize (lg_sl ([.int x0]) ++ List.replicate (1 - (lg_sl ([.int x0])).length) Slot.unset).toArray = ls at hl ⊢
  have hl : lv_has ls 1 [(0, .int x0)] := hl
  unfold m_J17_bitCount at h
  refine lv_iload_n hx hb dJ17_bitCount_0 rfl (lv_at hl 0 rfl) ?_
  refine lv_iload_n hx hb dJ17_bitCount_1 rfl (lv_at hl 0 rfl) ?_
  refine lv_iconst (v := 1) hx hb dJ17_bitCount_2 (by decide) ?_
  refine lv_iushr hx hb dJ17_bitCount_3 rfl ?_
  refine lv_ldcw hx hb hown (hts _ q946) dJ17_bitCount_4 ?_
  refine lv_iand hx hb dJ17_bitCount_7 ?_
  refine lv_isub hx hb dJ17_bitCount_8 ?_
  refine lv_istore_n (lv' := [(0, .int (x0 - ((x0.toUInt32 >>> ((1 : Int32).toUInt32 &&& Int32.toUInt32 31)).toInt32 &&& (1431655765 : Int32))))]) hx hb dJ17_bitCount_9 rfl hl (by decide) rfl (fun ls hl => ?_)
  refine lv_iload_n hx hb dJ17_bitCount_10 rfl (lv_at hl 0 rfl) ?_
  refine lv_ldcw hx hb hown (hts _ q947) dJ17_bitCount_11 ?_
  refine lv_iand hx hb dJ17_bitCount_14 ?_
  refine lv_iload_n hx hb dJ17_bitCount_15 rfl (lv_at hl 0 rfl) ?_
  refine lv_iconst (v := 2) hx hb dJ17_bitCount_16 (by decide) ?_
  refine lv_iushr hx hb dJ17_bitCount_17 rfl ?_
  refine lv_ldcw hx hb hown (hts _ q947) dJ17_bitCount_18 ?_
  refine lv_iand hx hb dJ17_bitCount_21 ?_
  refine lv_iadd hx hb dJ17_bitCount_22 ?_
  refine lv_istore_n (lv' := [(0, .int (((x0 - ((x0.toUInt32 >>> ((1 : Int32).toUInt32 &&& Int32.toUInt32 31)).toInt32 &&& (1431655765 : Int32))) &&& (858993459 : Int32)) + (((x0 - ((x0.toUInt32 >>> ((1 : Int32).toUInt32 &&& Int32.toUInt32 31)).toInt32 &&& (1431655765 : Int32))).toUInt32 >>> ((2 : Int32).toUInt32 &&& Int32.toUInt32 31)).toInt32 &&& (858993459 : Int32))))]) hx hb dJ17_bitCount_23 rfl hl (by decide) rfl (fun ls hl => ?_)
  refine lv_iload_n hx hb dJ17_bitCount_24 rfl (lv_at hl 0 rfl) ?_
  refine lv_iload_n hx hb dJ17_bitCount_25 rfl (lv_at hl 0 rfl) ?_
  refine lv_iconst (v := 4) hx hb dJ17_bitCount_26 (by decide) ?_
  refine lv_iushr hx hb dJ17_bitCount_27 rfl ?_
  refine lv_iadd hx hb dJ17_bitCount_28 ?_
  refine lv_ldcw hx hb hown (hts _ q948) dJ17_bitCount_29 ?_
  refine lv_iand hx hb dJ17_bitCount_32 ?_
  refine lv_istore_n (lv' := [(0, .int (((((x0 - ((x0.toUInt32 >>> ((1 : Int32).toUInt32 &&& Int32.toUInt32 31)).toInt32 &&& (1431655765 : Int32))) &&& (858993459 : Int32)) + (((x0 - ((x0.toUInt32 >>> ((1 : Int32).toUInt32 &&& Int32.toUInt32 31)).toInt32 &&& (1431655765 : Int32))).toUInt32 >>> ((2 : Int32).toUInt32 &&& Int32.toUInt32 31)).toInt32 &&& (858993459 : Int32))) + ((((x0 - ((x0.toUInt32 >>> ((1 : Int32).toUInt32 &&& Int32.toUInt32 31)).toInt32 &&& (1431655765 : Int32))) &&& (858993459 : Int32)) + (((x0 - ((x0.toUInt32 >>> ((1 : Int32).toUInt32 &&& Int32.toUInt32 31)).toInt32 &&& (1431655765 : Int32))).toUInt32 >>> ((2 : Int32).toUInt32 &&& Int32.toUInt32 31)).toInt32 &&& (858993459 : Int32))).toUInt32 >>> ((4 : Int32).toUInt32 &&& Int32.toUInt32 31)).toInt32) &&& (252645135 : Int32)))]) hx hb dJ17_bitCount_33 rfl hl (by decide) rfl (fun ls hl => ?_)
  refine lv_iload_n hx hb dJ17_bitCount_34 rfl (lv_at hl 0 rfl) ?_
  refine lv_iload_n hx hb dJ17_bitCount_35 rfl (lv_at hl 0 rfl) ?_
  refine lv_bipush (v := 8) hx hb dJ17_bitCount_36 (by decide) ?_
  refine lv_iushr hx hb dJ17_bitCount_38 rfl ?_
  refine lv_iadd hx hb dJ17_bitCount_39 ?_
  refine lv_istore_n (lv' := [(0, .int ((((((x0 - ((x0.toUInt32 >>> ((1 : Int32).toUInt32 &&& Int32.toUInt32 31)).toInt32 &&& (1431655765 : Int32))) &&& (858993459 : Int32)) + (((x0 - ((x0.toUInt32 >>> ((1 : Int32).toUInt32 &&& Int32.toUInt32 31)).toInt32 &&& (1431655765 : Int32))).toUInt32 >>> ((2 : Int32).toUInt32 &&& Int32.toUInt32 31)).toInt32 &&& (858993459 : Int32))) + ((((x0 - ((x0.toUInt32 >>> ((1 : Int32).toUInt32 &&& Int32.toUInt32 31)).toInt32 &&& (1431655765 : Int32))) &&& (858993459 : Int32)) + (((x0 - ((x0.toUInt32 >>> ((1 : Int32).toUInt32 &&& Int32.toUInt32 31)).toInt32 &&& (1431655765 : Int32))).toUInt32 >>> ((2 : Int32).toUInt32 &&& Int32.toUInt32 31)).toInt32 &&& (858993459 : Int32))).toUInt32 >>> ((4 : Int32).toUInt32 &&& Int32.toUInt32 31)).toInt32) &&& (252645135 : Int32)) + ((((((x0 - ((x0.toUInt32 >>> ((1 : Int32).toUInt32 &&& Int32.toUInt32 31)).toInt32 &&& (1431655765 : Int32))) &&& (858993459 : Int32)) + (((x0 - ((x0.toUInt32 >>> ((1 : Int32).toUInt32 &&& Int32.toUInt32 31)).toInt32 &&& (1431655765 : Int32))).toUInt32 >>> ((2 : Int32).toUInt32 &&& Int32.toUInt32 31)).toInt32 &&& (858993459 : Int32))) + ((((x0 - ((x0.toUInt32 >>> ((1 : Int32).toUInt32 &&& Int32.toUInt32 31)).toInt32 &&& (1431655765 : Int32))) &&& (858993459 : Int32)) + (((x0 - ((x0.toUInt32 >>> ((1 : Int32).toUInt32 &&& Int32.toUInt32 31)).toInt32 &&& (1431655765 : Int32))).toUInt32 >>> ((2 : Int32).toUInt32 &&& Int32.toUInt32 31)).toInt32 &&& (858993459 : Int32))).toUInt32 >>> ((4 : Int32).toUInt32 &&& Int32.toUInt32 31)).toInt32) &&& (252645135 : Int32)).toUInt32 >>> ((8 : Int32).toUInt32 &&& Int32.toUInt32 31)).toInt32))]) hx hb dJ17_bitCount_40 rfl hl (by decide) rfl (fun ls hl => ?_)
  refine lv_iload_n hx hb dJ17_bitCount_41 rfl (lv_at hl 0 rfl) ?_
  refine lv_iload_n hx hb dJ17_bitCount_42 rfl (lv_at hl 0 rfl) ?_
  refine lv_bipush (v := 16) hx hb dJ17_bitCount_43 (by decide) ?_
  refine lv_iushr hx hb dJ17_bitCount_45 rfl ?_
  refine lv_iadd hx hb dJ17_bitCount_46 ?_
  refine lv_istore_n (lv' := [(0, .int (((((((x0 - ((x0.toUInt32 >>> ((1 : Int32).toUInt32 &&& Int32.toUInt32 31)).toInt32 &&& (1431655765 : Int32))) &&& (858993459 : Int32)) + (((x0 - ((x0.toUInt32 >>> ((1 : Int32).toUInt32 &&& Int32.toUInt32 31)).toInt32 &&& (1431655765 : Int32))).toUInt32 >>> ((2 : Int32).toUInt32 &&& Int32.toUInt32 31)).toInt32 &&& (858993459 : Int32))) + ((((x0 - ((x0.toUInt32 >>> ((1 : Int32).toUInt32 &&& Int32.toUInt32 31)).toInt32 &&& (1431655765 : Int32))) &&& (858993459 : Int32)) + (((x0 - ((x0.toUInt32 >>> ((1 : Int32).toUInt32 &&& Int32.toUInt32 31)).toInt32 &&& (1431655765 : Int32))).toUInt32 >>> ((2 : Int32).toUInt32 &&& Int32.toUInt32 31)).toInt32 &&& (858993459 : Int32))).toUInt32 >>> ((4 : Int32).toUInt32 &&& Int32.toUInt32 31)).toInt32) &&& (252645135 : Int32)) + ((((((x0 - ((x0.toUInt32 >>> ((1 : Int32).toUInt32 &&& Int32.toUInt32 31)).toInt32 &&& (1431655765 : Int32))) &&& (858993459 : Int32)) + (((x0 - ((x0.toUInt32 >>> ((1 : Int32).toUInt32 &&& Int32.toUInt32 31)).toInt32 &&& (1431655765 : Int32))).toUInt32 >>> ((2 : Int32).toUInt32 &&& Int32.toUInt32 31)).toInt32 &&& (858993459 : Int32))) + ((((x0 - ((x0.toUInt32 >>> ((1 : Int32).toUInt32 &&& Int32.toUInt32 31)).toInt32 &&& (1431655765 : Int32))) &&& (858993459 : Int32)) + (((x0 - ((x0.toUInt32 >>> ((1 : Int32).toUInt32 &&& Int32.toUInt32 31)).toInt32 &&& (1431655765 : Int32))).toUInt32 >>> ((2 : Int32).toUInt32 &&& Int32.toUInt32 31)).toInt32 &&& (858993459 : Int32))).toUInt32 >>> ((4 : Int32).toUInt32 &&& Int32.toUInt32 31)).toInt32) &&& (252645135 : Int32)).toUInt32 >>> ((8 : Int32).toUInt32 &&& Int32.toUInt32 31)).toInt32) + (((((((x0 - ((x0.toUInt32 >>> ((1 : Int32).toUInt32 &&& Int32.toUInt32 31)).toInt32 &&& (1431655765 : Int32))) &&& (858993459 : Int32)) + (((x0 - ((x0.toUInt32 >>> ((1 : Int32).toUInt32 &&& Int32.toUInt32 31)).toInt32 &&& (1431655765 : Int32))).toUInt32 >>> ((2 : Int32).toUInt32 &&& Int32.toUInt32 31)).toInt32 &&& (858993459 : Int32))) + ((((x0 - ((x0.toUInt32 >>> ((1 : Int32).toUInt32 &&& Int32.toUInt32 31)).toInt32 &&& (1431655765 : Int32))) &&& (858993459 : Int32)) + (((x0 - ((x0.toUInt32 >>> ((1 : Int32).toUInt32 &&& Int32.toUInt32 31)).toInt32 &&& (1431655765 : Int32))).toUInt32 >>> ((2 : Int32).toUInt32 &&& Int32.toUInt32 31)).toInt32 &&& (858993459 : Int32))).toUInt32 >>> ((4 : Int32).toUInt32 &&& Int32.toUInt32 31)).toInt32) &&& (252645135 : Int32)) + ((((((x0 - ((x0.toUInt32 >>> ((1 : Int32).toUInt32 &&& Int32.toUInt32 31)).toInt32 &&& (1431655765 : Int32))) &&& (858993459 : Int32)) + (((x0 - ((x0.toUInt32 >>> ((1 : Int32).toUInt32 &&& Int32.toUInt32 31)).toInt32 &&& (1431655765 : Int32))).toUInt32 >>> ((2 : Int32).toUInt32 &&& Int32.toUInt32 31)).toInt32 &&& (858993459 : Int32))) + ((((x0 - ((x0.toUInt32 >>> ((1 : Int32).toUInt32 &&& Int32.toUInt32 31)).toInt32 &&& (1431655765 : Int32))) &&& (858993459 : Int32)) + (((x0 - ((x0.toUInt32 >>> ((1 : Int32).toUInt32 &&& Int32.toUInt32 31)).toInt32 &&& (1431655765 : Int32))).toUInt32 >>> ((2 : Int32).toUInt32 &&& Int32.toUInt32 31)).toInt32 &&& (858993459 : Int32))).toUInt32 >>> ((4 : Int32).toUInt32 &&& Int32.toUInt32 31)).toInt32) &&& (252645135 : Int32)).toUInt32 >>> ((8 : Int32).toUInt32 &&& Int32.toUInt32 31)).toInt32).toUInt32 >>> ((16 : Int32).toUInt32 &&& Int32.toUInt32 31)).toInt32))]) hx hb dJ17_bitCount_47 rfl hl (by decide) rfl (fun ls hl => ?_)
  refine lv_iload_n hx hb dJ17_bitCount_48 rfl (lv_at hl 0 rfl) ?_
  refine lv_bipush (v := 63) hx hb dJ17_bitCount_49 (by decide) ?_
  refine lv_iand hx hb dJ17_bitCount_51 ?_
  cases h
  exact W.iret hx hb hr (fun t ht hW => c_ret ht) (fun q hq => absurd hq List.not_mem_nil) dJ17_bitCount_52
theorem hd_X4_begins : yX4_begins.cls ≠ "java/lang/invoke/MethodHandle" ∧ yX4_begins.cls ≠ "java/lang/invoke/VarHandle" ∧ (parseMethodDescriptor yX4_begins.desc).map (fun d => d.parameters.length) = some 0 := by decide +kernel
set_option maxHeartbeats 4000000 in
set_option maxRecDepth 100000 in
theorem met_X4_begins {l : Launch} {k : Cx} {a1 : TA} {v1 : TV} {r : Int32}  (h : m_X4_begins   v1 = some r) : Met l yX4_begins (ws_ yX4_begins cX4_begins 1 (some .int)) ({ frames := 1, cells := 0, slots := 0, locals := 12 } : Room) (gPc [.ref (aT a1)] k [tuO (a1, v1)]) (QcV (some (.int r))) 0 0 (fun _ => False) := by
  refine Met.ofW (cc := cX4_begins) (maxL := 1) (ret := (some .int)) (by decide) rfl ?_
  intro p e s m args below meth c s₁ B hml hv
  obtain ⟨rfl, hP, hG⟩ := hv
  have hx := B.exec
  have hb := B.bytes
  have hr := B.returns
  have hts := atoms_spec (ws := ws_ yX4_begins cX4_begins 1 (some .int)) B.pre
  have hts : ∀ w ∈ lw_all, w.before _ s = true := fun w h => hts w (List.mem_cons_of_mem _ h)
  have hown : s.vm.findClass RX4 = some m.cls := findClass_of_methodNamed B.named
  have hlocks := B.notSynchronized
  have hSa : va_S (Ab k) s.heap s.heap [] := va_S.rf
  have hl := lv_entry ([.ref (aT a1)]) (n := 1) (Nat.le_of_ble_eq_true rfl)
  rw [lg_entry_eq]
  generalize (lg_sl ([.ref (aT a1)]) ++ List.replicate (1 - (lg_sl ([.ref (aT a1)])).length) Slot.unset).toArray = ls at hl ⊢
  have hl : lv_has ls 1 [(0, .ref (aT a1))] := hl
  unfold m_X4_begins at h
  refine lv_aload_n hx hb dX4_begins_0 rfl (lv_at hl 0 rfl) ?_
  refine va_get (ci := 4) (v := .int (vB v1)) (C := RX4) (T := TX4) (N := 5) hx hb hts in_X4 hown hG.K (hP.sub [0] rfl) 0 rfl rfl 0 (by decide) (hts _ q281) (fun _ h9 => h9) rfl dX4_begins_1 ?_
  cases h
  exact W.iret hx hb hr (fun t ht hW => c_ret ht) (fun q hq => absurd hq List.not_mem_nil) dX4_begins_4
theorem hd_X4_seconds : yX4_seconds.cls ≠ "java/lang/invoke/MethodHandle" ∧ yX4_seconds.cls ≠ "java/lang/invoke/VarHandle" ∧ (parseMethodDescriptor yX4_seconds.desc).map (fun d => d.parameters.length) = some 0 := by decide +kernel
set_option maxHeartbeats 4000000 in
set_option maxRecDepth 100000 in
theorem met_X4_seconds {l : Launch} {k : Cx} {a1 : TA} {v1 : TV} {r : Int32}  (h : m_X4_seconds   v1 = some r) : Met l yX4_seconds (ws_ yX4_seconds cX4_seconds 1 (some .int)) ({ frames := 1, cells := 0, slots := 0, locals := 12 } : Room) (gPc [.ref (aT a1)] k [tuO (a1, v1)]) (QcV (some (.int r))) 0 0 (fun _ => False) := by
  refine Met.ofW (cc := cX4_seconds) (maxL := 1) (ret := (some .int)) (by decide) rfl ?_
  intro p e s m args below meth c s₁ B hml hv
  obtain ⟨rfl, hP, hG⟩ := hv
  have hx := B.exec
  have hb := B.bytes
  have hr := B.returns
  have hts := atoms_spec (ws := ws_ yX4_seconds cX4_seconds 1 (some .int)) B.pre
  have hts : ∀ w ∈ lw_all, w.before _ s = true := fun w h => hts w (List.mem_cons_of_mem _ h)
  have hown : s.vm.findClass RX4 = some m.cls := findClass_of_methodNamed B.named
  have hlocks := B.notSynchronized
  have hSa : va_S (Ab k) s.heap s.heap [] := va_S.rf
  have hl := lv_entry ([.ref (aT a1)]) (n := 1) (Nat.le_of_ble_eq_true rfl)
  rw [lg_entry_eq]
  generalize (lg_sl ([.ref (aT a1)]) ++ List.replicate (1 - (lg_sl ([.ref (aT a1)])).length) Slot.unset).toArray = ls at hl ⊢
  have hl : lv_has ls 1 [(0, .ref (aT a1))] := hl
  unfold m_X4_seconds at h
  refine lv_aload_n hx hb dX4_seconds_0 rfl (lv_at hl 0 rfl) ?_
  refine va_get (ci := 4) (v := .int (vE v1)) (C := RX4) (T := TX4) (N := 5) hx hb hts in_X4 hown hG.K (hP.sub [0] rfl) 0 rfl rfl 1 (by decide) (hts _ q284) (fun _ h9 => h9) rfl dX4_seconds_1 ?_
  refine lv_aload_n hx hb dX4_seconds_4 rfl (lv_at hl 0 rfl) ?_
  refine va_get (ci := 4) (v := .int (vB v1)) (C := RX4) (T := TX4) (N := 5) hx hb hts in_X4 hown hG.K (hP.sub [0] rfl) 0 rfl rfl 0 (by decide) (hts _ q281) (fun _ h9 => h9) rfl dX4_seconds_5 ?_
  refine lv_isub hx hb dX4_seconds_8 ?_
  cases h
  exact W.iret hx hb hr (fun t ht hW => c_ret ht) (fun q hq => absurd hq List.not_mem_nil) dX4_seconds_9
theorem hd_X4_goesOn : yX4_goesOn.cls ≠ "java/lang/invoke/MethodHandle" ∧ yX4_goesOn.cls ≠ "java/lang/invoke/VarHandle" ∧ (parseMethodDescriptor yX4_goesOn.desc).map (fun d => d.parameters.length) = some 1 := by decide +kernel
set_option maxHeartbeats 4000000 in
set_option maxRecDepth 100000 in
theorem met_X4_goesOn {l : Launch} {k : Cx} {a1 : TA} {v1 : TV} {x1 : Int32} {b : Bool}  (h : m_X4_goesOn   v1 x1 = some b) : Met l yX4_goesOn (ws_ yX4_goesOn cX4_goesOn 2 (some .boolean)) ({ frames := 1, cells := 0, slots := 0, locals := 12 } : Room) (gPc [.ref (aT a1), .int x1] k [tuO (a1, v1)]) (QcV (some (.int (bi b)))) 0 0 (fun _ => False) := by
  refine Met.ofW (cc := cX4_goesOn) (maxL := 2) (ret := (some .boolean)) (by decide) rfl ?_
  intro p e s m args below meth c s₁ B hml hv
  obtain ⟨rfl, hP, hG⟩ := hv
  have hx := B.exec
  have hb := B.bytes
  have hr := B.returns
  have hts := atoms_spec (ws := ws_ yX4_goesOn cX4_goesOn 2 (some .boolean)) B.pre
  have hts : ∀ w ∈ lw_all, w.before _ s = true := fun w h => hts w (List.mem_cons_of_mem _ h)
  have hown : s.vm.findClass RX4 = some m.cls := findClass_of_methodNamed B.named
  have hlocks := B.notSynchronized
  have hSa : va_S (Ab k) s.heap s.heap [] := va_S.rf
  have hl := lv_entry ([.ref (aT a1), .int x1]) (n := 2) (Nat.le_of_ble_eq_true rfl)
  rw [lg_entry_eq]
  generalize (lg_sl ([.ref (aT a1), .int x1]) ++ List.replicate (2 - (lg_sl ([.ref (aT a1), .int x1])).length) Slot.unset).toArray = ls at hl ⊢
  have hl : lv_has ls 2 [(0, .ref (aT a1)), (1, .int x1)] := hl
  unfold m_X4_goesOn at h
  refine lv_iload_n hx hb dX4_goesOn_0 rfl (lv_at hl 1 rfl) ?_
  refine lv_aload_n hx hb dX4_goesOn_1 rfl (lv_at hl 0 rfl) ?_
  refine va_get (ci := 4) (v := .int (vB v1)) (C := RX4) (T := TX4) (N := 5) hx hb hts in_X4 hown hG.K (hP.sub [0] rfl) 0 rfl rfl 0 (by decide) (hts _ q281) (fun _ h9 => h9) rfl dX4_goesOn_2 ?_
  refine lv_icmp_lt (tgt := 20) hx hb dX4_goesOn_5 (by decide) (fun c1 => ?_) (fun c1 => ?_)
  · have h := pi_t c1 h
    refine lv_iconst (v := 0) hx hb dX4_goesOn_20 (by decide) ?_
    cases h
    exact W.zret hx hb hr rfl (fun t ht hW => c_ret ht) (fun q hq => absurd hq List.not_mem_nil) dX4_goesOn_21
  · have h := pi_f c1 h
    refine lv_iload_n hx hb dX4_goesOn_8 rfl (lv_at hl 1 rfl) ?_
    refine lv_aload_n hx hb dX4_goesOn_9 rfl (lv_at hl 0 rfl) ?_
    refine va_get (ci := 4) (v := .int (vE v1)) (C := RX4) (T := TX4) (N := 5) hx hb hts in_X4 hown hG.K (hP.sub [0] rfl) 0 rfl rfl 1 (by decide) (hts _ q284) (fun _ h9 => h9) rfl dX4_goesOn_10 ?_
    refine lv_icmp_ge (tgt := 20) hx hb dX4_goesOn_13 (by decide) (fun c2 => ?_) (fun c2 => ?_)
    · have h := pi_t c2 h
      refine lv_iconst (v := 0) hx hb dX4_goesOn_20 (by decide) ?_
      cases h
      exact W.zret hx hb hr rfl (fun t ht hW => c_ret ht) (fun q hq => absurd hq List.not_mem_nil) dX4_goesOn_21
    · have h := pi_f c2 h
      refine lv_iconst (v := 1) hx hb dX4_goesOn_16 (by decide) ?_
      refine lv_goto (tgt := 21) hx hb dX4_goesOn_17 (by decide) ?_
      cases h
      exact W.zret hx hb hr rfl (fun t ht hW => c_ret ht) (fun q hq => absurd hq List.not_mem_nil) dX4_goesOn_21
theorem hd_X4_meets : yX4_meets.cls ≠ "java/lang/invoke/MethodHandle" ∧ yX4_meets.cls ≠ "java/lang/invoke/VarHandle" ∧ (parseMethodDescriptor yX4_meets.desc).map (fun d => d.parameters.length) = some 1 := by decide +kernel
set_option maxHeartbeats 4000000 in
set_option maxRecDepth 100000 in
theorem met_X4_meets {l : Launch} {k : Cx} {a1 : TA} {v1 : TV} {a2 : TA} {v2 : TV} {b : Bool}  (h : m_X4_meets   v1 v2 = some b) : Met l yX4_meets (ws_ yX4_meets cX4_meets 2 (some .boolean)) ({ frames := 1, cells := 0, slots := 0, locals := 12 } : Room) (gPc [.ref (aT a1), .ref (aT a2)] k [tuO (a1, v1), tuO (a2, v2)]) (QcV (some (.int (bi b)))) 0 0 (fun _ => False) := by
  refine Met.ofW (cc := cX4_meets) (maxL := 2) (ret := (some .boolean)) (by decide) rfl ?_
  intro p e s m args below meth c s₁ B hml hv
  obtain ⟨rfl, hP, hG⟩ := hv
  have hx := B.exec
  have hb := B.bytes
  have hr := B.returns
  have hts := atoms_spec (ws := ws_ yX4_meets cX4_meets 2 (some .boolean)) B.pre
  have hts : ∀ w ∈ lw_all, w.before _ s = true := fun w h => hts w (List.mem_cons_of_mem _ h)
  have hown : s.vm.findClass RX4 = some m.cls := findClass_of_methodNamed B.named
  have hlocks := B.notSynchronized
  have hSa : va_S (Ab k) s.heap s.heap [] := va_S.rf
  have hl := lv_entry ([.ref (aT a1), .ref (aT a2)]) (n := 2) (Nat.le_of_ble_eq_true rfl)
  rw [lg_entry_eq]
  generalize (lg_sl ([.ref (aT a1), .ref (aT a2)]) ++ List.replicate (2 - (lg_sl ([.ref (aT a1), .ref (aT a2)])).length) Slot.unset).toArray = ls at hl ⊢
  have hl : lv_has ls 2 [(0, .ref (aT a1)), (1, .ref (aT a2))] := hl
  unfold m_X4_meets at h
  refine lv_aload_n hx hb dX4_meets_0 rfl (lv_at hl 0 rfl) ?_
  refine va_get (ci := 4) (v := .int (vB v1)) (C := RX4) (T := TX4) (N := 5) hx hb hts in_X4 hown hG.K (hP.sub [0] rfl) 0 rfl rfl 0 (by decide) (hts _ q281) (fun _ h9 => h9) rfl dX4_meets_1 ?_
  refine lv_aload_n hx hb dX4_meets_4 rfl (lv_at hl 1 rfl) ?_
  refine va_get (ci := 4) (v := .int (vE v2)) (C := RX4) (T := TX4) (N := 5) hx hb hts in_X4 hown hG.K (hP.sub [1] rfl) 0 rfl rfl 1 (by decide) (hts _ q284) (fun _ h9 => h9) rfl dX4_meets_5 ?_
  refine lv_icmp_ge (tgt := 26) hx hb dX4_meets_8 (by decide) (fun c1 => ?_) (fun c1 => ?_)
  · have h := pi_t c1 h
    refine lv_iconst (v := 0) hx hb dX4_meets_26 (by decide) ?_
    cases h
    exact W.zret hx hb hr rfl (fun t ht hW => c_ret ht) (fun q hq => absurd hq List.not_mem_nil) dX4_meets_27
  · have h := pi_f c1 h
    refine lv_aload_n hx hb dX4_meets_11 rfl (lv_at hl 1 rfl) ?_
    refine va_get (ci := 4) (v := .int (vB v2)) (C := RX4) (T := TX4) (N := 5) hx hb hts in_X4 hown hG.K (hP.sub [1] rfl) 0 rfl rfl 0 (by decide) (hts _ q281) (fun _ h9 => h9) rfl dX4_meets_12 ?_
    refine lv_aload_n hx hb dX4_meets_15 rfl (lv_at hl 0 rfl) ?_
    refine va_get (ci := 4) (v := .int (vE v1)) (C := RX4) (T := TX4) (N := 5) hx hb hts in_X4 hown hG.K (hP.sub [0] rfl) 0 rfl rfl 1 (by decide) (hts _ q284) (fun _ h9 => h9) rfl dX4_meets_16 ?_
    refine lv_icmp_ge (tgt := 26) hx hb dX4_meets_19 (by decide) (fun c2 => ?_) (fun c2 => ?_)
    · have h := pi_t c2 h
      refine lv_iconst (v := 0) hx hb dX4_meets_26 (by decide) ?_
      cases h
      exact W.zret hx hb hr rfl (fun t ht hW => c_ret ht) (fun q hq => absurd hq List.not_mem_nil) dX4_meets_27
    · have h := pi_f c2 h
      refine lv_iconst (v := 1) hx hb dX4_meets_22 (by decide) ?_
      refine lv_goto (tgt := 27) hx hb dX4_meets_23 (by decide) ?_
      cases h
      exact W.zret hx hb hr rfl (fun t ht hW => c_ret ht) (fun q hq => absurd hq List.not_mem_nil) dX4_meets_27
theorem hd_X4_breaksInto : yX4_breaksInto.cls ≠ "java/lang/invoke/MethodHandle" ∧ yX4_breaksInto.cls ≠ "java/lang/invoke/VarHandle" ∧ (parseMethodDescriptor yX4_breaksInto.desc).map (fun d => d.parameters.length) = some 1 := by decide +kernel
set_option maxHeartbeats 4000000 in
set_option maxRecDepth 100000 in
theorem met_X4_breaksInto {l : Launch} {k : Cx} {a1 : TA} {v1 : TV} {a2 : TA} {v2 : TV} {b : Bool}  (h : m_X4_breaksInto   v1 v2 = some b) : Met l yX4_breaksInto (ws_ yX4_breaksInto cX4_breaksInto 2 (some .boolean)) ({ frames := 1, cells := 0, slots := 0, locals := 12 } : Room) (gPc [.ref (aT a1), .ref (aT a2)] k [tuO (a1, v1), tuO (a2, v2)]) (QcV (some (.int (bi b)))) 0 0 (fun _ => False) := by
  refine Met.ofW (cc := cX4_breaksInto) (maxL := 2) (ret := (some .boolean)) (by decide) rfl ?_
  intro p e s m args below meth c s₁ B hml hv
  obtain ⟨rfl, hP, hG⟩ := hv
  have hx := B.exec
  have hb := B.bytes
  have hr := B.returns
  have hts := atoms_spec (ws := ws_ yX4_breaksInto cX4_breaksInto 2 (some .boolean)) B.pre
  have hts : ∀ w ∈ lw_all, w.before _ s = true := fun w h => hts w (List.mem_cons_of_mem _ h)
  have hown : s.vm.findClass RX4 = some m.cls := findClass_of_methodNamed B.named
  have hlocks := B.notSynchronized
  have hSa : va_S (Ab k) s.heap s.heap [] := va_S.rf
  have hl := lv_entry ([.ref (aT a1), .ref (aT a2)]) (n := 2) (Nat.le_of_ble_eq_true rfl)
  rw [lg_entry_eq]
  generalize (lg_sl ([.ref (aT a1), .ref (aT a2)]) ++ List.replicate (2 - (lg_sl ([.ref (aT a1), .ref (aT a2)])).length) Slot.unset).toArray = ls at hl ⊢
  have hl : lv_has ls 2 [(0, .ref (aT a1)), (1, .ref (aT a2))] := hl
  unfold m_X4_breaksInto at h
  refine lv_aload_n hx hb dX4_breaksInto_0 rfl (lv_at hl 0 rfl) ?_
  refine va_get (ci := 4) (v := .int (vB v1)) (C := RX4) (T := TX4) (N := 5) hx hb hts in_X4 hown hG.K (hP.sub [0] rfl) 0 rfl rfl 0 (by decide) (hts _ q281) (fun _ h9 => h9) rfl dX4_breaksInto_1 ?_
  refine lv_aload_n hx hb dX4_breaksInto_4 rfl (lv_at hl 1 rfl) ?_
  refine va_get (ci := 4) (v := .int (vB v2)) (C := RX4) (T := TX4) (N := 5) hx hb hts in_X4 hown hG.K (hP.sub [1] rfl) 0 rfl rfl 0 (by decide) (hts _ q281) (fun _ h9 => h9) rfl dX4_breaksInto_5 ?_
  refine lv_icmp_le (tgt := 53) hx hb dX4_breaksInto_8 (by decide) (fun c1 => ?_) (fun c1 => ?_)
  · have h := pi_t c1 h
    refine lv_iconst (v := 0) hx hb dX4_breaksInto_53 (by decide) ?_
    cases h
    exact W.zret hx hb hr rfl (fun t ht hW => c_ret ht) (fun q hq => absurd hq List.not_mem_nil) dX4_breaksInto_54
  · have h := pi_f c1 h
    refine lv_aload_n hx hb dX4_breaksInto_11 rfl (lv_at hl 0 rfl) ?_
    refine va_get (ci := 4) (v := .int (vB v1)) (C := RX4) (T := TX4) (N := 5) hx hb hts in_X4 hown hG.K (hP.sub [0] rfl) 0 rfl rfl 0 (by decide) (hts _ q281) (fun _ h9 => h9) rfl dX4_breaksInto_12 ?_
    refine lv_aload_n hx hb dX4_breaksInto_15 rfl (lv_at hl 1 rfl) ?_
    refine va_get (ci := 4) (v := .int (vE v2)) (C := RX4) (T := TX4) (N := 5) hx hb hts in_X4 hown hG.K (hP.sub [1] rfl) 0 rfl rfl 1 (by decide) (hts _ q284) (fun _ h9 => h9) rfl dX4_breaksInto_16 ?_
    refine lv_icmp_ge (tgt := 53) hx hb dX4_breaksInto_19 (by decide) (fun c2 => ?_) (fun c2 => ?_)
    · have h := pi_t c2 h
      refine lv_iconst (v := 0) hx hb dX4_breaksInto_53 (by decide) ?_
      cases h
      exact W.zret hx hb hr rfl (fun t ht hW => c_ret ht) (fun q hq => absurd hq List.not_mem_nil) dX4_breaksInto_54
    · have h := pi_f c2 h
      refine lv_aload_n hx hb dX4_breaksInto_22 rfl (lv_at hl 0 rfl) ?_
      refine va_get (ci := 4) (v := .int (vS v1)) (C := RX4) (T := TX4) (N := 5) hx hb hts in_X4 hown hG.K (hP.sub [0] rfl) 0 rfl rfl 3 (by decide) (hts _ q290) (fun _ h9 => h9) rfl dX4_breaksInto_23 ?_
      refine lv_iconst (v := -1) hx hb dX4_breaksInto_26 (by decide) ?_
      refine lv_icmp_eq (tgt := 53) hx hb dX4_breaksInto_27 (by decide) (fun c3 => ?_) (fun c3 => ?_)
      · have h := pi_t c3 h
        refine lv_iconst (v := 0) hx hb dX4_breaksInto_53 (by decide) ?_
        cases h
        exact W.zret hx hb hr rfl (fun t ht hW => c_ret ht) (fun q hq => absurd hq List.not_mem_nil) dX4_breaksInto_54
      · have h := pi_f c3 h
        refine lv_aload_n hx hb dX4_breaksInto_30 rfl (lv_at hl 1 rfl) ?_
        refine va_get (ci := 4) (v := .int (vS v2)) (C := RX4) (T := TX4) (N := 5) hx hb hts in_X4 hown hG.K (hP.sub [1] rfl) 0 rfl rfl 3 (by decide) (hts _ q290) (fun _ h9 => h9) rfl dX4_breaksInto_31 ?_
        refine lv_iconst (v := -1) hx hb dX4_breaksInto_34 (by decide) ?_
        refine lv_icmp_eq (tgt := 53) hx hb dX4_breaksInto_35 (by decide) (fun c4 => ?_) (fun c4 => ?_)
        · have h := pi_t c4 h
          refine lv_iconst (v := 0) hx hb dX4_breaksInto_53 (by decide) ?_
          cases h
          exact W.zret hx hb hr rfl (fun t ht hW => c_ret ht) (fun q hq => absurd hq List.not_mem_nil) dX4_breaksInto_54
        · have h := pi_f c4 h
          refine lv_aload_n hx hb dX4_breaksInto_38 rfl (lv_at hl 0 rfl) ?_
          refine va_get (ci := 4) (v := .int (vS v1)) (C := RX4) (T := TX4) (N := 5) hx hb hts in_X4 hown hG.K (hP.sub [0] rfl) 0 rfl rfl 3 (by decide) (hts _ q290) (fun _ h9 => h9) rfl dX4_breaksInto_39 ?_
          refine lv_aload_n hx hb dX4_breaksInto_42 rfl (lv_at hl 1 rfl) ?_
          refine va_get (ci := 4) (v := .int (vS v2)) (C := RX4) (T := TX4) (N := 5) hx hb hts in_X4 hown hG.K (hP.sub [1] rfl) 0 rfl rfl 3 (by decide) (hts _ q290) (fun _ h9 => h9) rfl dX4_breaksInto_43 ?_
          refine lv_icmp_eq (tgt := 53) hx hb dX4_breaksInto_46 (by decide) (fun c5 => ?_) (fun c5 => ?_)
          · have h := pi_t c5 h
            refine lv_iconst (v := 0) hx hb dX4_breaksInto_53 (by decide) ?_
            cases h
            exact W.zret hx hb hr rfl (fun t ht hW => c_ret ht) (fun q hq => absurd hq List.not_mem_nil) dX4_breaksInto_54
          · have h := pi_f c5 h
            refine lv_iconst (v := 1) hx hb dX4_breaksInto_49 (by decide) ?_
            refine lv_goto (tgt := 54) hx hb dX4_breaksInto_50 (by decide) ?_
            cases h
            exact W.zret hx hb hr rfl (fun t ht hW => c_ret ht) (fun q hq => absurd hq List.not_mem_nil) dX4_breaksInto_54
