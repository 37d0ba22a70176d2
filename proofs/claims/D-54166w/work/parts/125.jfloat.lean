/-! Float.floatToIntBits (printed by wip/gen/gen_model.py) -/
theorem hd_J18_isNaN : yJ18_isNaN.cls ≠ "java/lang/invoke/MethodHandle" ∧ yJ18_isNaN.cls ≠ "java/lang/invoke/VarHandle" ∧ (parseMethodDescriptor yJ18_isNaN.desc).map (fun d => d.parameters.length) = some 1 := by decide +kernel
set_option maxHeartbeats 4000000 in
set_option maxRecDepth 100000 in
theorem met_J18_isNaN {l : Launch}  {x0 : UInt32} {b : Bool}  (h : m_J18_isNaN  x0 = some b) : Met l yJ18_isNaN (ws_ yJ18_isNaN cJ18_isNaN 1 (some .boolean)) ({ frames := 1, cells := 0, slots := 0, locals := 12 } : Room) (va_Pc [.float x0] (fun _ => True)) (QcRead (bi b)) 0 0 (fun _ => False) := by
  refine va_MetF (cc := cJ18_isNaN) (maxL := 1) (ret := (some .boolean)) (by decide +kernel) rfl ?_
  intro p e s m args below meth c s₁ B hml hv
  obtain ⟨rfl, -⟩ := hv
  have hx := B.exec
  have hb := B.bytes
  have hr := B.returns
  have hts := atoms_spec (ws := ws_ yJ18_isNaN cJ18_isNaN 1 (some .boolean)) B.pre
  have hts : ∀ w ∈ lw_all, w.before _ s = true := fun w h => hts w (List.mem_cons_of_mem _ h)
  have hown : s.vm.findClass RJ18 = some m.cls := findClass_of_methodNamed B.named
  have hlocks := B.notSynchronized
  have hl := lv_entry ([.float x0]) (n := 1) (Nat.le_of_ble_eq_true rfl)
  rw [lg_entry_eq]
  generalize (lg_sl ([.float x0]) ++ List.replicate (1 - (lg_sl ([.float x0])).length) Slot.unset).toArray = ls at hl ⊢
  have hl : lv_has ls 1 [(0, .float x0)] := hl
  unfold m_J18_isNaN at h
  refine lv_fload_n hx hb dJ18_isNaN_0 rfl (lv_at hl 0 rfl) ?_
  refine lv_fload_n hx hb dJ18_isNaN_1 rfl (lv_at hl 0 rfl) ?_
  refine lv_fcmp hx hb dJ18_isNaN_2 ?_
  refine lv_if_eq (tgt := 10) hx hb dJ18_isNaN_3 (by decide) (fun c1 => ?_) (fun c1 => ?_)
  · have h := pi_t c1 h
    refine lv_iconst (v := 0) hx hb dJ18_isNaN_10 (by decide) ?_
    cases h
    exact W.zret hx hb hr rfl (fun t ht hW => ⟨rfl, ht⟩) (fun q hq => absurd hq List.not_mem_nil) dJ18_isNaN_11
  · have h := pi_f c1 h
    refine lv_iconst (v := 1) hx hb dJ18_isNaN_6 (by decide) ?_
    refine lv_goto (tgt := 11) hx hb dJ18_isNaN_7 (by decide) ?_
    cases h
    exact W.zret hx hb hr rfl (fun t ht hW => ⟨rfl, ht⟩) (fun q hq => absurd hq List.not_mem_nil) dJ18_isNaN_11
theorem hd_J18_floatToIntBits : yJ18_floatToIntBits.cls ≠ "java/lang/invoke/MethodHandle" ∧ yJ18_floatToIntBits.cls ≠ "java/lang/invoke/VarHandle" ∧ (parseMethodDescriptor yJ18_floatToIntBits.desc).map (fun d => d.parameters.length) = some 1 := by decide +kernel
set_option maxHeartbeats 4000000 in
set_option maxRecDepth 100000 in
theorem met_J18_floatToIntBits {l : Launch}  {x0 : UInt32} {r : Int32}  (h : m_J18_floatToIntBits  x0 = some r) : Met l yJ18_floatToIntBits (ws_ yJ18_floatToIntBits cJ18_floatToIntBits 1 (some .int)) ({ frames := 2, cells := 0, slots := 0, locals := 32 } : Room) (va_Pc [.float x0] (fun _ => True)) (QcRead r) 0 0 (fun _ => False) := by
  refine va_MetF (cc := cJ18_floatToIntBits) (maxL := 1) (ret := (some .int)) (by decide +kernel) rfl ?_
  intro p e s m args below meth c s₁ B hml hv
  obtain ⟨rfl, -⟩ := hv
  have hx := B.exec
  have hb := B.bytes
  have hr := B.returns
  have hts := atoms_spec (ws := ws_ yJ18_floatToIntBits cJ18_floatToIntBits 1 (some .int)) B.pre
  have hts : ∀ w ∈ lw_all, w.before _ s = true := fun w h => hts w (List.mem_cons_of_mem _ h)
  have hown : s.vm.findClass RJ18 = some m.cls := findClass_of_methodNamed B.named
  have hlocks := B.notSynchronized
  have hl := lv_entry ([.float x0]) (n := 1) (Nat.le_of_ble_eq_true rfl)
  rw [lg_entry_eq]
  generalize (lg_sl ([.float x0]) ++ List.replicate (1 - (lg_sl ([.float x0])).length) Slot.unset).toArray = ls at hl ⊢
  have hl : lv_has ls 1 [(0, .float x0)] := hl
  unfold m_J18_floatToIntBits at h
  refine lv_fload_n hx hb dJ18_floatToIntBits_0 rfl (lv_at hl 0 rfl) ?_
  obtain ⟨b2, e1, h⟩ := pb_some h
  refine m_callR (W.runS (As := [.float x0]) (rest := []) ⟨hx, hb, hml, hown, hts⟩ (met_J18_isNaN e1) (va_cwS 1 hts (lw_S q880 q881 q93 q882) rfl rfl rfl hd_J18_isNaN ⟨Nat.le_of_ble_eq_true rfl, Nat.le_of_ble_eq_true rfl⟩) m_preS rfl rfl hl.1 rfl (lv_room (Nat.le_of_ble_eq_true rfl)) dJ18_floatToIntBits_1 ⟨Nat.le_of_ble_eq_true rfl, Nat.le_of_ble_eq_true rfl⟩) ?_
  refine lv_if_ne (tgt := 12) hx hb dJ18_floatToIntBits_4 (by decide) (fun c3 => ?_) (fun c3 => ?_)
  · have h := pi_f c3 h
    refine lv_ldc hx hb hown (hts _ q886) dJ18_floatToIntBits_12 ?_
    cases h
    exact W.iret hx hb hr (fun t ht hW => ⟨rfl, ht⟩) (fun q hq => absurd hq List.not_mem_nil) dJ18_floatToIntBits_14
  · have h := pi_t c3 h
    refine lv_fload_n hx hb dJ18_floatToIntBits_7 rfl (lv_at hl 0 rfl) ?_
    refine vn_f2i hx hb (hml.trans hl.1.symm) hown (hts _ q883) (hts _ q885) (hts _ q884) (hts _ q93) (Nat.le_of_ble_eq_true rfl) (Nat.le_of_ble_eq_true rfl) dJ18_floatToIntBits_8 ?_
    cases h
    exact W.iret hx hb hr (fun t ht hW => ⟨rfl, ht⟩) (fun q hq => absurd hq List.not_mem_nil) dJ18_floatToIntBits_11
