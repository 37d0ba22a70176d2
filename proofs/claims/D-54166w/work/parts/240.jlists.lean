/-! lists, the store, cached Integers: straight walks (printed by wip/gen/raw.py) -/
theorem ls_len {k : Cx} {ar cap : Nat} {xs : List Nat} {x : Int32} {q : Nat} (hO : lsOk k ar cap xs) (h : pAt xs x = some q) : cap ≠ 0 := by
  have h1 := (List.getElem?_eq_some_iff.mp (pAt_some h).2).1
  have h2 := hO.1
  omega
theorem ls_in {k : Cx} {ar cap : Nat} {xs : List Nat} {x : Int32} {q : Nat} (hO : lsOk k ar cap xs) (h : pAt xs x = some q) : vp_in x cap := pAt_in h hO.1
theorem ls_a {k : Cx} {D : va_G} {al ar cap : Nat} {md : Int32} {xs : List Nat} {x : Int32} {q : Nat} {H : Heap} (hO : lsOk k ar cap xs) (h : pAt xs x = some q) (hP : va_P D gCl (lsW k al ar cap md xs) H) : va_P D gCl [rA k ar cap xs] H := by
  refine hP.one (List.mem_cons_of_mem _ ?_)
  unfold lsA
  rw [if_neg (ls_len hO h)]
  exact List.mem_singleton.mpr rfl
theorem pAt_lt {k : Cx} {ar cap : Nat} {xs : List Nat} {x : Int32} {q : Nat} (h : pAt xs x = some q) (hO : lsOk k ar cap xs) : x < nI xs.length := by
  obtain ⟨h0, h1⟩ := pAt_some h
  have h2 := (List.getElem?_eq_some_iff.mp h1).1
  obtain ⟨j, hj, rfl⟩ := nI_of h0
  rw [nI_clamp hj] at h2
  exact nI_lt h2 (Nat.lt_of_le_of_lt hO.1 (Nat.lt_of_le_of_lt hO.2.1 (by decide)))
theorem va_P.tl {D : va_G} {cl : List vw_C} {ws : va_W} {H : Heap} {q : Nat × va_E} (h : va_P D cl (q :: ws) H) : va_P D cl ws H := h.of_mem (fun _ hx => List.mem_cons_of_mem _ hx)
theorem bx_val {k : Cx} {v : Int32} (h : ∃ n : Nat, n < 16 ∧ v = nI n) : vb_bx [] (fun _ => 0) (kI k) (bxA k v) v := by
  obtain ⟨n, hn, rfl⟩ := h
  refine Or.inr ⟨n + 128, by omega, ?_, ?_⟩
  · show kI k ((nI n).toNatClampNeg + 128) = _
    rw [nI_clamp (by omega)]
  · have : ∀ j, j < 16 → nI j = vb_c (j + 128) := by decide +kernel
    exact this n hn
theorem hd_J2_size : yJ2_size.cls ≠ "java/lang/invoke/MethodHandle" ∧ yJ2_size.cls ≠ "java/lang/invoke/VarHandle" ∧ (parseMethodDescriptor yJ2_size.desc).map (fun d => d.parameters.length) = some 0 := by decide +kernel
set_option maxHeartbeats 4000000 in
set_option maxRecDepth 100000 in
theorem met_J2_size {l : Launch} {k : Cx} {al ar cap : Nat} {md : Int32} {xs : List Nat} {n : Nat} (hn : n = xs.length) : Met l yJ2_size (ws_ yJ2_size cJ2_size 1 (some .int)) ({ frames := 1, cells := 0, slots := 0, locals := 12 } : Room) (gPc [.ref al] k (lsW k al ar cap md xs)) (QcV (some (.int (nI n)))) 0 0 (fun _ => False) := by
  refine va_MetF (cc := cJ2_size) (maxL := 1) (ret := (some .int)) (by decide +kernel) rfl ?_
  intro p e s m args below meth c s₁ B hml hv
  obtain ⟨rfl, hP, hG⟩ := hv
  have hx := B.exec
  have hb := B.bytes
  have hr := B.returns
  have hts := atoms_spec (ws := ws_ yJ2_size cJ2_size 1 (some .int)) B.pre
  have hts : ∀ w ∈ lw_all, w.before _ s = true := fun w h => hts w (List.mem_cons_of_mem _ h)
  have hown : s.vm.findClass RJ2 = some m.cls := findClass_of_methodNamed B.named
  have hlocks := B.notSynchronized
  have hl := lv_entry ([.ref al]) (n := 1) (Nat.le_of_ble_eq_true rfl)
  rw [lg_entry_eq]
  generalize (lg_sl ([.ref al]) ++ List.replicate (1 - (lg_sl ([.ref al])).length) Slot.unset).toArray = ls at hl ⊢
  have hl : lv_has ls 1 [(0, .ref al)] := hl
  subst hn
  refine lv_aload_n hx hb dJ2_size_0 rfl (lv_at hl 0 rfl) ?_
  refine va_get (ci := 9) (v := .int (nI xs.length)) (C := RJ2) (T := TJ2) (N := 3) hx hb hts in_J2 hown hG.K (hP.sub [0] rfl) 0 rfl rfl 2 (by decide) (hts _ q135) (fun _ h9 => h9) rfl dJ2_size_1 ?_
  exact W.iret hx hb hr (fun t ht hW => c_ret ht) (fun q hq => absurd hq List.not_mem_nil) dJ2_size_4
theorem hd_J9_checkIndex : yJ9_checkIndex.cls ≠ "java/lang/invoke/MethodHandle" ∧ yJ9_checkIndex.cls ≠ "java/lang/invoke/VarHandle" ∧ (parseMethodDescriptor yJ9_checkIndex.desc).map (fun d => d.parameters.length) = some 3 := by decide +kernel
set_option maxHeartbeats 4000000 in
set_option maxRecDepth 100000 in
theorem met_J9_checkIndex {l : Launch} {x n : Int32} {v : Value} (hv1 : v = .null ∨ ∃ q, v = .ref q) (h0 : ¬ x < 0) (h1 : x < n) : Met l yJ9_checkIndex (ws_ yJ9_checkIndex cJ9_checkIndex 3 (some .int)) ({ frames := 1, cells := 0, slots := 0, locals := 12 } : Room) (va_Pc [.int x, .int n, v] (fun _ => True)) (QcV (some (.int x))) 0 0 (fun _ => False) := by
  refine va_MetF (cc := cJ9_checkIndex) (maxL := 3) (ret := (some .int)) (by decide +kernel) rfl ?_
  intro p e s m args below meth c s₁ B hml hv
  obtain ⟨rfl, -⟩ := hv
  have hx := B.exec
  have hb := B.bytes
  have hr := B.returns
  have hts := atoms_spec (ws := ws_ yJ9_checkIndex cJ9_checkIndex 3 (some .int)) B.pre
  have hts : ∀ w ∈ lw_all, w.before _ s = true := fun w h => hts w (List.mem_cons_of_mem _ h)
  have hown : s.vm.findClass RJ9 = some m.cls := findClass_of_methodNamed B.named
  have hl : ∃ ls, lv_has ls 3 [(0, .int x), (1, .int n), (2, v)] ∧ entryFrame m ([.int x, .int n, v] : List Value).toArray 3 = F0 m 0 ls [] := by
    rcases hv1 with rfl | ⟨q, rfl⟩
    · exact ⟨_, lv_entry ([.int x, .int n, .null]) (n := 3) (Nat.le_of_ble_eq_true rfl), by rw [lg_entry_eq]⟩
    · exact ⟨_, lv_entry ([.int x, .int n, .ref q]) (n := 3) (Nat.le_of_ble_eq_true rfl), by rw [lg_entry_eq]⟩
  obtain ⟨ls, hl, hfr⟩ := hl
  rw [hfr]
  refine lv_iload_n hx hb dJ9_checkIndex_0 rfl (lv_at hl 0 rfl) ?_
  refine lv_if_lt (tgt := 9) hx hb dJ9_checkIndex_1 (by decide) (fun c9 => absurd c9 h0) (fun c9 => ?_)
  refine lv_iload_n hx hb dJ9_checkIndex_4 rfl (lv_at hl 0 rfl) ?_
  refine lv_iload_n hx hb dJ9_checkIndex_5 rfl (lv_at hl 1 rfl) ?_
  refine lv_icmp_lt (tgt := 16) hx hb dJ9_checkIndex_6 (by decide) (fun c9 => ?_) (fun c9 => absurd h1 c9)
  refine lv_iload_n hx hb dJ9_checkIndex_16 rfl (lv_at hl 0 rfl) ?_
  exact W.iret hx hb hr (fun t ht hW => c_ret ht) (fun q hq => absurd hq List.not_mem_nil) dJ9_checkIndex_17
theorem hd_J8_checkIndex : yJ8_checkIndex.cls ≠ "java/lang/invoke/MethodHandle" ∧ yJ8_checkIndex.cls ≠ "java/lang/invoke/VarHandle" ∧ (parseMethodDescriptor yJ8_checkIndex.desc).map (fun d => d.parameters.length) = some 2 := by decide +kernel
set_option maxHeartbeats 4000000 in
set_option maxRecDepth 100000 in
theorem met_J8_checkIndex {l : Launch} {x n : Int32} (h0 : ¬ x < 0) (h1 : x < n) : Met l yJ8_checkIndex (ws_ yJ8_checkIndex cJ8_checkIndex 2 (some .int)) ({ frames := 2, cells := 0, slots := 0, locals := 34 } : Room) (va_Pc [.int x, .int n] (fun _ => True)) (QcV (some (.int x))) 0 0 (fun _ => False) := by
  refine va_MetF (cc := cJ8_checkIndex) (maxL := 2) (ret := (some .int)) (by decide +kernel) rfl ?_
  intro p e s m args below meth c s₁ B hml hv
  obtain ⟨rfl, -⟩ := hv
  have hx := B.exec
  have hb := B.bytes
  have hr := B.returns
  have hts := atoms_spec (ws := ws_ yJ8_checkIndex cJ8_checkIndex 2 (some .int)) B.pre
  have hts : ∀ w ∈ lw_all, w.before _ s = true := fun w h => hts w (List.mem_cons_of_mem _ h)
  have hown : s.vm.findClass RJ8 = some m.cls := findClass_of_methodNamed B.named
  have hlocks := B.notSynchronized
  have hl := lv_entry ([.int x, .int n]) (n := 2) (Nat.le_of_ble_eq_true rfl)
  rw [lg_entry_eq]
  generalize (lg_sl ([.int x, .int n]) ++ List.replicate (2 - (lg_sl ([.int x, .int n])).length) Slot.unset).toArray = ls at hl ⊢
  have hl : lv_has ls 2 [(0, .int x), (1, .int n)] := hl
  refine lv_iload_n hx hb dJ8_checkIndex_0 rfl (lv_at hl 0 rfl) ?_
  refine lv_iload_n hx hb dJ8_checkIndex_1 rfl (lv_at hl 1 rfl) ?_
  refine lv_null hx hb dJ8_checkIndex_2 ?_
  refine c_call (va_runS (As := [.int x, .int n, .null]) (rest := []) ⟨hx, hb, hml, hown, hts⟩ (met_J9_checkIndex (Or.inl rfl) h0 h1) (va_cwS 3 hts (lw_S q264 q265 q80 q266) rfl rfl rfl hd_J9_checkIndex ⟨Nat.le_of_ble_eq_true rfl, Nat.le_of_ble_eq_true rfl⟩) m_preS rfl rfl hl.1 rfl (lv_room (Nat.le_of_ble_eq_true rfl)) dJ8_checkIndex_3 ⟨Nat.le_of_ble_eq_true rfl, Nat.le_of_ble_eq_true rfl⟩) ?_
  exact W.iret hx hb hr (fun t ht hW => c_ret ht) (fun q hq => absurd hq List.not_mem_nil) dJ8_checkIndex_6
theorem hd_J2_elementData : yJ2_elementData.cls ≠ "java/lang/invoke/MethodHandle" ∧ yJ2_elementData.cls ≠ "java/lang/invoke/VarHandle" ∧ (parseMethodDescriptor yJ2_elementData.desc).map (fun d => d.parameters.length) = some 1 := by decide +kernel
set_option maxHeartbeats 4000000 in
set_option maxRecDepth 100000 in
theorem met_J2_elementData {l : Launch} {k : Cx} {al ar cap : Nat} {md : Int32} {xs : List Nat} {x : Int32} {q : Nat} (hO : lsOk k ar cap xs) (hx1 : pAt xs x = some q) : Met l yJ2_elementData (ws_ yJ2_elementData cJ2_elementData 2 (Option.some (Jvm.ClassFile.FieldType.object "java/lang/Object"))) ({ frames := 1, cells := 0, slots := 0, locals := 12 } : Room) (gPc [.ref al, .int x] k (lsW k al ar cap md xs)) (QcV (some (.ref q))) 0 0 (fun _ => False) := by
  refine va_MetF (cc := cJ2_elementData) (maxL := 2) (ret := (Option.some (Jvm.ClassFile.FieldType.object "java/lang/Object"))) (by decide +kernel) rfl ?_
  intro p e s m args below meth c s₁ B hml hv
  obtain ⟨rfl, hP, hG⟩ := hv
  have hx := B.exec
  have hb := B.bytes
  have hr := B.returns
  have hts := atoms_spec (ws := ws_ yJ2_elementData cJ2_elementData 2 (Option.some (Jvm.ClassFile.FieldType.object "java/lang/Object"))) B.pre
  have hts : ∀ w ∈ lw_all, w.before _ s = true := fun w h => hts w (List.mem_cons_of_mem _ h)
  have hown : s.vm.findClass RJ2 = some m.cls := findClass_of_methodNamed B.named
  have hlocks := B.notSynchronized
  have hl := lv_entry ([.ref al, .int x]) (n := 2) (Nat.le_of_ble_eq_true rfl)
  rw [lg_entry_eq]
  generalize (lg_sl ([.ref al, .int x]) ++ List.replicate (2 - (lg_sl ([.ref al, .int x])).length) Slot.unset).toArray = ls at hl ⊢
  have hl : lv_has ls 2 [(0, .ref al), (1, .int x)] := hl
  refine lv_aload_n hx hb dJ2_elementData_0 rfl (lv_at hl 0 rfl) ?_
  refine va_get (ci := 9) (v := .ref ar) (C := RJ2) (T := TJ2) (N := 3) hx hb hts in_J2 hown hG.K (hP.sub [0] rfl) 0 rfl rfl 1 (by decide) (hts _ q132) (fun _ h9 => h9) rfl dJ2_elementData_1 ?_
  refine lv_iload_n hx hb dJ2_elementData_4 rfl (lv_at hl 1 rfl) ?_
  refine va_aldq hx hb hG.K (ls_a hO hx1 hP) 0 1 rfl rfl (ls_in hO hx1) dJ2_elementData_5 ?_
  rw [(pAt_some hx1).2]
  exact W.aret hx hb hr (Or.inl ⟨_, rfl⟩) (Or.inr ⟨_, rfl⟩) (fun t ht hW => c_ret ht) (fun q hq => absurd hq List.not_mem_nil) dJ2_elementData_6
theorem hd_J2_get : yJ2_get.cls ≠ "java/lang/invoke/MethodHandle" ∧ yJ2_get.cls ≠ "java/lang/invoke/VarHandle" ∧ (parseMethodDescriptor yJ2_get.desc).map (fun d => d.parameters.length) = some 1 := by decide +kernel
set_option maxHeartbeats 4000000 in
set_option maxRecDepth 100000 in
theorem met_J2_get {l : Launch} {k : Cx} {al ar cap : Nat} {md : Int32} {xs : List Nat} {x : Int32} {q : Nat} (hO : lsOk k ar cap xs) (hx1 : pAt xs x = some q) : Met l yJ2_get (ws_ yJ2_get cJ2_get 2 (Option.some (Jvm.ClassFile.FieldType.object "java/lang/Object"))) ({ frames := 3, cells := 0, slots := 0, locals := 55 } : Room) (gPc [.ref al, .int x] k (lsW k al ar cap md xs)) (QcV (some (.ref q))) 0 0 (fun _ => False) := by
  refine va_MetF (cc := cJ2_get) (maxL := 2) (ret := (Option.some (Jvm.ClassFile.FieldType.object "java/lang/Object"))) (by decide +kernel) rfl ?_
  intro p e s m args below meth c s₁ B hml hv
  obtain ⟨rfl, hP, hG⟩ := hv
  have hx := B.exec
  have hb := B.bytes
  have hr := B.returns
  have hts := atoms_spec (ws := ws_ yJ2_get cJ2_get 2 (Option.some (Jvm.ClassFile.FieldType.object "java/lang/Object"))) B.pre
  have hts : ∀ w ∈ lw_all, w.before _ s = true := fun w h => hts w (List.mem_cons_of_mem _ h)
  have hown : s.vm.findClass RJ2 = some m.cls := findClass_of_methodNamed B.named
  have hlocks := B.notSynchronized
  have hl := lv_entry ([.ref al, .int x]) (n := 2) (Nat.le_of_ble_eq_true rfl)
  rw [lg_entry_eq]
  generalize (lg_sl ([.ref al, .int x]) ++ List.replicate (2 - (lg_sl ([.ref al, .int x])).length) Slot.unset).toArray = ls at hl ⊢
  have hl : lv_has ls 2 [(0, .ref al), (1, .int x)] := hl
  have hSa : va_S (Ab k) s.heap s.heap [] := va_S.rf
  refine lv_iload_n hx hb dJ2_get_0 rfl (lv_at hl 1 rfl) ?_
  refine lv_aload_n hx hb dJ2_get_1 rfl (lv_at hl 0 rfl) ?_
  refine va_get (ci := 9) (v := .int (nI xs.length)) (C := RJ2) (T := TJ2) (N := 3) hx hb hts in_J2 hown hG.K (hP.sub [0] rfl) 0 rfl rfl 2 (by decide) (hts _ q135) (fun _ h9 => h9) rfl dJ2_get_2 ?_
  refine c_call (va_runS (As := [.int x, .int (nI xs.length)]) (rest := []) ⟨hx, hb, hml, hown, hts⟩ (met_J8_checkIndex (pAt_some hx1).1 (pAt_lt hx1 hO)) (va_cwS 2 hts (lw_S q261 q262 q79 q263) rfl rfl rfl hd_J8_checkIndex ⟨Nat.le_of_ble_eq_true rfl, Nat.le_of_ble_eq_true rfl⟩) m_preS rfl rfl hl.1 rfl (lv_room (Nat.le_of_ble_eq_true rfl)) dJ2_get_5 ⟨Nat.le_of_ble_eq_true rfl, Nat.le_of_ble_eq_true rfl⟩) ?_
  refine lv_pop hx hb dJ2_get_8 rfl ?_
  refine lv_aload_n hx hb dJ2_get_9 rfl (lv_at hl 0 rfl) ?_
  refine lv_iload_n hx hb dJ2_get_10 rfl (lv_at hl 1 rfl) ?_
  refine c_call (va_runV (As := [.int x]) (rest := []) ⟨hx, hb, hml, hown, hts⟩ (met_J2_elementData hO hx1) (cwV 1 hts (lw_V q267 q268 q269 q71 q270) rfl rfl rfl ⟨rfl, hd_J2_elementData⟩ ⟨Nat.le_of_ble_eq_true rfl, Nat.le_of_ble_eq_true rfl⟩) (g_preV hG hSa hP (va_recv hG.K hP (ci := 9) (q0 := 0) rfl rfl)) rfl rfl hl.1 rfl (lv_room (Nat.le_of_ble_eq_true rfl)) dJ2_get_11 ⟨Nat.le_of_ble_eq_true rfl, Nat.le_of_ble_eq_true rfl⟩) ?_
  exact W.aret hx hb hr (Or.inl ⟨_, rfl⟩) (Or.inr ⟨_, rfl⟩) (fun t ht hW => c_ret ht) (fun q hq => absurd hq List.not_mem_nil) dJ2_get_14
theorem hd_X2_size : yX2_size.cls ≠ "java/lang/invoke/MethodHandle" ∧ yX2_size.cls ≠ "java/lang/invoke/VarHandle" ∧ (parseMethodDescriptor yX2_size.desc).map (fun d => d.parameters.length) = some 0 := by decide +kernel
set_option maxHeartbeats 4000000 in
set_option maxRecDepth 100000 in
theorem met_X2_size {l : Launch} {k : Cx} {a : LA} {xs : List Nat} {n : Nat} (hn : n = xs.length) : Met l yX2_size (ws_ yX2_size cX2_size 1 (some .int)) ({ frames := 2, cells := 0, slots := 0, locals := 32 } : Room) (gPc [.ref (lS a)] k (stO a :: lsW k (lR a) (lE a) (lC a) (lM a) xs)) (QcV (some (.int (nI n)))) 0 0 (fun _ => False) := by
  refine Met.ofW (cc := cX2_size) (maxL := 1) (ret := (some .int)) (by decide) rfl ?_
  intro p e s m args below meth c s₁ B hml hv
  obtain ⟨rfl, hP, hG⟩ := hv
  have hx := B.exec
  have hb := B.bytes
  have hr := B.returns
  have hts := atoms_spec (ws := ws_ yX2_size cX2_size 1 (some .int)) B.pre
  have hts : ∀ w ∈ lw_all, w.before _ s = true := fun w h => hts w (List.mem_cons_of_mem _ h)
  have hown : s.vm.findClass RX2 = some m.cls := findClass_of_methodNamed B.named
  have hlocks := B.notSynchronized
  have hl := lv_entry ([.ref (lS a)]) (n := 1) (Nat.le_of_ble_eq_true rfl)
  rw [lg_entry_eq]
  generalize (lg_sl ([.ref (lS a)]) ++ List.replicate (1 - (lg_sl ([.ref (lS a)])).length) Slot.unset).toArray = ls at hl ⊢
  have hl : lv_has ls 1 [(0, .ref (lS a))] := hl
  have hSa : va_S (Ab k) s.heap s.heap [] := va_S.rf
  refine lv_aload_n hx hb dX2_size_0 rfl (lv_at hl 0 rfl) ?_
  refine va_get (ci := 2) (v := .ref (lR a)) (C := RX2) (T := TX2) (N := 1) hx hb hts in_X2 hown hG.K (hP.sub [0] rfl) 0 rfl rfl 0 (by decide) (hts _ q147) (fun _ h9 => h9) rfl dX2_size_1 ?_
  refine c_call (va_runV (As := []) (rest := []) ⟨hx, hb, hml, hown, hts⟩ (met_J2_size (n := n) hn) (cwV 0 hts (lw_V q247 q248 q249 q71 q250) rfl rfl rfl ⟨rfl, hd_J2_size⟩ ⟨Nat.le_of_ble_eq_true rfl, Nat.le_of_ble_eq_true rfl⟩) (g_preV hG hSa (va_P.tl hP) (va_recv hG.K (va_P.tl hP) (ci := 9) (q0 := 0) rfl rfl)) rfl rfl hl.1 rfl (lv_room (Nat.le_of_ble_eq_true rfl)) dX2_size_4 ⟨Nat.le_of_ble_eq_true rfl, Nat.le_of_ble_eq_true rfl⟩) ?_
  exact W.iret hx hb hr (fun t ht hW => c_ret ht) (fun q hq => absurd hq List.not_mem_nil) dX2_size_7
theorem hd_X2_at : yX2_at.cls ≠ "java/lang/invoke/MethodHandle" ∧ yX2_at.cls ≠ "java/lang/invoke/VarHandle" ∧ (parseMethodDescriptor yX2_at.desc).map (fun d => d.parameters.length) = some 1 := by decide +kernel
set_option maxHeartbeats 4000000 in
set_option maxRecDepth 100000 in
theorem met_X2_at {l : Launch} {k : Cx} {a : LA} {xs : List Nat} {t : TT} {x : Int32} (hO : lsOk k (lE a) (lC a) xs) (hx1 : pAt xs x = some (aT t.1)) : Met l yX2_at (ws_ yX2_at cX2_at 2 (Option.some (Jvm.ClassFile.FieldType.object "LectureTurns$Begun"))) ({ frames := 4, cells := 0, slots := 0, locals := 76 } : Room) (gPc [.ref (lS a), .int x] k (tuO t :: stO a :: lsW k (lR a) (lE a) (lC a) (lM a) xs)) (QcV (some (.ref (aT t.1)))) 0 0 (fun _ => False) := by
  refine Met.ofW (cc := cX2_at) (maxL := 2) (ret := (Option.some (Jvm.ClassFile.FieldType.object "LectureTurns$Begun"))) (by decide) rfl ?_
  intro p e s m args below meth c s₁ B hml hv
  obtain ⟨rfl, hP, hG⟩ := hv
  have hx := B.exec
  have hb := B.bytes
  have hr := B.returns
  have hts := atoms_spec (ws := ws_ yX2_at cX2_at 2 (Option.some (Jvm.ClassFile.FieldType.object "LectureTurns$Begun"))) B.pre
  have hts : ∀ w ∈ lw_all, w.before _ s = true := fun w h => hts w (List.mem_cons_of_mem _ h)
  have hown : s.vm.findClass RX2 = some m.cls := findClass_of_methodNamed B.named
  have hlocks := B.notSynchronized
  have hl := lv_entry ([.ref (lS a), .int x]) (n := 2) (Nat.le_of_ble_eq_true rfl)
  rw [lg_entry_eq]
  generalize (lg_sl ([.ref (lS a), .int x]) ++ List.replicate (2 - (lg_sl ([.ref (lS a), .int x])).length) Slot.unset).toArray = ls at hl ⊢
  have hl : lv_has ls 2 [(0, .ref (lS a)), (1, .int x)] := hl
  have hSa : va_S (Ab k) s.heap s.heap [] := va_S.rf
  refine lv_aload_n hx hb dX2_at_0 rfl (lv_at hl 0 rfl) ?_
  refine va_get (ci := 2) (v := .ref (lR a)) (C := RX2) (T := TX2) (N := 1) hx hb hts in_X2 hown hG.K (hP.sub [1] rfl) 0 rfl rfl 0 (by decide) (hts _ q147) (fun _ h9 => h9) rfl dX2_at_1 ?_
  refine lv_iload_n hx hb dX2_at_4 rfl (lv_at hl 1 rfl) ?_
  refine c_call (va_runV (As := [.int x]) (rest := []) ⟨hx, hb, hml, hown, hts⟩ (met_J2_get hO hx1) (cwV 1 hts (lw_V q257 q258 q259 q71 q260) rfl rfl rfl ⟨rfl, hd_J2_get⟩ ⟨Nat.le_of_ble_eq_true rfl, Nat.le_of_ble_eq_true rfl⟩) (g_preV hG hSa (va_P.tl (va_P.tl hP)) (va_recv hG.K (va_P.tl (va_P.tl hP)) (ci := 9) (q0 := 0) rfl rfl)) rfl rfl hl.1 rfl (lv_room (Nat.le_of_ble_eq_true rfl)) dX2_at_5 ⟨Nat.le_of_ble_eq_true rfl, Nat.le_of_ble_eq_true rfl⟩) ?_
  refine va_castY hx hb hown (hts _ q271) (nc_LectureTurns_Turn__LectureTurns_Begun hG) (va_recv hG.K hP (ci := 4) (q0 := 0) rfl rfl) dX2_at_8 ?_
  exact W.aret hx hb hr (Or.inl ⟨_, rfl⟩) (Or.inr ⟨_, rfl⟩) (fun t ht hW => c_ret ht) (fun q hq => absurd hq List.not_mem_nil) dX2_at_11
theorem hd_J17_intValue : yJ17_intValue.cls ≠ "java/lang/invoke/MethodHandle" ∧ yJ17_intValue.cls ≠ "java/lang/invoke/VarHandle" ∧ (parseMethodDescriptor yJ17_intValue.desc).map (fun d => d.parameters.length) = some 0 := by decide +kernel
set_option maxHeartbeats 4000000 in
set_option maxRecDepth 100000 in
theorem met_J17_intValue {l : Launch} {k : Cx} {v : Int32} (hn : ∃ n : Nat, n < 16 ∧ v = nI n) : Met l yJ17_intValue (ws_ yJ17_intValue cJ17_intValue 1 (some .int)) ({ frames := 1, cells := 0, slots := 0, locals := 12 } : Room) (gPc [.ref (bxA k v)] k []) (QcV (some (.int v))) 0 0 (fun _ => False) := by
  refine va_MetF (cc := cJ17_intValue) (maxL := 1) (ret := (some .int)) (by decide +kernel) rfl ?_
  intro p e s m args below meth c s₁ B hml hv
  obtain ⟨rfl, hP, hG⟩ := hv
  have hx := B.exec
  have hb := B.bytes
  have hr := B.returns
  have hts := atoms_spec (ws := ws_ yJ17_intValue cJ17_intValue 1 (some .int)) B.pre
  have hts : ∀ w ∈ lw_all, w.before _ s = true := fun w h => hts w (List.mem_cons_of_mem _ h)
  have hown : s.vm.findClass RJ17 = some m.cls := findClass_of_methodNamed B.named
  have hlocks := B.notSynchronized
  have hl := lv_entry ([.ref (bxA k v)]) (n := 1) (Nat.le_of_ble_eq_true rfl)
  rw [lg_entry_eq]
  generalize (lg_sl ([.ref (bxA k v)]) ++ List.replicate (1 - (lg_sl ([.ref (bxA k v)])).length) Slot.unset).toArray = ls at hl ⊢
  have hl : lv_has ls 1 [(0, .ref (bxA k v))] := hl
  refine lv_aload_n hx hb dJ17_intValue_0 rfl (lv_at hl 0 rfl) ?_
  refine vb_get (X := []) (LP := []) (pv := fun _ => 0) (v := v) (ci := 13) (T := TJ17) hx hb hts in_J17 hown hG.I va_S.rf hG.K va_P.nil rfl ⟨rfl, rfl, rfl⟩ (bx_val hn) (hts _ q567) (fun _ h9 => h9) dJ17_intValue_1 ?_
  exact W.iret hx hb hr (fun t ht hW => c_ret ht) (fun q hq => absurd hq List.not_mem_nil) dJ17_intValue_4
