/-! iterators of lists (printed by wip/gen/gen_itr.py) -/
theorem hd_J10_init : yJ10_init.cls ≠ "java/lang/invoke/MethodHandle" ∧ yJ10_init.cls ≠ "java/lang/invoke/VarHandle" ∧ (parseMethodDescriptor yJ10_init.desc).map (fun d => d.parameters.length) = some 1 := by decide +kernel
set_option maxHeartbeats 4000000 in
set_option maxRecDepth 100000 in
theorem met_J10_init {l : Launch} {k : Cx} {q al ar : Nat} {md : Int32} {xs : List Nat} {fr : va_W} (hD : va_D (Ab k) ((q, .inr (12, [.int 0, .int 0, .int 0, .null])) :: (al, .inr (9, [.int md, .ref ar, .int (nI xs.length)])) :: fr)) : Met l yJ10_init (ws_ yJ10_init cJ10_init 2 none) ({ frames := 1, cells := 0, slots := 0, locals := 24 } : Room) (gPc [.ref q, .ref al] k ((q, .inr (12, [.int 0, .int 0, .int 0, .null])) :: (al, .inr (9, [.int md, .ref ar, .int (nI xs.length)])) :: fr)) (QcM k (fun v w => v = none ∧ w = itO q 0 (-1) md al :: lsO al ar md xs :: fr)) 0 0 (Ab k) := by
  refine va_MetF (cc := cJ10_init) (maxL := 2) (ret := none) (by decide +kernel) rfl ?_
  intro p e s m args below meth c s₁ B hml hv
  obtain ⟨rfl, hP, hG⟩ := hv
  have hx := B.exec
  have hb := B.bytes
  have hr := B.returns
  have hts := atoms_spec (ws := ws_ yJ10_init cJ10_init 2 none) B.pre
  have hts : ∀ w ∈ lw_all, w.before _ s = true := fun w h => hts w (List.mem_cons_of_mem _ h)
  have hown : s.vm.findClass RJ10 = some m.cls := findClass_of_methodNamed B.named
  have hlocks := B.notSynchronized
  have hl := lv_entry ([.ref q, .ref al]) (n := 2) (Nat.le_of_ble_eq_true rfl)
  rw [lg_entry_eq]
  generalize (lg_sl ([.ref q, .ref al]) ++ List.replicate (2 - (lg_sl ([.ref q, .ref al])).length) Slot.unset).toArray = ls at hl ⊢
  have hl : lv_has ls 2 [(0, .ref q), (1, .ref al)] := hl
  have hS : va_S (Ab k) s.heap s.heap [] := va_S.rf
  have hin : meth.name = "<init>" := (name_of_methodNamed B.named B.method).1
  refine lv_aload_n hx hb dJ10_init_0 rfl (lv_at hl 0 rfl) ?_
  refine lv_aload_n hx hb dJ10_init_1 rfl (lv_at hl 1 rfl) ?_
  refine va_putF (ci := 12) (v := .ref al) (ty := (tyJ10 3)) (C := RJ10) (T := TJ10) (N := 4) hx hb hts in_J10 tyJ10 tyJ10_ok nmJ10 hown hG.K hP hD hS 0 rfl rfl 3 (by decide) (hts _ q320) (fun _ h9 => h9) rfl hin rfl (by decide +kernel) rfl rfl (Nat.le_of_ble_eq_true rfl) dJ10_init_2 (fun H locs hP hD hS => ?_)
  have hP : va_P (kD k) gCl ((q, .inr (12, [.int 0, .int 0, .int 0, .ref al])) :: (al, .inr (9, [.int md, .ref ar, .int (nI xs.length)])) :: fr) H := hP
  have hD : va_D (Ab k) ((q, .inr (12, [.int 0, .int 0, .int 0, .ref al])) :: (al, .inr (9, [.int md, .ref ar, .int (nI xs.length)])) :: fr) := hD
  refine lv_aload_n hx hb dJ10_init_5 rfl (lv_at hl 0 rfl) ?_
  refine W.objInit hx hb hown (hts _ q316) (hts _ q104) (hts _ q105) rfl (by rw [hml]; exact hl.1) rfl dJ10_init_6 (Nat.le_of_ble_eq_true rfl) (Nat.le_of_ble_eq_true rfl) ?_
  refine W.eq (g2 := F0 m 9 ls []) rfl ?_
  refine lv_aload_n hx hb dJ10_init_9 rfl (lv_at hl 0 rfl) ?_
  refine lv_iconst (v := -1) hx hb dJ10_init_10 (by decide) ?_
  refine va_put (ci := 12) (v := .int (-1 : Int32)) (ty := .int) (C := RJ10) (T := TJ10) (N := 4) hx hb hts in_J10 tyJ10 tyJ10_ok nmJ10 hown hG.K hP hD hS 0 rfl rfl 1 (by decide) (hts _ q318) (fun _ h9 => h9) rfl (by decide +kernel) rfl rfl (Nat.le_of_ble_eq_true rfl) dJ10_init_11 (fun H locs hP hD hS => ?_)
  have hP : va_P (kD k) gCl ((q, .inr (12, [.int 0, .int (-1 : Int32), .int 0, .ref al])) :: (al, .inr (9, [.int md, .ref ar, .int (nI xs.length)])) :: fr) H := hP
  have hD : va_D (Ab k) ((q, .inr (12, [.int 0, .int (-1 : Int32), .int 0, .ref al])) :: (al, .inr (9, [.int md, .ref ar, .int (nI xs.length)])) :: fr) := hD
  refine lv_aload_n hx hb dJ10_init_14 rfl (lv_at hl 0 rfl) ?_
  refine lv_aload_n hx hb dJ10_init_15 rfl (lv_at hl 0 rfl) ?_
  refine va_get (ci := 12) (v := .ref al) (C := RJ10) (T := TJ10) (N := 4) hx hb hts in_J10 hown hG.K hP 0 rfl rfl 3 (by decide) (hts _ q320) (fun _ h9 => h9) rfl dJ10_init_16 ?_
  refine va_get (ci := 9) (v := .int md) (C := RJ2) (T := TJ2) (N := 3) hx hb hts in_J2 hown hG.K hP 1 rfl rfl 0 (by decide) (hts _ q137) (u_same (hts _ q138)) rfl dJ10_init_19 ?_
  refine va_put (ci := 12) (v := .int md) (ty := .int) (C := RJ10) (T := TJ10) (N := 4) hx hb hts in_J10 tyJ10 tyJ10_ok nmJ10 hown hG.K hP hD hS 0 rfl rfl 2 (by decide) (hts _ q319) (fun _ h9 => h9) rfl (by decide +kernel) rfl rfl (Nat.le_of_ble_eq_true rfl) dJ10_init_22 (fun H locs hP hD hS => ?_)
  have hP : va_P (kD k) gCl ((q, .inr (12, [.int 0, .int (-1 : Int32), .int md, .ref al])) :: (al, .inr (9, [.int md, .ref ar, .int (nI xs.length)])) :: fr) H := hP
  have hD : va_D (Ab k) ((q, .inr (12, [.int 0, .int (-1 : Int32), .int md, .ref al])) :: (al, .inr (9, [.int md, .ref ar, .int (nI xs.length)])) :: fr) := hD
  exact W.vret hx hb hr (fun t ht hW => c_retM (w := (q, .inr (12, [.int 0, .int (-1 : Int32), .int md, .ref al])) :: (al, .inr (9, [.int md, .ref ar, .int (nI xs.length)])) :: fr) ⟨rfl, rfl⟩ hP hD hS ht) hS.2.2 dJ10_init_25
theorem hd_J2_iterator : yJ2_iterator.cls ≠ "java/lang/invoke/MethodHandle" ∧ yJ2_iterator.cls ≠ "java/lang/invoke/VarHandle" ∧ (parseMethodDescriptor yJ2_iterator.desc).map (fun d => d.parameters.length) = some 0 := by decide +kernel
set_option maxHeartbeats 4000000 in
set_option maxRecDepth 100000 in
theorem met_J2_iterator {l : Launch} {k : Cx} {al ar : Nat} {md : Int32} {xs : List Nat} {fr : va_W} (hD : va_D (Ab k) ((al, .inr (9, [.int md, .ref ar, .int (nI xs.length)])) :: fr)) : Met l yJ2_iterator (ws_ yJ2_iterator cJ2_iterator 1 (Option.some (Jvm.ClassFile.FieldType.object "java/util/Iterator"))) ({ frames := 2, cells := 1, slots := 4, locals := 45 } : Room) (gPc [.ref al] k ((al, .inr (9, [.int md, .ref ar, .int (nI xs.length)])) :: fr)) (QcM k (fun v w => ∃ q, v = some (.ref q) ∧ w = itO q 0 (-1) md al :: lsO al ar md xs :: fr)) 1 4 (Ab k) := by
  refine va_MetF (cc := cJ2_iterator) (maxL := 1) (ret := (Option.some (Jvm.ClassFile.FieldType.object "java/util/Iterator"))) (by decide +kernel) rfl ?_
  intro p e s m args below meth c s₁ B hml hv
  obtain ⟨rfl, hP, hG⟩ := hv
  have hx := B.exec
  have hb := B.bytes
  have hr := B.returns
  have hts := atoms_spec (ws := ws_ yJ2_iterator cJ2_iterator 1 (Option.some (Jvm.ClassFile.FieldType.object "java/util/Iterator"))) B.pre
  have hts : ∀ w ∈ lw_all, w.before _ s = true := fun w h => hts w (List.mem_cons_of_mem _ h)
  have hown : s.vm.findClass RJ2 = some m.cls := findClass_of_methodNamed B.named
  have hlocks := B.notSynchronized
  have hl := lv_entry ([.ref al]) (n := 1) (Nat.le_of_ble_eq_true rfl)
  rw [lg_entry_eq]
  generalize (lg_sl ([.ref al]) ++ List.replicate (1 - (lg_sl ([.ref al])).length) Slot.unset).toArray = ls at hl ⊢
  have hl : lv_has ls 1 [(0, .ref al)] := hl
  have hS : va_S (Ab k) s.heap s.heap [] := va_S.rf
  refine va_new (ci := 12) (fs := [.int 0, .int 0, .int 0, .null]) (C := RJ10) (T := TJ10) (N := 4) hx hb hts in_J10 tyJ10 tyJ10_ok hown (hts _ q311) (hts _ q312) (hts _ q81) hG.K hP hD hS hG.A rfl (fun j hj => by rcases (show j = 0 ∨ j = 1 ∨ j = 2 ∨ j = 3 by omega) with rfl | rfl | rfl | rfl <;> rfl) (Nat.le_of_ble_eq_true rfl) (Nat.le_of_ble_eq_true rfl) dJ2_iterator_0 (fun q1 H hP hD hS => ?_)
  have hP := hP.rot
  have hD := hD.rot
  have hP : va_P (kD k) gCl ((q1, .inr (12, [.int 0, .int 0, .int 0, .null])) :: (al, .inr (9, [.int md, .ref ar, .int (nI xs.length)])) :: fr) H := hP
  have hD : va_D (Ab k) ((q1, .inr (12, [.int 0, .int 0, .int 0, .null])) :: (al, .inr (9, [.int md, .ref ar, .int (nI xs.length)])) :: fr) := hD
  refine lv_dup hx hb dJ2_iterator_3 rfl ?_
  refine lv_aload_n hx hb dJ2_iterator_4 rfl (lv_at hl 0 rfl) ?_
  refine c_callM (va_runI (As := [.ref al]) (rest := [.ref q1]) ⟨hx, hb, hml, hown, hts⟩ (met_J10_init hD) (cwI 1 hts (lw_meth q315) rfl rfl rfl (hts _ q81) (hts _ q313) (hts _ q314) rfl hd_J10_init ⟨Nat.le_of_ble_eq_true rfl, Nat.le_of_ble_eq_true rfl⟩) (g_preS hG hS hP) rfl rfl hl.1 rfl (lv_room (Nat.le_of_ble_eq_true rfl)) dJ2_iterator_5 ⟨Nat.le_of_ble_eq_true rfl, Nat.le_of_ble_eq_true rfl⟩) hS (fun v w H locs hp hP hD hS => ?_)
  obtain ⟨rfl, rfl⟩ := hp
  have hP : va_P (kD k) gCl ((q1, .inr (12, [.int 0, .int (-1), .int md, .ref al])) :: (al, .inr (9, [.int md, .ref ar, .int (nI xs.length)])) :: fr) H := hP
  have hD : va_D (Ab k) ((q1, .inr (12, [.int 0, .int (-1), .int md, .ref al])) :: (al, .inr (9, [.int md, .ref ar, .int (nI xs.length)])) :: fr) := hD
  refine W.widen (k := 1) (n := 4) (Nat.le_of_ble_eq_true rfl) (Nat.le_of_ble_eq_true rfl) ?_
  exact W.aret hx hb hr (Or.inl ⟨_, rfl⟩) (Or.inr ⟨_, rfl⟩) (fun t ht hW => c_retM (w := (q1, .inr (12, [.int 0, .int (-1), .int md, .ref al])) :: (al, .inr (9, [.int md, .ref ar, .int (nI xs.length)])) :: fr) ⟨_, rfl, rfl⟩ hP hD hS ht) hS.2.2 dJ2_iterator_8
theorem hd_J10_hasNext : yJ10_hasNext.cls ≠ "java/lang/invoke/MethodHandle" ∧ yJ10_hasNext.cls ≠ "java/lang/invoke/VarHandle" ∧ (parseMethodDescriptor yJ10_hasNext.desc).map (fun d => d.parameters.length) = some 0 := by decide +kernel
set_option maxHeartbeats 4000000 in
set_option maxRecDepth 100000 in
theorem met_J10_hasNextT {l : Launch} {k : Cx} {q al ar : Nat} {cur las md md2 : Int32} {xs : List Nat} (h : ¬ cur = nI xs.length) : Met l yJ10_hasNext (ws_ yJ10_hasNext cJ10_hasNext 1 (some .boolean)) ({ frames := 1, cells := 0, slots := 0, locals := 12 } : Room) (gPc [.ref q] k [itO q cur las md2 al, lsO al ar md xs]) (QcV (some (.int 1))) 0 0 (fun _ => False) := by
  refine va_MetF (cc := cJ10_hasNext) (maxL := 1) (ret := (some .boolean)) (by decide +kernel) rfl ?_
  intro p e s m args below meth c s₁ B hml hv
  obtain ⟨rfl, hP, hG⟩ := hv
  have hx := B.exec
  have hb := B.bytes
  have hr := B.returns
  have hts := atoms_spec (ws := ws_ yJ10_hasNext cJ10_hasNext 1 (some .boolean)) B.pre
  have hts : ∀ w ∈ lw_all, w.before _ s = true := fun w h => hts w (List.mem_cons_of_mem _ h)
  have hown : s.vm.findClass RJ10 = some m.cls := findClass_of_methodNamed B.named
  have hlocks := B.notSynchronized
  have hl := lv_entry ([.ref q]) (n := 1) (Nat.le_of_ble_eq_true rfl)
  rw [lg_entry_eq]
  generalize (lg_sl ([.ref q]) ++ List.replicate (1 - (lg_sl ([.ref q])).length) Slot.unset).toArray = ls at hl ⊢
  have hl : lv_has ls 1 [(0, .ref q)] := hl
  refine lv_aload_n hx hb dJ10_hasNext_0 rfl (lv_at hl 0 rfl) ?_
  refine va_get (ci := 12) (v := .int cur) (C := RJ10) (T := TJ10) (N := 4) hx hb hts in_J10 hown hG.K (hP.sub [0] rfl) 0 rfl rfl 0 (by decide) (hts _ q317) (fun _ h9 => h9) rfl dJ10_hasNext_1 ?_
  refine lv_aload_n hx hb dJ10_hasNext_4 rfl (lv_at hl 0 rfl) ?_
  refine va_get (ci := 12) (v := .ref al) (C := RJ10) (T := TJ10) (N := 4) hx hb hts in_J10 hown hG.K (hP.sub [0] rfl) 0 rfl rfl 3 (by decide) (hts _ q320) (fun _ h9 => h9) rfl dJ10_hasNext_5 ?_
  refine va_getN (ci := 9) (v := .int (nI xs.length)) (C := RJ2) (T := TJ2) (N := 3) hx hb hts in_J2 hown hG.K (hP.sub [1] rfl) 0 rfl rfl 2 (by decide) (nf_java_util_ArrayList_Itr_28 hG) (fun _ h9 => h9) rfl dJ10_hasNext_8 ?_
  refine lv_icmp_eq (tgt := 18) hx hb dJ10_hasNext_11 (by decide) (fun c9 => absurd c9 h) (fun c9 => ?_)
  refine lv_iconst (v := 1) hx hb dJ10_hasNext_14 (by decide) ?_
  refine lv_goto (tgt := 19) hx hb dJ10_hasNext_15 (by decide) ?_
  exact W.zret hx hb hr rfl (fun t ht hW => c_ret ht) (fun q hq => absurd hq List.not_mem_nil) dJ10_hasNext_19
set_option maxHeartbeats 4000000 in
set_option maxRecDepth 100000 in
theorem met_J10_hasNextF {l : Launch} {k : Cx} {q al ar : Nat} {cur las md md2 : Int32} {xs : List Nat} (h : cur = nI xs.length) : Met l yJ10_hasNext (ws_ yJ10_hasNext cJ10_hasNext 1 (some .boolean)) ({ frames := 1, cells := 0, slots := 0, locals := 12 } : Room) (gPc [.ref q] k [itO q cur las md2 al, lsO al ar md xs]) (QcV (some (.int 0))) 0 0 (fun _ => False) := by
  refine va_MetF (cc := cJ10_hasNext) (maxL := 1) (ret := (some .boolean)) (by decide +kernel) rfl ?_
  intro p e s m args below meth c s₁ B hml hv
  obtain ⟨rfl, hP, hG⟩ := hv
  have hx := B.exec
  have hb := B.bytes
  have hr := B.returns
  have hts := atoms_spec (ws := ws_ yJ10_hasNext cJ10_hasNext 1 (some .boolean)) B.pre
  have hts : ∀ w ∈ lw_all, w.before _ s = true := fun w h => hts w (List.mem_cons_of_mem _ h)
  have hown : s.vm.findClass RJ10 = some m.cls := findClass_of_methodNamed B.named
  have hlocks := B.notSynchronized
  have hl := lv_entry ([.ref q]) (n := 1) (Nat.le_of_ble_eq_true rfl)
  rw [lg_entry_eq]
  generalize (lg_sl ([.ref q]) ++ List.replicate (1 - (lg_sl ([.ref q])).length) Slot.unset).toArray = ls at hl ⊢
  have hl : lv_has ls 1 [(0, .ref q)] := hl
  refine lv_aload_n hx hb dJ10_hasNext_0 rfl (lv_at hl 0 rfl) ?_
  refine va_get (ci := 12) (v := .int cur) (C := RJ10) (T := TJ10) (N := 4) hx hb hts in_J10 hown hG.K (hP.sub [0] rfl) 0 rfl rfl 0 (by decide) (hts _ q317) (fun _ h9 => h9) rfl dJ10_hasNext_1 ?_
  refine lv_aload_n hx hb dJ10_hasNext_4 rfl (lv_at hl 0 rfl) ?_
  refine va_get (ci := 12) (v := .ref al) (C := RJ10) (T := TJ10) (N := 4) hx hb hts in_J10 hown hG.K (hP.sub [0] rfl) 0 rfl rfl 3 (by decide) (hts _ q320) (fun _ h9 => h9) rfl dJ10_hasNext_5 ?_
  refine va_getN (ci := 9) (v := .int (nI xs.length)) (C := RJ2) (T := TJ2) (N := 3) hx hb hts in_J2 hown hG.K (hP.sub [1] rfl) 0 rfl rfl 2 (by decide) (nf_java_util_ArrayList_Itr_28 hG) (fun _ h9 => h9) rfl dJ10_hasNext_8 ?_
  refine lv_icmp_eq (tgt := 18) hx hb dJ10_hasNext_11 (by decide) (fun c9 => ?_) (fun c9 => absurd h c9)
  refine lv_iconst (v := 0) hx hb dJ10_hasNext_18 (by decide) ?_
  exact W.zret hx hb hr rfl (fun t ht hW => c_ret ht) (fun q hq => absurd hq List.not_mem_nil) dJ10_hasNext_19
theorem hd_J10_checkForComodification : yJ10_checkForComodification.cls ≠ "java/lang/invoke/MethodHandle" ∧ yJ10_checkForComodification.cls ≠ "java/lang/invoke/VarHandle" ∧ (parseMethodDescriptor yJ10_checkForComodification.desc).map (fun d => d.parameters.length) = some 0 := by decide +kernel
set_option maxHeartbeats 4000000 in
set_option maxRecDepth 100000 in
theorem met_J10_check {l : Launch} {k : Cx} {q al ar : Nat} {cur las md : Int32} {xs : List Nat} : Met l yJ10_checkForComodification (ws_ yJ10_checkForComodification cJ10_checkForComodification 1 none) ({ frames := 1, cells := 0, slots := 0, locals := 12 } : Room) (gPc [.ref q] k [itO q cur las md al, lsO al ar md xs]) (QcV none) 0 0 (fun _ => False) := by
  refine va_MetF (cc := cJ10_checkForComodification) (maxL := 1) (ret := none) (by decide +kernel) rfl ?_
  intro p e s m args below meth c s₁ B hml hv
  obtain ⟨rfl, hP, hG⟩ := hv
  have hx := B.exec
  have hb := B.bytes
  have hr := B.returns
  have hts := atoms_spec (ws := ws_ yJ10_checkForComodification cJ10_checkForComodification 1 none) B.pre
  have hts : ∀ w ∈ lw_all, w.before _ s = true := fun w h => hts w (List.mem_cons_of_mem _ h)
  have hown : s.vm.findClass RJ10 = some m.cls := findClass_of_methodNamed B.named
  have hlocks := B.notSynchronized
  have hl := lv_entry ([.ref q]) (n := 1) (Nat.le_of_ble_eq_true rfl)
  rw [lg_entry_eq]
  generalize (lg_sl ([.ref q]) ++ List.replicate (1 - (lg_sl ([.ref q])).length) Slot.unset).toArray = ls at hl ⊢
  have hl : lv_has ls 1 [(0, .ref q)] := hl
  refine lv_aload_n hx hb dJ10_checkForComodification_0 rfl (lv_at hl 0 rfl) ?_
  refine va_get (ci := 12) (v := .ref al) (C := RJ10) (T := TJ10) (N := 4) hx hb hts in_J10 hown hG.K (hP.sub [0] rfl) 0 rfl rfl 3 (by decide) (hts _ q320) (fun _ h9 => h9) rfl dJ10_checkForComodification_1 ?_
  refine va_get (ci := 9) (v := .int md) (C := RJ2) (T := TJ2) (N := 3) hx hb hts in_J2 hown hG.K (hP.sub [1] rfl) 0 rfl rfl 0 (by decide) (hts _ q137) (u_same (hts _ q138)) rfl dJ10_checkForComodification_4 ?_
  refine lv_aload_n hx hb dJ10_checkForComodification_7 rfl (lv_at hl 0 rfl) ?_
  refine va_get (ci := 12) (v := .int md) (C := RJ10) (T := TJ10) (N := 4) hx hb hts in_J10 hown hG.K (hP.sub [0] rfl) 0 rfl rfl 2 (by decide) (hts _ q319) (fun _ h9 => h9) rfl dJ10_checkForComodification_8 ?_
  refine lv_icmp_eq (tgt := 22) hx hb dJ10_checkForComodification_11 (by decide) (fun c9 => ?_) (fun c9 => absurd rfl c9)
  exact W.vret hx hb hr (fun t ht hW => c_ret ht) (fun q hq => absurd hq List.not_mem_nil) dJ10_checkForComodification_22
theorem hd_J10_next : yJ10_next.cls ≠ "java/lang/invoke/MethodHandle" ∧ yJ10_next.cls ≠ "java/lang/invoke/VarHandle" ∧ (parseMethodDescriptor yJ10_next.desc).map (fun d => d.parameters.length) = some 0 := by decide +kernel
set_option maxHeartbeats 4000000 in
set_option maxRecDepth 100000 in
theorem met_J10_next {l : Launch} {k : Cx} {q al ar cap i y : Nat} {las md : Int32} {xs : List Nat} {fr : va_W} (h1 : i < xs.length) (h2 : xs.length < 2 ^ 31) (h3 : xs.length ≤ cap) (h4 : cap < 2 ^ 31) (hy : xs[i]? = some y) (hD : va_D (Ab k) ((q, .inr (12, [.int (nI i), .int las, .int md, .ref al])) :: (al, .inr (9, [.int md, .ref ar, .int (nI xs.length)])) :: (ar, .inl (kO k, cap, .inr (.inr (.inr (.inr (fun j => xs[j]?)))))) :: fr)) : Met l yJ10_next (ws_ yJ10_next cJ10_next 3 (Option.some (Jvm.ClassFile.FieldType.object "java/lang/Object"))) ({ frames := 2, cells := 0, slots := 0, locals := 32 } : Room) (gPc [.ref q] k ((q, .inr (12, [.int (nI i), .int las, .int md, .ref al])) :: (al, .inr (9, [.int md, .ref ar, .int (nI xs.length)])) :: (ar, .inl (kO k, cap, .inr (.inr (.inr (.inr (fun j => xs[j]?)))))) :: fr)) (QcM k (fun v w => v = some (.ref y) ∧ w = itO q (nI (i + 1)) (nI i) md al :: lsO al ar md xs :: rA k ar cap xs :: fr)) 0 0 (Ab k) := by
  refine va_MetF (cc := cJ10_next) (maxL := 3) (ret := (Option.some (Jvm.ClassFile.FieldType.object "java/lang/Object"))) (by decide +kernel) rfl ?_
  intro p e s m args below meth c s₁ B hml hv
  obtain ⟨rfl, hP, hG⟩ := hv
  have hx := B.exec
  have hb := B.bytes
  have hr := B.returns
  have hts := atoms_spec (ws := ws_ yJ10_next cJ10_next 3 (Option.some (Jvm.ClassFile.FieldType.object "java/lang/Object"))) B.pre
  have hts : ∀ w ∈ lw_all, w.before _ s = true := fun w h => hts w (List.mem_cons_of_mem _ h)
  have hown : s.vm.findClass RJ10 = some m.cls := findClass_of_methodNamed B.named
  have hlocks := B.notSynchronized
  have hl := lv_entry ([.ref q]) (n := 3) (Nat.le_of_ble_eq_true rfl)
  rw [lg_entry_eq]
  generalize (lg_sl ([.ref q]) ++ List.replicate (3 - (lg_sl ([.ref q])).length) Slot.unset).toArray = ls at hl ⊢
  have hl : lv_has ls 3 [(0, .ref q)] := hl
  have hS : va_S (Ab k) s.heap s.heap [] := va_S.rf
  refine lv_aload_n hx hb dJ10_next_0 rfl (lv_at hl 0 rfl) ?_
  refine c_call (va_runV (As := []) (rest := []) ⟨hx, hb, hml, hown, hts⟩ met_J10_check (cwV 0 hts (lw_V q349 q350 q351 q81 q352) rfl rfl rfl ⟨rfl, hd_J10_checkForComodification⟩ ⟨Nat.le_of_ble_eq_true rfl, Nat.le_of_ble_eq_true rfl⟩) (g_preV hG hS (hP.sub [0, 1] rfl) (va_recv hG.K hP (ci := 12) (q0 := 0) rfl rfl)) rfl rfl hl.1 rfl (lv_room (Nat.le_of_ble_eq_true rfl)) dJ10_next_1 ⟨Nat.le_of_ble_eq_true rfl, Nat.le_of_ble_eq_true rfl⟩) ?_
  refine lv_aload_n hx hb dJ10_next_4 rfl (lv_at hl 0 rfl) ?_
  refine va_get (ci := 12) (v := .int (nI i)) (C := RJ10) (T := TJ10) (N := 4) hx hb hts in_J10 hown hG.K hP 0 rfl rfl 0 (by decide) (hts _ q317) (fun _ h9 => h9) rfl dJ10_next_5 ?_
  refine lv_istore_n (lv' := [(1, .int (nI i)), (0, .ref q)]) hx hb dJ10_next_8 rfl hl (by decide) rfl (fun ls hl => ?_)
  refine lv_iload_n hx hb dJ10_next_9 rfl (lv_at hl 0 rfl) ?_
  refine lv_aload_n hx hb dJ10_next_10 rfl (lv_at hl 1 rfl) ?_
  refine va_get (ci := 12) (v := .ref al) (C := RJ10) (T := TJ10) (N := 4) hx hb hts in_J10 hown hG.K hP 0 rfl rfl 3 (by decide) (hts _ q320) (fun _ h9 => h9) rfl dJ10_next_11 ?_
  refine va_getN (ci := 9) (v := .int (nI xs.length)) (C := RJ2) (T := TJ2) (N := 3) hx hb hts in_J2 hown hG.K hP 1 rfl rfl 2 (by decide) (nf_java_util_ArrayList_Itr_28 hG) (fun _ h9 => h9) rfl dJ10_next_14 ?_
  refine lv_icmp_lt (tgt := 28) hx hb dJ10_next_17 (by decide) (fun c9 => ?_) (fun c9 => absurd (nI_lt h1 h2) c9)
  refine lv_aload_n hx hb dJ10_next_28 rfl (lv_at hl 1 rfl) ?_
  refine va_get (ci := 12) (v := .ref al) (C := RJ10) (T := TJ10) (N := 4) hx hb hts in_J10 hown hG.K hP 0 rfl rfl 3 (by decide) (hts _ q320) (fun _ h9 => h9) rfl dJ10_next_29 ?_
  refine va_get (ci := 9) (v := .ref ar) (C := RJ2) (T := TJ2) (N := 3) hx hb hts in_J2 hown hG.K hP 1 rfl rfl 1 (by decide) (hts _ q133) (fun _ h9 => h9) rfl dJ10_next_32 ?_
  refine lv_astore_n (lv' := [(2, .ref ar), (1, .int (nI i)), (0, .ref q)]) hx hb dJ10_next_35 rfl hl (by decide) rfl (fun ls hl => ?_)
  refine lv_iload_n hx hb dJ10_next_36 rfl (lv_at hl 1 rfl) ?_
  refine lv_aload_n hx hb dJ10_next_37 rfl (lv_at hl 0 rfl) ?_
  refine va_alen (v := (Int32.ofNat cap)) hx hb hG.K hP 2 1 rfl rfl rfl dJ10_next_38 ?_
  refine lv_icmp_lt (tgt := 50) hx hb dJ10_next_39 (by decide) (fun c9 => ?_) (fun c9 => absurd (nI_lt (Nat.lt_of_lt_of_le h1 h3) h4) c9)
  refine lv_aload_n hx hb dJ10_next_50 rfl (lv_at hl 2 rfl) ?_
  refine lv_iload_n hx hb dJ10_next_51 rfl (lv_at hl 1 rfl) ?_
  refine lv_iconst (v := 1) hx hb dJ10_next_52 (by decide) ?_
  refine lv_iadd hx hb dJ10_next_53 ?_
  refine va_put (ci := 12) (v := .int ((nI i) + (1 : Int32))) (ty := .int) (C := RJ10) (T := TJ10) (N := 4) hx hb hts in_J10 tyJ10 tyJ10_ok nmJ10 hown hG.K hP hD hS 0 rfl rfl 0 (by decide) (hts _ q317) (fun _ h9 => h9) rfl (by decide +kernel) rfl rfl (Nat.le_of_ble_eq_true rfl) dJ10_next_54 (fun H locs hP hD hS => ?_)
  have hP : va_P (kD k) gCl ((q, .inr (12, [.int ((nI i) + (1 : Int32)), .int las, .int md, .ref al])) :: (al, .inr (9, [.int md, .ref ar, .int (nI xs.length)])) :: (ar, .inl (kO k, cap, .inr (.inr (.inr (.inr (fun j => xs[j]?)))))) :: fr) H := hP
  have hD : va_D (Ab k) ((q, .inr (12, [.int ((nI i) + (1 : Int32)), .int las, .int md, .ref al])) :: (al, .inr (9, [.int md, .ref ar, .int (nI xs.length)])) :: (ar, .inl (kO k, cap, .inr (.inr (.inr (.inr (fun j => xs[j]?)))))) :: fr) := hD
  refine lv_aload_n hx hb dJ10_next_57 rfl (lv_at hl 0 rfl) ?_
  refine lv_aload_n hx hb dJ10_next_58 rfl (lv_at hl 2 rfl) ?_
  refine lv_iload_n hx hb dJ10_next_59 rfl (lv_at hl 1 rfl) ?_
  refine lv_dup_x1 hx hb dJ10_next_60 rfl rfl ?_
  refine va_put (ci := 12) (v := .int (nI i)) (ty := .int) (C := RJ10) (T := TJ10) (N := 4) hx hb hts in_J10 tyJ10 tyJ10_ok nmJ10 hown hG.K hP hD hS 0 rfl rfl 1 (by decide) (hts _ q318) (fun _ h9 => h9) rfl (by decide +kernel) rfl rfl (Nat.le_of_ble_eq_true rfl) dJ10_next_61 (fun H locs hP hD hS => ?_)
  have hP : va_P (kD k) gCl ((q, .inr (12, [.int ((nI i) + (1 : Int32)), .int (nI i), .int md, .ref al])) :: (al, .inr (9, [.int md, .ref ar, .int (nI xs.length)])) :: (ar, .inl (kO k, cap, .inr (.inr (.inr (.inr (fun j => xs[j]?)))))) :: fr) H := hP
  have hD : va_D (Ab k) ((q, .inr (12, [.int ((nI i) + (1 : Int32)), .int (nI i), .int md, .ref al])) :: (al, .inr (9, [.int md, .ref ar, .int (nI xs.length)])) :: (ar, .inl (kO k, cap, .inr (.inr (.inr (.inr (fun j => xs[j]?)))))) :: fr) := hD
  refine va_aldq hx hb hG.K hP 2 1 rfl rfl (vp_in_nI (Nat.lt_of_lt_of_le h1 h3) h4) dJ10_next_64 ?_
  rw [nI_clamp (Nat.lt_trans h1 h2), hy]
  exact W.aret hx hb hr (Or.inl ⟨_, rfl⟩) (Or.inr ⟨_, rfl⟩) (fun t ht hW => c_retM (w := (q, .inr (12, [.int ((nI i) + (1 : Int32)), .int (nI i), .int md, .ref al])) :: (al, .inr (9, [.int md, .ref ar, .int (nI xs.length)])) :: (ar, .inl (kO k, cap, .inr (.inr (.inr (.inr (fun j => xs[j]?)))))) :: fr) ⟨rfl, by rw [nI_succ]⟩ hP hD hS ht) hS.2.2 dJ10_next_65
