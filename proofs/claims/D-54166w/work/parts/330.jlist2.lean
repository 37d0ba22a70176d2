/-! lists that grow (printed by wip/gen/gen_jl2.py) -/
theorem hd_J0_init : yJ0_init.cls ≠ "java/lang/invoke/MethodHandle" ∧ yJ0_init.cls ≠ "java/lang/invoke/VarHandle" ∧ (parseMethodDescriptor yJ0_init.desc).map (fun d => d.parameters.length) = some 0 := by decide +kernel
set_option maxHeartbeats 4000000 in
set_option maxRecDepth 100000 in
theorem met_J0_init {l : Launch} {q : Nat} : Met l yJ0_init (ws_ yJ0_init cJ0_init 1 none) ({ frames := 1, cells := 0, slots := 0, locals := 24 } : Room) (va_Pc [.ref q] (fun _ => True)) (QcV none) 0 0 (fun _ => False) := by
  refine va_MetF (cc := cJ0_init) (maxL := 1) (ret := none) (by decide +kernel) rfl ?_
  intro p e s m args below meth c s₁ B hml hv
  obtain ⟨rfl, -⟩ := hv
  have hx := B.exec
  have hb := B.bytes
  have hr := B.returns
  have hts := atoms_spec (ws := ws_ yJ0_init cJ0_init 1 none) B.pre
  have hts : ∀ w ∈ lw_all, w.before _ s = true := fun w h => hts w (List.mem_cons_of_mem _ h)
  have hown : s.vm.findClass RJ0 = some m.cls := findClass_of_methodNamed B.named
  have hlocks := B.notSynchronized
  have hl := lv_entry ([.ref q]) (n := 1) (Nat.le_of_ble_eq_true rfl)
  rw [lg_entry_eq]
  generalize (lg_sl ([.ref q]) ++ List.replicate (1 - (lg_sl ([.ref q])).length) Slot.unset).toArray = ls at hl ⊢
  have hl : lv_has ls 1 [(0, .ref q)] := hl
  refine lv_aload_n hx hb dJ0_init_0 rfl (lv_at hl 0 rfl) ?_
  refine W.objInit hx hb hown (hts _ q129) (hts _ q104) (hts _ q105) rfl (by rw [hml]; exact hl.1) rfl dJ0_init_1 (Nat.le_of_ble_eq_true rfl) (Nat.le_of_ble_eq_true rfl) ?_
  refine W.eq (g2 := F0 m 4 ls []) rfl ?_
  exact W.vret hx hb hr (fun t ht hW => c_ret ht) (fun q hq => absurd hq List.not_mem_nil) dJ0_init_4
theorem hd_J1_init : yJ1_init.cls ≠ "java/lang/invoke/MethodHandle" ∧ yJ1_init.cls ≠ "java/lang/invoke/VarHandle" ∧ (parseMethodDescriptor yJ1_init.desc).map (fun d => d.parameters.length) = some 0 := by decide +kernel
set_option maxHeartbeats 4000000 in
set_option maxRecDepth 100000 in
theorem met_J1_init {l : Launch} {k : Cx} {al : Nat} {md : Int32} {v1 v2 : Value} {fr : va_W} (hD : va_D (Ab k) ((al, .inr (9, [.int md, v1, v2])) :: fr)) : Met l yJ1_init (ws_ yJ1_init cJ1_init 1 none) ({ frames := 2, cells := 0, slots := 0, locals := 44 } : Room) (gPc [.ref al] k ((al, .inr (9, [.int md, v1, v2])) :: fr)) (QcM k (fun v w => v = none ∧ w = (al, .inr (9, [.int 0, v1, v2])) :: fr)) 0 0 (Ab k) := by
  refine va_MetF (cc := cJ1_init) (maxL := 1) (ret := none) (by decide +kernel) rfl ?_
  intro p e s m args below meth c s₁ B hml hv
  obtain ⟨rfl, hP, hG⟩ := hv
  have hx := B.exec
  have hb := B.bytes
  have hr := B.returns
  have hts := atoms_spec (ws := ws_ yJ1_init cJ1_init 1 none) B.pre
  have hts : ∀ w ∈ lw_all, w.before _ s = true := fun w h => hts w (List.mem_cons_of_mem _ h)
  have hown : s.vm.findClass RJ1 = some m.cls := findClass_of_methodNamed B.named
  have hlocks := B.notSynchronized
  have hl := lv_entry ([.ref al]) (n := 1) (Nat.le_of_ble_eq_true rfl)
  rw [lg_entry_eq]
  generalize (lg_sl ([.ref al]) ++ List.replicate (1 - (lg_sl ([.ref al])).length) Slot.unset).toArray = ls at hl ⊢
  have hl : lv_has ls 1 [(0, .ref al)] := hl
  have hS : va_S (Ab k) s.heap s.heap [] := va_S.rf
  refine lv_aload_n hx hb dJ1_init_0 rfl (lv_at hl 0 rfl) ?_
  refine c_call (va_runI (As := []) (rest := []) ⟨hx, hb, hml, hown, hts⟩ met_J0_init (cwI 0 hts (lw_meth q128) rfl rfl rfl (hts _ q69) (hts _ q126) (hts _ q127) rfl hd_J0_init ⟨Nat.le_of_ble_eq_true rfl, Nat.le_of_ble_eq_true rfl⟩) m_preS rfl rfl hl.1 rfl (lv_room (Nat.le_of_ble_eq_true rfl)) dJ1_init_1 ⟨Nat.le_of_ble_eq_true rfl, Nat.le_of_ble_eq_true rfl⟩) ?_
  refine lv_aload_n hx hb dJ1_init_4 rfl (lv_at hl 0 rfl) ?_
  refine lv_iconst (v := 0) hx hb dJ1_init_5 (by decide) ?_
  refine va_put (ci := 9) (v := .int (0 : Int32)) (ty := .int) (C := RJ2) (T := TJ2) (N := 3) hx hb hts in_J2 tyJ2 tyJ2_ok nmJ2 hown hG.K hP hD hS 0 rfl rfl 0 (by decide) (hts _ q136) (fun _ h9 => h9) rfl (by decide +kernel) rfl rfl (Nat.le_of_ble_eq_true rfl) dJ1_init_6 (fun H locs hP hD hS => ?_)
  have hP : va_P (kD k) gCl ((al, .inr (9, [.int (0 : Int32), v1, v2])) :: fr) H := hP
  have hD : va_D (Ab k) ((al, .inr (9, [.int (0 : Int32), v1, v2])) :: fr) := hD
  exact W.vret hx hb hr (fun t ht hW => c_retM (w := (al, .inr (9, [.int (0 : Int32), v1, v2])) :: fr) ⟨rfl, rfl⟩ hP hD hS ht) hS.2.2 dJ1_init_9
theorem hd_J2_init : yJ2_init.cls ≠ "java/lang/invoke/MethodHandle" ∧ yJ2_init.cls ≠ "java/lang/invoke/VarHandle" ∧ (parseMethodDescriptor yJ2_init.desc).map (fun d => d.parameters.length) = some 0 := by decide +kernel
set_option maxHeartbeats 4000000 in
set_option maxRecDepth 100000 in
theorem met_J2_init {l : Launch} {k : Cx} {al : Nat} {fr : va_W} (hD : va_D (Ab k) ((al, .inr (9, [.int 0, .null, .int 0])) :: fr)) : Met l yJ2_init (ws_ yJ2_init cJ2_init 1 none) ({ frames := 3, cells := 0, slots := 0, locals := 64 } : Room) (gPc [.ref al] k ((al, .inr (9, [.int 0, .null, .int 0])) :: fr)) (QcM k (fun v w => v = none ∧ w = lsO al (ke k) 0 [] :: fr)) 0 0 (Ab k) := by
  refine va_MetF (cc := cJ2_init) (maxL := 1) (ret := none) (by decide +kernel) rfl ?_
  intro p e s m args below meth c s₁ B hml hv
  obtain ⟨rfl, hP, hG⟩ := hv
  have hx := B.exec
  have hb := B.bytes
  have hr := B.returns
  have hts := atoms_spec (ws := ws_ yJ2_init cJ2_init 1 none) B.pre
  have hts : ∀ w ∈ lw_all, w.before _ s = true := fun w h => hts w (List.mem_cons_of_mem _ h)
  have hown : s.vm.findClass RJ2 = some m.cls := findClass_of_methodNamed B.named
  have hlocks := B.notSynchronized
  have hl := lv_entry ([.ref al]) (n := 1) (Nat.le_of_ble_eq_true rfl)
  rw [lg_entry_eq]
  generalize (lg_sl ([.ref al]) ++ List.replicate (1 - (lg_sl ([.ref al])).length) Slot.unset).toArray = ls at hl ⊢
  have hl : lv_has ls 1 [(0, .ref al)] := hl
  have hS : va_S (Ab k) s.heap s.heap [] := va_S.rf
  refine lv_aload_n hx hb dJ2_init_0 rfl (lv_at hl 0 rfl) ?_
  refine c_callM (va_runI (As := []) (rest := []) ⟨hx, hb, hml, hown, hts⟩ (met_J1_init hD) (cwI 0 hts (lw_meth q125) rfl rfl rfl (hts _ q70) (hts _ q123) (hts _ q124) rfl hd_J1_init ⟨Nat.le_of_ble_eq_true rfl, Nat.le_of_ble_eq_true rfl⟩) (g_preS hG hS hP) rfl rfl hl.1 rfl (lv_room (Nat.le_of_ble_eq_true rfl)) dJ2_init_1 ⟨Nat.le_of_ble_eq_true rfl, Nat.le_of_ble_eq_true rfl⟩) hS (fun v w H locs hp hP hD hS => ?_)
  obtain ⟨rfl, rfl⟩ := hp
  have hP : va_P (kD k) gCl ((al, .inr (9, [.int 0, .null, .int 0])) :: fr) H := hP
  have hD : va_D (Ab k) ((al, .inr (9, [.int 0, .null, .int 0])) :: fr) := hD
  refine lv_aload_n hx hb dJ2_init_4 rfl (lv_at hl 0 rfl) ?_
  refine va_gets hx hb hG.e hS hown (hts _ q130) (fun _ h9 => h9) dJ2_init_5 ?_
  refine va_put (ci := 9) (v := .ref (ke k)) (ty := (tyJ2 1)) (C := RJ2) (T := TJ2) (N := 3) hx hb hts in_J2 tyJ2 tyJ2_ok nmJ2 hown hG.K hP hD hS 0 rfl rfl 1 (by decide) (hts _ q132) (fun _ h9 => h9) rfl (by decide +kernel) rfl rfl (Nat.le_of_ble_eq_true rfl) dJ2_init_8 (fun H locs hP hD hS => ?_)
  have hP : va_P (kD k) gCl ((al, .inr (9, [.int 0, .ref (ke k), .int 0])) :: fr) H := hP
  have hD : va_D (Ab k) ((al, .inr (9, [.int 0, .ref (ke k), .int 0])) :: fr) := hD
  exact W.vret hx hb hr (fun t ht hW => c_retM (w := (al, .inr (9, [.int 0, .ref (ke k), .int 0])) :: fr) ⟨rfl, rfl⟩ hP hD hS ht) hS.2.2 dJ2_init_11
theorem hd_J11_newLength : yJ11_newLength.cls ≠ "java/lang/invoke/MethodHandle" ∧ yJ11_newLength.cls ≠ "java/lang/invoke/VarHandle" ∧ (parseMethodDescriptor yJ11_newLength.desc).map (fun d => d.parameters.length) = some 3 := by decide +kernel
set_option maxHeartbeats 4000000 in
set_option maxRecDepth 100000 in
theorem met_J11_newLength {l : Launch} {x y z r : Int32} (hr1 : x + (if y < z then z else y) = r) (h1 : ¬ r ≤ 0) (h2 : ¬ (2147483639 : Int32) < r) : Met l yJ11_newLength (ws_ yJ11_newLength cJ11_newLength 4 (some .int)) ({ frames := 1, cells := 0, slots := 0, locals := 24 } : Room) (va_Pc [.int x, .int y, .int z] (fun _ => True)) (QcV (some (.int r))) 0 0 (fun _ => False) := by
  refine va_MetF (cc := cJ11_newLength) (maxL := 4) (ret := (some .int)) (by decide +kernel) rfl ?_
  intro p e s m args below meth c s₁ B hml hv
  obtain ⟨rfl, -⟩ := hv
  have hx := B.exec
  have hb := B.bytes
  have hr := B.returns
  have hts := atoms_spec (ws := ws_ yJ11_newLength cJ11_newLength 4 (some .int)) B.pre
  have hts : ∀ w ∈ lw_all, w.before _ s = true := fun w h => hts w (List.mem_cons_of_mem _ h)
  have hown : s.vm.findClass RJ11 = some m.cls := findClass_of_methodNamed B.named
  have hlocks := B.notSynchronized
  have hl := lv_entry ([.int x, .int y, .int z]) (n := 4) (Nat.le_of_ble_eq_true rfl)
  rw [lg_entry_eq]
  generalize (lg_sl ([.int x, .int y, .int z]) ++ List.replicate (4 - (lg_sl ([.int x, .int y, .int z])).length) Slot.unset).toArray = ls at hl ⊢
  have hl : lv_has ls 4 [(0, .int x), (1, .int y), (2, .int z)] := hl
  refine lv_iload_n hx hb dJ11_newLength_0 rfl (lv_at hl 0 rfl) ?_
  refine lv_iload_n hx hb dJ11_newLength_1 rfl (lv_at hl 1 rfl) ?_
  refine lv_iload_n hx hb dJ11_newLength_2 rfl (lv_at hl 2 rfl) ?_
  refine va_mmax hx hb (hml.trans hl.1.symm) hown (hts _ q373) (hts _ q374) (hts _ q83) (hts _ q375) (Nat.le_of_ble_eq_true rfl) (Nat.le_of_ble_eq_true rfl) (Nat.le_of_ble_eq_true rfl) (Nat.le_of_ble_eq_true rfl) dJ11_newLength_3 ?_
  refine lv_iadd hx hb dJ11_newLength_6 ?_
  rw [hr1]
  refine lv_istore_n (lv' := [(3, .int r), (0, .int x), (1, .int y), (2, .int z)]) hx hb dJ11_newLength_7 rfl hl (by decide) rfl (fun ls hl => ?_)
  refine lv_iconst (v := 0) hx hb dJ11_newLength_8 (by decide) ?_
  refine lv_iload_n hx hb dJ11_newLength_9 rfl (lv_at hl 0 rfl) ?_
  refine lv_icmp_ge (tgt := 21) hx hb dJ11_newLength_10 (by decide) (fun c9 => absurd c9 h1) (fun c9 => ?_)
  refine lv_iload_n hx hb dJ11_newLength_13 rfl (lv_at hl 0 rfl) ?_
  refine lv_ldc hx hb hown (hts _ q376) dJ11_newLength_14 ?_
  refine lv_icmp_gt (tgt := 21) hx hb dJ11_newLength_16 (by decide) (fun c9 => absurd c9 h2) (fun c9 => ?_)
  refine lv_iload_n hx hb dJ11_newLength_19 rfl (lv_at hl 0 rfl) ?_
  exact W.iret hx hb hr (fun t ht hW => c_ret ht) (fun q hq => absurd hq List.not_mem_nil) dJ11_newLength_20
theorem hd_J13_copyOf_2 : yJ13_copyOf_2.cls ≠ "java/lang/invoke/MethodHandle" ∧ yJ13_copyOf_2.cls ≠ "java/lang/invoke/VarHandle" ∧ (parseMethodDescriptor yJ13_copyOf_2.desc).map (fun d => d.parameters.length) = some 3 := by decide +kernel
set_option maxHeartbeats 4000000 in
set_option maxRecDepth 100000 in
theorem met_J13_copyOf_2 {l : Launch} {k : Cx} {ar cap n : Nat} {xs : List Nat} {fr : va_W} (h1 : xs.length ≤ cap) (h2 : cap ≤ n) (h3 : n ≤ 30) (hE : ∀ y ∈ xs, Sto k fr y) (hD : va_D (Ab k) ((ar, .inl (kO k, cap, .inr (.inr (.inr (.inr (fun i => xs[i]?)))))) :: fr)) : Met l yJ13_copyOf_2 (ws_ yJ13_copyOf_2 cJ13_copyOf_2 4 (Option.some (Jvm.ClassFile.FieldType.array (Jvm.ClassFile.FieldType.object "java/lang/Object")))) ({ frames := 1, cells := 1, slots := 30, locals := 40 } : Room) (gPc [.ref ar, .int (nI n), .ref (km k)] k ((ar, .inl (kO k, cap, .inr (.inr (.inr (.inr (fun i => xs[i]?)))))) :: fr)) (QcM k (fun v w => ∃ q, v = some (.ref q) ∧ w = rA k q n xs :: rA k ar cap xs :: fr)) 1 30 (Ab k) := by
  refine va_MetF (cc := cJ13_copyOf_2) (maxL := 4) (ret := (Option.some (Jvm.ClassFile.FieldType.array (Jvm.ClassFile.FieldType.object "java/lang/Object")))) (by decide +kernel) rfl ?_
  intro p e s m args below meth c s₁ B hml hv
  obtain ⟨rfl, hP, hG⟩ := hv
  have hx := B.exec
  have hb := B.bytes
  have hr := B.returns
  have hts := atoms_spec (ws := ws_ yJ13_copyOf_2 cJ13_copyOf_2 4 (Option.some (Jvm.ClassFile.FieldType.array (Jvm.ClassFile.FieldType.object "java/lang/Object")))) B.pre
  have hts : ∀ w ∈ lw_all, w.before _ s = true := fun w h => hts w (List.mem_cons_of_mem _ h)
  have hown : s.vm.findClass RJ13 = some m.cls := findClass_of_methodNamed B.named
  have hlocks := B.notSynchronized
  have hl := lv_entry ([.ref ar, .int (nI n), .ref (km k)]) (n := 4) (Nat.le_of_ble_eq_true rfl)
  rw [lg_entry_eq]
  generalize (lg_sl ([.ref ar, .int (nI n), .ref (km k)]) ++ List.replicate (4 - (lg_sl ([.ref ar, .int (nI n), .ref (km k)])).length) Slot.unset).toArray = ls at hl ⊢
  have hl : lv_has ls 4 [(0, .ref ar), (1, .int (nI n)), (2, .ref (km k))] := hl
  have hS : va_S (Ab k) s.heap s.heap [] := va_S.rf
  refine lv_aload_n hx hb dJ13_copyOf_2_0 rfl (lv_at hl 2 rfl) ?_
  refine va_ldcM hx hb hown (hts _ q404) hG.m dJ13_copyOf_2_1 ?_
  refine lv_acmp_ne (rx := some (km k)) (ry := some (km k)) (tgt := 13) hx hb dJ13_copyOf_2_3 (by decide) (fun c9 => absurd rfl c9) (fun c9 => ?_)
  refine lv_iload_n hx hb dJ13_copyOf_2_6 rfl (lv_at hl 1 rfl) ?_
  refine va_newq (n := nI n) (N' := n) hx hb hown (hts _ q405) hG.o1 hG.K hP hD hS hG.A (nI_pos (by omega)) (nI_clamp (by omega)) (by omega) (Nat.le_of_ble_eq_true rfl) (by show _ ≤ 30; omega) dJ13_copyOf_2_7 (fun q1 cA H hK1 hP hD hS => ?_)
  have eA := kO_eq hG hK1
  subst eA
  have hP := hP.rot
  have hD := hD.rot
  have hP : va_P (kD k) gCl ((q1, .inl (kO k, n, .inr (.inr (.inr (.inr (fun _ => none)))))) :: (ar, .inl (kO k, cap, .inr (.inr (.inr (.inr (fun i => xs[i]?)))))) :: fr) H := hP
  have hD : va_D (Ab k) ((q1, .inl (kO k, n, .inr (.inr (.inr (.inr (fun _ => none)))))) :: (ar, .inl (kO k, cap, .inr (.inr (.inr (.inr (fun i => xs[i]?)))))) :: fr) := hD
  refine lv_goto (tgt := 24) hx hb dJ13_copyOf_2_10 (by decide) ?_
  refine lv_astore_n (lv' := [(3, .ref q1), (0, .ref ar), (1, .int (nI n)), (2, .ref (km k))]) hx hb dJ13_copyOf_2_24 rfl hl (by decide) rfl (fun ls hl => ?_)
  refine lv_aload_n hx hb dJ13_copyOf_2_25 rfl (lv_at hl 1 rfl) ?_
  refine lv_iconst (v := 0) hx hb dJ13_copyOf_2_26 (by decide) ?_
  refine lv_aload_n hx hb dJ13_copyOf_2_27 rfl (lv_at hl 0 rfl) ?_
  refine lv_iconst (v := 0) hx hb dJ13_copyOf_2_28 (by decide) ?_
  refine lv_aload_n hx hb dJ13_copyOf_2_29 rfl (lv_at hl 1 rfl) ?_
  refine va_alen (v := nI cap) hx hb hG.K hP 1 1 rfl rfl rfl dJ13_copyOf_2_30 ?_
  refine lv_iload_n hx hb dJ13_copyOf_2_31 rfl (lv_at hl 2 rfl) ?_
  refine va_mmin hx hb (hml.trans hl.1.symm) hown (hts _ q406) (hts _ q407) (hts _ q83) (hts _ q408) (Nat.le_of_ble_eq_true rfl) (Nat.le_of_ble_eq_true rfl) (Nat.le_of_ble_eq_true rfl) (by show _ ≤ 30; omega) dJ13_copyOf_2_32 ?_
  rw [show (if nI n < nI cap then nI n else nI cap) = nI cap from by rw [if_neg (by rw [nI_ltI (by omega) (by omega)]; omega)]]
  refine va_copyM hx hb (hml.trans hl.1.symm) hown (hts _ q409) (hts _ q411) (hts _ q410) (hts _ q85) hG.K hP hD hS 1 0 1 1 rfl rfl rfl rfl (by decide) (by decide) (nI_pos (by omega)) (by rw [nI_clamp (by omega)]; show 0 + cap ≤ cap; omega) (by rw [nI_clamp (by omega)]; show 0 + cap ≤ n; omega) (fun i hi y hy => sto_any (hE y (List.mem_of_getElem? hy)) hG hS hP (fun q hq => List.mem_cons_of_mem _ (List.mem_cons_of_mem _ hq))) (Nat.le_of_ble_eq_true rfl) (Nat.le_of_ble_eq_true rfl) dJ13_copyOf_2_35 (fun H locs hP hD hS => ?_)
  rw [nI_clamp (show cap < 2 ^ 31 by omega)] at hP hD
  have hP := hP
  rw [show (0 : Int32).toNatClampNeg = 0 from rfl, cpy_all h1] at hP hD
  have hP : va_P (kD k) gCl ((q1, .inl (kO k, n, .inr (.inr (.inr (.inr (fun i => xs[i]?)))))) :: (ar, .inl (kO k, cap, .inr (.inr (.inr (.inr (fun i => xs[i]?)))))) :: fr) H := hP
  have hD : va_D (Ab k) ((q1, .inl (kO k, n, .inr (.inr (.inr (.inr (fun i => xs[i]?)))))) :: (ar, .inl (kO k, cap, .inr (.inr (.inr (.inr (fun i => xs[i]?)))))) :: fr) := hD
  refine lv_aload_n hx hb dJ13_copyOf_2_38 rfl (lv_at hl 0 rfl) ?_
  refine W.widen (k := 1) (n := 30) (Nat.le_of_ble_eq_true rfl) (by omega) ?_
  exact W.aret hx hb hr (Or.inr ⟨_, rfl⟩) (Or.inr ⟨_, rfl⟩) (fun t ht hW => c_retM (w := (q1, .inl (kO k, n, .inr (.inr (.inr (.inr (fun i => xs[i]?)))))) :: (ar, .inl (kO k, cap, .inr (.inr (.inr (.inr (fun i => xs[i]?)))))) :: fr) ⟨_, rfl, rfl⟩ hP hD hS ht) hS.2.2 dJ13_copyOf_2_39
theorem hd_J13_copyOf : yJ13_copyOf.cls ≠ "java/lang/invoke/MethodHandle" ∧ yJ13_copyOf.cls ≠ "java/lang/invoke/VarHandle" ∧ (parseMethodDescriptor yJ13_copyOf.desc).map (fun d => d.parameters.length) = some 2 := by decide +kernel
set_option maxHeartbeats 4000000 in
set_option maxRecDepth 100000 in
theorem met_J13_copyOf {l : Launch} {k : Cx} {ar cap n : Nat} {xs : List Nat} {fr : va_W} (h1 : xs.length ≤ cap) (h2 : cap ≤ n) (h3 : n ≤ 30) (hE : ∀ y ∈ xs, Sto k fr y) (hD : va_D (Ab k) ((ar, .inl (kO k, cap, .inr (.inr (.inr (.inr (fun i => xs[i]?)))))) :: fr)) : Met l yJ13_copyOf (ws_ yJ13_copyOf cJ13_copyOf 2 (Option.some (Jvm.ClassFile.FieldType.array (Jvm.ClassFile.FieldType.object "java/lang/Object")))) ({ frames := 2, cells := 1, slots := 30, locals := 63 } : Room) (gPc [.ref ar, .int (nI n)] k ((ar, .inl (kO k, cap, .inr (.inr (.inr (.inr (fun i => xs[i]?)))))) :: fr)) (QcM k (fun v w => ∃ q, v = some (.ref q) ∧ w = rA k q n xs :: rA k ar cap xs :: fr)) 1 30 (Ab k) := by
  refine va_MetF (cc := cJ13_copyOf) (maxL := 2) (ret := (Option.some (Jvm.ClassFile.FieldType.array (Jvm.ClassFile.FieldType.object "java/lang/Object")))) (by decide +kernel) rfl ?_
  intro p e s m args below meth c s₁ B hml hv
  obtain ⟨rfl, hP, hG⟩ := hv
  have hx := B.exec
  have hb := B.bytes
  have hr := B.returns
  have hts := atoms_spec (ws := ws_ yJ13_copyOf cJ13_copyOf 2 (Option.some (Jvm.ClassFile.FieldType.array (Jvm.ClassFile.FieldType.object "java/lang/Object")))) B.pre
  have hts : ∀ w ∈ lw_all, w.before _ s = true := fun w h => hts w (List.mem_cons_of_mem _ h)
  have hown : s.vm.findClass RJ13 = some m.cls := findClass_of_methodNamed B.named
  have hlocks := B.notSynchronized
  have hl := lv_entry ([.ref ar, .int (nI n)]) (n := 2) (Nat.le_of_ble_eq_true rfl)
  rw [lg_entry_eq]
  generalize (lg_sl ([.ref ar, .int (nI n)]) ++ List.replicate (2 - (lg_sl ([.ref ar, .int (nI n)])).length) Slot.unset).toArray = ls at hl ⊢
  have hl : lv_has ls 2 [(0, .ref ar), (1, .int (nI n))] := hl
  have hS : va_S (Ab k) s.heap s.heap [] := va_S.rf
  refine lv_aload_n hx hb dJ13_copyOf_0 rfl (lv_at hl 0 rfl) ?_
  refine lv_iload_n hx hb dJ13_copyOf_1 rfl (lv_at hl 1 rfl) ?_
  refine lv_aload_n hx hb dJ13_copyOf_2 rfl (lv_at hl 0 rfl) ?_
  refine va_getC hx hb (hml.trans hl.1.symm) hown (hts _ q383) ((nd_java_lang_Object_getClass_5 hG).use rfl) (hts _ q1646) (hts _ q384) (hts _ q400) hG.m (kO_recv (q0 := 0) hG hP rfl) (Nat.le_of_ble_eq_true rfl) (Nat.le_of_ble_eq_true rfl) dJ13_copyOf_3 ?_
  refine c_callM (va_runS (As := [.ref ar, .int (nI n), .ref (km k)]) (rest := []) ⟨hx, hb, hml, hown, hts⟩ (met_J13_copyOf_2 h1 h2 h3 hE hD) (va_cwS 3 hts (lw_S q401 q402 q84 q403) rfl rfl rfl hd_J13_copyOf_2 ⟨Nat.le_of_ble_eq_true rfl, Nat.le_of_ble_eq_true rfl⟩) (g_preS hG hS hP) rfl rfl hl.1 rfl (lv_room (Nat.le_of_ble_eq_true rfl)) dJ13_copyOf_6 ⟨Nat.le_of_ble_eq_true rfl, Nat.le_of_ble_eq_true rfl⟩) hS (fun v w H locs hp hP hD hS => ?_)
  obtain ⟨q1, rfl, rfl⟩ := hp
  have hP : va_P (kD k) gCl ((q1, .inl (kO k, n, .inr (.inr (.inr (.inr (fun i => xs[i]?)))))) :: (ar, .inl (kO k, cap, .inr (.inr (.inr (.inr (fun i => xs[i]?)))))) :: fr) H := hP
  have hD : va_D (Ab k) ((q1, .inl (kO k, n, .inr (.inr (.inr (.inr (fun i => xs[i]?)))))) :: (ar, .inl (kO k, cap, .inr (.inr (.inr (.inr (fun i => xs[i]?)))))) :: fr) := hD
  refine W.widen (k := 1) (n := 30) (Nat.le_of_ble_eq_true rfl) (Nat.le_of_ble_eq_true rfl) ?_
  exact W.aret hx hb hr (Or.inr ⟨_, rfl⟩) (Or.inr ⟨_, rfl⟩) (fun t ht hW => c_retM (w := (q1, .inl (kO k, n, .inr (.inr (.inr (.inr (fun i => xs[i]?)))))) :: (ar, .inl (kO k, cap, .inr (.inr (.inr (.inr (fun i => xs[i]?)))))) :: fr) ⟨_, rfl, rfl⟩ hP hD hS ht) hS.2.2 dJ13_copyOf_9
