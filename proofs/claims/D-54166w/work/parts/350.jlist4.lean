/-! lists: add, insert, remove (printed by wip/gen/gen_jl4.py) -/
theorem Met.room {l : Launch} {y : MethodName} {ws : List Cond} {rm rm2 : Room} {Pc : Array Value → State → Prop} {Qc : Array Value → State → Outcome → State → Prop} {mc ms mc2 ms2 : Nat} {free : Addr → Prop} (h : Met l y ws rm Pc Qc mc ms free) (hf : rm.frames ≤ rm2.frames) (hl : rm.locals ≤ rm2.locals) (hc : rm.cells ≤ rm2.cells) (hs : rm.slots ≤ rm2.slots) (h1 : mc ≤ mc2) (h2 : ms ≤ ms2) : Met l y ws rm2 Pc Qc mc2 ms2 free := by
  intro p e ha hcs hk s m args below hfr happ hP hK
  obtain ⟨a1, a2, a3, a4, a5, a6, a7, a8⟩ := (Spec.appliesLoose_iff hfr).mp happ
  have a9 : s.hasRoom e.platform rm = true := by
    have a7 : s.hasRoom e.platform rm2 = true := a7
    simp only [State.hasRoom, Bool.and_eq_true, decide_eq_true_eq] at a7 ⊢
    obtain ⟨⟨⟨⟨y, a, b, c, d, e⟩, f⟩, g⟩, i⟩ := a7
    exact ⟨⟨⟨⟨by omega, by omega, by omega, by omega, by omega, e⟩, by omega⟩, by omega⟩, i⟩
  obtain ⟨n, o, b1, b2, b3, b4, L, ⟨b5, b6, b7⟩, b8⟩ := h p e ha hcs hk s m args below hfr ((Spec.appliesLoose_iff hfr).mpr ⟨a1, a2, a3, a4, a5, a6, a9, a8⟩) hP hK
  exact ⟨n, o, b1, b2, b3, b4, L, ⟨b5, b6, b7.mono h1 h2⟩, b8⟩
theorem lsA_ne {k : Cx} {ar cap : Nat} {xs : List Nat} (h : cap ≠ 0) : lsA k ar cap xs = [rA k ar cap xs] := by unfold lsA; rw [if_neg h]
theorem lsA_0 {k : Cx} {ar : Nat} {xs : List Nat} : lsA k ar 0 xs = [] := by unfold lsA; rw [if_pos rfl]
theorem ls_alen {p : Program} {l : Launch} {e : Env} {R : Room} {s : State} {m : MethodId} {args : Array Value} {below : List Frame} {meth : Method} {c : Code} {H : Heap} {locs : List Loc} {cells slots : Nat} {Q : State → Prop} {pc : Nat} {ls : Array Slot} {rest : List Value} {cc : ByteArray} {k : Cx} {ar cap : Nat} {xs : List Nat} (hx : p.tables.exec = Jvm.exec) (hb : c.code = cc) (hG : GU k s) (hS : va_S (Ab k) s.heap H locs) (hO : lsOk k ar cap xs) (hP : va_P (kD k) gCl (lsA k ar cap xs) H) (hdg : decode cc pc = .ok (.arraylength, 1)) (kk : W p l e R s m args below meth c H locs cells slots Q (F0 m (pc + 1) ls (.int (nI cap) :: rest))) : W p l e R s m args below meth c H locs cells slots Q (F0 m pc ls (.ref ar :: rest)) := by
  by_cases h0 : cap = 0
  · subst h0
    rw [hO.2.2.1 rfl]
    exact va_tlen (v := nI 0) hx hb hG.eT hS rfl hdg kk
  · rw [lsA_ne h0] at hP
    exact va_alen (v := nI cap) hx hb hG.K hP 0 1 rfl rfl rfl hdg kk
theorem met_J2_grow_2 {l : Launch} {k : Cx} {al ar cap : Nat} {md : Int32} {xs : List Nat} {fr : va_W} (hO : lsOk k ar cap xs) (hc : xs.length = cap) (h2 : cap ≤ 20) (hE : ∀ y ∈ xs, Sto k fr y) (hD : va_D (Ab k) (lsO al ar md xs :: (lsA k ar cap xs ++ fr))) : Met l yJ2_grow_2 (ws_ yJ2_grow_2 cJ2_grow_2 4 (Option.some (Jvm.ClassFile.FieldType.array (Jvm.ClassFile.FieldType.object "java/lang/Object")))) ({ frames := 3, cells := 1, slots := 30, locals := 84 } : Room) (gPc [.ref al, .int (nI (cap + 1))] k (lsO al ar md xs :: (lsA k ar cap xs ++ fr))) (QcM k (fun v w => ∃ q cap2, v = some (.ref q) ∧ cap < cap2 ∧ cap2 ≤ 30 ∧ w = lsO al q md xs :: rA k q cap2 xs :: fr)) 1 30 (Ab k) := by
  by_cases h0 : cap = 0
  · subst h0
    have e1 : xs = [] := List.eq_nil_of_length_eq_zero hc
    subst e1
    have e2 := hO.2.2.1 rfl
    subst e2
    rw [lsA_0] at hD ⊢
    refine ((met_growA hD).room (Nat.le_of_ble_eq_true rfl) (Nat.le_of_ble_eq_true rfl) (Nat.le_of_ble_eq_true rfl) (Nat.le_of_ble_eq_true rfl) (Nat.le_of_ble_eq_true rfl) (Nat.le_of_ble_eq_true rfl)).conseq (fun _ _ h => h) (fun _ _ _ _ _ h => QcM_perm (fun v w h => ?_) h)
    obtain ⟨q, h1, rfl⟩ := h
    exact ⟨_, List.Perm.refl _, q, 10, h1, by omega, by omega, rfl⟩
  · rw [lsA_ne h0] at hD ⊢
    exact (met_growB hc (by omega) h2 hE hD).room (Nat.le_of_ble_eq_true rfl) (Nat.le_of_ble_eq_true rfl) (Nat.le_of_ble_eq_true rfl) (Nat.le_of_ble_eq_true rfl) (Nat.le_of_ble_eq_true rfl) (Nat.le_of_ble_eq_true rfl)
theorem hd_J2_grow : yJ2_grow.cls ≠ "java/lang/invoke/MethodHandle" ∧ yJ2_grow.cls ≠ "java/lang/invoke/VarHandle" ∧ (parseMethodDescriptor yJ2_grow.desc).map (fun d => d.parameters.length) = some 0 := by decide +kernel
set_option maxHeartbeats 4000000 in
set_option maxRecDepth 100000 in
theorem met_J2_grow {l : Launch} {k : Cx} {al ar cap : Nat} {md : Int32} {xs : List Nat} {fr : va_W} (hO : lsOk k ar cap xs) (hc : xs.length = cap) (h2 : cap ≤ 20) (hE : ∀ y ∈ xs, Sto k fr y) (hD : va_D (Ab k) ((al, .inr (9, [.int md, .ref ar, .int (nI xs.length)])) :: (lsA k ar cap xs ++ fr))) : Met l yJ2_grow (ws_ yJ2_grow cJ2_grow 1 (Option.some (Jvm.ClassFile.FieldType.array (Jvm.ClassFile.FieldType.object "java/lang/Object")))) ({ frames := 4, cells := 1, slots := 30, locals := 107 } : Room) (gPc [.ref al] k ((al, .inr (9, [.int md, .ref ar, .int (nI xs.length)])) :: (lsA k ar cap xs ++ fr))) (QcM k (fun v w => ∃ q cap2, v = some (.ref q) ∧ cap < cap2 ∧ cap2 ≤ 30 ∧ w = lsO al q md xs :: rA k q cap2 xs :: fr)) 1 30 (Ab k) := by
  refine va_MetF (cc := cJ2_grow) (maxL := 1) (ret := (Option.some (Jvm.ClassFile.FieldType.array (Jvm.ClassFile.FieldType.object "java/lang/Object")))) (by decide +kernel) rfl ?_
  intro p e s m args below meth c s₁ B hml hv
  obtain ⟨rfl, hP, hG⟩ := hv
  have hx := B.exec
  have hb := B.bytes
  have hr := B.returns
  have hts := atoms_spec (ws := ws_ yJ2_grow cJ2_grow 1 (Option.some (Jvm.ClassFile.FieldType.array (Jvm.ClassFile.FieldType.object "java/lang/Object")))) B.pre
  have hts : ∀ w ∈ lw_all, w.before _ s = true := fun w h => hts w (List.mem_cons_of_mem _ h)
  have hown : s.vm.findClass RJ2 = some m.cls := findClass_of_methodNamed B.named
  have hlocks := B.notSynchronized
  have hl := lv_entry ([.ref al]) (n := 1) (Nat.le_of_ble_eq_true rfl)
  rw [lg_entry_eq]
  generalize (lg_sl ([.ref al]) ++ List.replicate (1 - (lg_sl ([.ref al])).length) Slot.unset).toArray = ls at hl ⊢
  have hl : lv_has ls 1 [(0, .ref al)] := hl
  have hS : va_S (Ab k) s.heap s.heap [] := va_S.rf
  refine lv_aload_n hx hb dJ2_grow_0 rfl (lv_at hl 0 rfl) ?_
  refine lv_aload_n hx hb dJ2_grow_1 rfl (lv_at hl 0 rfl) ?_
  refine va_get (ci := 9) (v := .int (nI xs.length)) (C := RJ2) (T := TJ2) (N := 3) hx hb hts in_J2 hown hG.K hP 0 rfl rfl 2 (by decide) (hts _ q135) (fun _ h9 => h9) rfl dJ2_grow_2 ?_
  refine lv_iconst (v := 1) hx hb dJ2_grow_5 (by decide) ?_
  refine lv_iadd hx hb dJ2_grow_6 ?_
  rw [show nI xs.length + (1 : Int32) = nI (cap + 1) from by rw [hc, nI_succ]]
  refine c_callM (va_runV (As := [.int (nI (cap + 1))]) (rest := []) ⟨hx, hb, hml, hown, hts⟩ (met_J2_grow_2 hO hc h2 hE hD) (cwV 1 hts (lw_V q366 q368 qs3 q71 q369) rfl rfl rfl ⟨rfl, hd_J2_grow_2⟩ ⟨Nat.le_of_ble_eq_true rfl, Nat.le_of_ble_eq_true rfl⟩) (g_preV hG hS hP (va_recv hG.K hP (ci := 9) (q0 := 0) rfl rfl)) rfl rfl hl.1 rfl (lv_room (Nat.le_of_ble_eq_true rfl)) dJ2_grow_7 ⟨Nat.le_of_ble_eq_true rfl, Nat.le_of_ble_eq_true rfl⟩) hS (fun v w H locs hp hP hD hS => ?_)
  obtain ⟨q1, cap2, rfl, g1, g2, rfl⟩ := hp
  have hP : va_P (kD k) gCl ((al, .inr (9, [.int md, .ref q1, .int (nI xs.length)])) :: (q1, .inl (kO k, cap2, .inr (.inr (.inr (.inr (fun i => xs[i]?)))))) :: fr) H := hP
  have hD : va_D (Ab k) ((al, .inr (9, [.int md, .ref q1, .int (nI xs.length)])) :: (q1, .inl (kO k, cap2, .inr (.inr (.inr (.inr (fun i => xs[i]?)))))) :: fr) := hD
  refine W.widen (k := 1) (n := 30) (Nat.le_of_ble_eq_true rfl) (Nat.le_of_ble_eq_true rfl) ?_
  exact W.aret hx hb hr (Or.inr ⟨_, rfl⟩) (Or.inr ⟨_, rfl⟩) (fun t ht hW => c_retM (w := (al, .inr (9, [.int md, .ref q1, .int (nI xs.length)])) :: (q1, .inl (kO k, cap2, .inr (.inr (.inr (.inr (fun i => xs[i]?)))))) :: fr) ⟨_, _, rfl, g1, g2, rfl⟩ hP hD hS ht) hS.2.2 dJ2_grow_10
theorem hd_J2_add_2 : yJ2_add_2.cls ≠ "java/lang/invoke/MethodHandle" ∧ yJ2_add_2.cls ≠ "java/lang/invoke/VarHandle" ∧ (parseMethodDescriptor yJ2_add_2.desc).map (fun d => d.parameters.length) = some 3 := by decide +kernel
set_option maxHeartbeats 4000000 in
set_option maxRecDepth 100000 in
theorem met_J2_add_2 {l : Launch} {k : Cx} {al ar cap x : Nat} {md : Int32} {xs : List Nat} {fr : va_W} (hO : lsOk k ar cap xs) (h2 : xs.length ≤ 20) (hE : ∀ y ∈ x :: xs, Sto k fr y) (hD : va_D (Ab k) ((al, .inr (9, [.int md, .ref ar, .int (nI xs.length)])) :: (lsA k ar cap xs ++ fr))) : Met l yJ2_add_2 (ws_ yJ2_add_2 cJ2_add_2 4 none) ({ frames := 5, cells := 1, slots := 30, locals := 127 } : Room) (gPc [.ref al, .ref x, .ref ar, .int (nI xs.length)] k ((al, .inr (9, [.int md, .ref ar, .int (nI xs.length)])) :: (lsA k ar cap xs ++ fr))) (QcM k (fun v w => ∃ ar2 cap2, v = none ∧ lsOk k ar2 cap2 (xs ++ [x]) ∧ w = lsO al ar2 md (xs ++ [x]) :: (lsA k ar2 cap2 (xs ++ [x]) ++ fr))) 1 30 (Ab k) := by
  refine va_MetF (cc := cJ2_add_2) (maxL := 4) (ret := none) (by decide +kernel) rfl ?_
  intro p e s m args below meth c s₁ B hml hv
  obtain ⟨rfl, hP, hG⟩ := hv
  have hx := B.exec
  have hb := B.bytes
  have hr := B.returns
  have hts := atoms_spec (ws := ws_ yJ2_add_2 cJ2_add_2 4 none) B.pre
  have hts : ∀ w ∈ lw_all, w.before _ s = true := fun w h => hts w (List.mem_cons_of_mem _ h)
  have hown : s.vm.findClass RJ2 = some m.cls := findClass_of_methodNamed B.named
  have hlocks := B.notSynchronized
  have hl := lv_entry ([.ref al, .ref x, .ref ar, .int (nI xs.length)]) (n := 4) (Nat.le_of_ble_eq_true rfl)
  rw [lg_entry_eq]
  generalize (lg_sl ([.ref al, .ref x, .ref ar, .int (nI xs.length)]) ++ List.replicate (4 - (lg_sl ([.ref al, .ref x, .ref ar, .int (nI xs.length)])).length) Slot.unset).toArray = ls at hl ⊢
  have hl : lv_has ls 4 [(0, .ref al), (1, .ref x), (2, .ref ar), (3, .int (nI xs.length))] := hl
  have hS : va_S (Ab k) s.heap s.heap [] := va_S.rf
  refine lv_iload_n hx hb dJ2_add_2_0 rfl (lv_at hl 3 rfl) ?_
  refine lv_aload_n hx hb dJ2_add_2_1 rfl (lv_at hl 2 rfl) ?_
  refine ls_alen hx hb hG hS hO (va_P.left (va_P.tl hP)) dJ2_add_2_2 ?_
  refine W.cutM (cells' := 1) (slots' := 30) (G := fun H locs ls => ∃ ar2 cap2 : Nat, xs.length < cap2 ∧ cap2 ≤ 1000 ∧ ar2 ≠ ke k ∧ va_P (kD k) gCl (lsO al ar2 md xs :: rA k ar2 cap2 xs :: fr) H ∧ va_D (Ab k) (lsO al ar2 md xs :: rA k ar2 cap2 xs :: fr) ∧ va_S (Ab k) s.heap H locs ∧ lv_has ls 4 [(0, .ref al), (1, .ref x), (2, .ref ar2), (3, .int (nI xs.length))]) (pc' := 11) (st' := []) (fun H locs ls hG9 => ?_) (fun K => ?_)
  · obtain ⟨ar2, cap2, g1, g2, g3, hP, hD, hS, hl⟩ := hG9
    refine lv_aload_n hx hb dJ2_add_2_11 rfl (lv_at hl 2 rfl) ?_
    refine lv_iload_n hx hb dJ2_add_2_12 rfl (lv_at hl 3 rfl) ?_
    refine lv_aload_n hx hb dJ2_add_2_13 rfl (lv_at hl 1 rfl) ?_
    refine va_astqM hx hb hG.K hP hD hS 1 1 rfl rfl (sto_any (hE x List.mem_cons_self) hG hS hP (fun q hq => List.mem_cons_of_mem _ (List.mem_cons_of_mem _ hq))) (vp_in_nI g1 (by omega)) dJ2_add_2_14 (fun H locs hP hD hS => ?_)
    rw [nI_clamp (show xs.length < 2 ^ 31 by omega), up_app] at hP hD
    have hP : va_P (kD k) gCl ((al, .inr (9, [.int md, .ref ar2, .int (nI xs.length)])) :: (ar2, .inl (kO k, cap2, .inr (.inr (.inr (.inr (fun i => (xs ++ [x])[i]?)))))) :: fr) H := hP
    have hD : va_D (Ab k) ((al, .inr (9, [.int md, .ref ar2, .int (nI xs.length)])) :: (ar2, .inl (kO k, cap2, .inr (.inr (.inr (.inr (fun i => (xs ++ [x])[i]?)))))) :: fr) := hD
    refine lv_aload_n hx hb dJ2_add_2_15 rfl (lv_at hl 0 rfl) ?_
    refine lv_iload_n hx hb dJ2_add_2_16 rfl (lv_at hl 3 rfl) ?_
    refine lv_iconst (v := 1) hx hb dJ2_add_2_17 (by decide) ?_
    refine lv_iadd hx hb dJ2_add_2_18 ?_
    rw [show nI xs.length + (1 : Int32) = nI (xs ++ [x]).length from by rw [List.length_append, nI_1]; rfl]
    refine va_put (ci := 9) (v := .int (nI (xs ++ [x]).length)) (ty := .int) (C := RJ2) (T := TJ2) (N := 3) hx hb hts in_J2 tyJ2 tyJ2_ok nmJ2 hown hG.K hP hD hS 0 rfl rfl 2 (by decide) (hts _ q135) (fun _ h9 => h9) rfl (by decide +kernel) rfl rfl (Nat.le_of_ble_eq_true rfl) dJ2_add_2_19 (fun H locs hP hD hS => ?_)
    have hP : va_P (kD k) gCl ((al, .inr (9, [.int md, .ref ar2, .int (nI (xs ++ [x]).length)])) :: (ar2, .inl (kO k, cap2, .inr (.inr (.inr (.inr (fun i => (xs ++ [x])[i]?)))))) :: fr) H := hP
    have hD : va_D (Ab k) ((al, .inr (9, [.int md, .ref ar2, .int (nI (xs ++ [x]).length)])) :: (ar2, .inl (kO k, cap2, .inr (.inr (.inr (.inr (fun i => (xs ++ [x])[i]?)))))) :: fr) := hD
    have h0 : cap2 ≠ 0 := by omega
    exact W.vret hx hb hr (fun t ht hW => c_retM (w := (al, .inr (9, [.int md, .ref ar2, .int (nI (xs ++ [x]).length)])) :: (ar2, .inl (kO k, cap2, .inr (.inr (.inr (.inr (fun i => (xs ++ [x])[i]?)))))) :: fr) ⟨ar2, cap2, rfl, ⟨by rw [List.length_append, show [x].length = 1 from rfl]; omega, g2, fun h => absurd h h0, fun _ => g3⟩, by rw [lsA_ne h0]; rfl⟩ hP hD hS ht) hS.2.2 dJ2_add_2_22
  · refine lv_icmp_ne (tgt := 11) hx hb dJ2_add_2_3 (by decide) (fun c9 => ?_) (fun c9 => ?_)
    · have hlt : xs.length < cap := Nat.lt_of_le_of_ne hO.1 (fun e9 => c9 (by rw [e9]))
      have h0 : cap ≠ 0 := by omega
      rw [lsA_ne h0] at hP hD
      exact W.widen (Nat.le_of_ble_eq_true rfl) (Nat.le_of_ble_eq_true rfl) (K _ _ _ ⟨ar, cap, hlt, hO.2.1, hO.2.2.2 h0, hP, hD, hS, lv_sub hl [0, 1, 2, 3] rfl⟩)
    · have hc : xs.length = cap := (nI_eq (Nat.lt_of_le_of_lt (Nat.le_trans hO.1 hO.2.1) (by decide)) (Nat.lt_of_le_of_lt hO.2.1 (by decide))).mp c9
      refine lv_aload_n hx hb dJ2_add_2_6 rfl (lv_at hl 0 rfl) ?_
      refine c_callM (va_runV (As := []) (rest := []) ⟨hx, hb, hml, hown, hts⟩ (met_J2_grow hO hc (by omega) (fun y hy => hE y (List.mem_cons_of_mem _ hy)) hD) (cwV 0 hts (lw_V q362 q364 qs2 q71 q365) rfl rfl rfl ⟨rfl, hd_J2_grow⟩ ⟨Nat.le_of_ble_eq_true rfl, Nat.le_of_ble_eq_true rfl⟩) (g_preV hG hS hP (va_recv hG.K hP (ci := 9) (q0 := 0) rfl rfl)) rfl rfl hl.1 rfl (lv_room (Nat.le_of_ble_eq_true rfl)) dJ2_add_2_7 ⟨Nat.le_of_ble_eq_true rfl, Nat.le_of_ble_eq_true rfl⟩) hS (fun v w H locs hp hP hD hS => ?_)
      obtain ⟨q1, cap2, rfl, g1, g2, rfl⟩ := hp
      have hP : va_P (kD k) gCl ((al, .inr (9, [.int md, .ref q1, .int (nI xs.length)])) :: (q1, .inl (kO k, cap2, .inr (.inr (.inr (.inr (fun i => xs[i]?)))))) :: fr) H := hP
      have hD : va_D (Ab k) ((al, .inr (9, [.int md, .ref q1, .int (nI xs.length)])) :: (q1, .inl (kO k, cap2, .inr (.inr (.inr (.inr (fun i => xs[i]?)))))) :: fr) := hD
      refine lv_astore_n (lv' := [(2, .ref q1), (0, .ref al), (1, .ref x), (3, .int (nI xs.length))]) hx hb dJ2_add_2_10 rfl hl (by decide) rfl (fun ls hl => ?_)
      exact K _ _ _ ⟨q1, cap2, by omega, by omega, ke_old hG (hD.all _ (List.mem_cons_of_mem _ List.mem_cons_self)), hP, hD, hS, lv_sub hl [1, 2, 0, 3] rfl⟩
theorem hd_J2_add : yJ2_add.cls ≠ "java/lang/invoke/MethodHandle" ∧ yJ2_add.cls ≠ "java/lang/invoke/VarHandle" ∧ (parseMethodDescriptor yJ2_add.desc).map (fun d => d.parameters.length) = some 1 := by decide +kernel
set_option maxHeartbeats 4000000 in
set_option maxRecDepth 100000 in
theorem met_J2_add {l : Launch} {k : Cx} {al ar cap x : Nat} {md : Int32} {xs : List Nat} {fr : va_W} (hO : lsOk k ar cap xs) (h2 : xs.length ≤ 20) (hE : ∀ y ∈ x :: xs, Sto k fr y) (hD : va_D (Ab k) ((al, .inr (9, [.int md, .ref ar, .int (nI xs.length)])) :: (lsA k ar cap xs ++ fr))) : Met l yJ2_add (ws_ yJ2_add cJ2_add 2 (some .boolean)) ({ frames := 6, cells := 1, slots := 30, locals := 150 } : Room) (gPc [.ref al, .ref x] k ((al, .inr (9, [.int md, .ref ar, .int (nI xs.length)])) :: (lsA k ar cap xs ++ fr))) (QcM k (fun v w => ∃ ar2 cap2, v = some (.int 1) ∧ lsOk k ar2 cap2 (xs ++ [x]) ∧ w = lsO al ar2 (md + 1) (xs ++ [x]) :: (lsA k ar2 cap2 (xs ++ [x]) ++ fr))) 1 30 (Ab k) := by
  refine va_MetF (cc := cJ2_add) (maxL := 2) (ret := (some .boolean)) (by decide +kernel) rfl ?_
  intro p e s m args below meth c s₁ B hml hv
  obtain ⟨rfl, hP, hG⟩ := hv
  have hx := B.exec
  have hb := B.bytes
  have hr := B.returns
  have hts := atoms_spec (ws := ws_ yJ2_add cJ2_add 2 (some .boolean)) B.pre
  have hts : ∀ w ∈ lw_all, w.before _ s = true := fun w h => hts w (List.mem_cons_of_mem _ h)
  have hown : s.vm.findClass RJ2 = some m.cls := findClass_of_methodNamed B.named
  have hlocks := B.notSynchronized
  have hl := lv_entry ([.ref al, .ref x]) (n := 2) (Nat.le_of_ble_eq_true rfl)
  rw [lg_entry_eq]
  generalize (lg_sl ([.ref al, .ref x]) ++ List.replicate (2 - (lg_sl ([.ref al, .ref x])).length) Slot.unset).toArray = ls at hl ⊢
  have hl : lv_has ls 2 [(0, .ref al), (1, .ref x)] := hl
  have hS : va_S (Ab k) s.heap s.heap [] := va_S.rf
  refine lv_aload_n hx hb dJ2_add_0 rfl (lv_at hl 0 rfl) ?_
  refine lv_dup hx hb dJ2_add_1 rfl ?_
  refine va_get (ci := 9) (v := .int md) (C := RJ2) (T := TJ2) (N := 3) hx hb hts in_J2 hown hG.K hP 0 rfl rfl 0 (by decide) (hts _ q139) (u_same (hts _ q138)) rfl dJ2_add_2 ?_
  refine lv_iconst (v := 1) hx hb dJ2_add_5 (by decide) ?_
  refine lv_iadd hx hb dJ2_add_6 ?_
  refine va_put (ci := 9) (v := .int (md + (1 : Int32))) (ty := .int) (C := RJ2) (T := TJ2) (N := 3) hx hb hts in_J2 tyJ2 tyJ2_ok nmJ2 hown hG.K hP hD hS 0 rfl rfl 0 (by decide) (hts _ q139) (u_same (hts _ q138)) rfl (by decide +kernel) rfl rfl (Nat.le_of_ble_eq_true rfl) dJ2_add_7 (fun H locs hP hD hS => ?_)
  have hP : va_P (kD k) gCl ((al, .inr (9, [.int (md + (1 : Int32)), .ref ar, .int (nI xs.length)])) :: (lsA k ar cap xs ++ fr)) H := hP
  have hD : va_D (Ab k) ((al, .inr (9, [.int (md + (1 : Int32)), .ref ar, .int (nI xs.length)])) :: (lsA k ar cap xs ++ fr)) := hD
  refine lv_aload_n hx hb dJ2_add_10 rfl (lv_at hl 0 rfl) ?_
  refine lv_aload_n hx hb dJ2_add_11 rfl (lv_at hl 1 rfl) ?_
  refine lv_aload_n hx hb dJ2_add_12 rfl (lv_at hl 0 rfl) ?_
  refine va_get (ci := 9) (v := .ref ar) (C := RJ2) (T := TJ2) (N := 3) hx hb hts in_J2 hown hG.K hP 0 rfl rfl 1 (by decide) (hts _ q132) (fun _ h9 => h9) rfl dJ2_add_13 ?_
  refine lv_aload_n hx hb dJ2_add_16 rfl (lv_at hl 0 rfl) ?_
  refine va_get (ci := 9) (v := .int (nI xs.length)) (C := RJ2) (T := TJ2) (N := 3) hx hb hts in_J2 hown hG.K hP 0 rfl rfl 2 (by decide) (hts _ q135) (fun _ h9 => h9) rfl dJ2_add_17 ?_
  refine c_callM (va_runV (As := [.ref x, .ref ar, .int (nI xs.length)]) (rest := []) ⟨hx, hb, hml, hown, hts⟩ (met_J2_add_2 hO h2 hE hD) (cwV 3 hts (lw_V q358 q360 qs1 q71 q361) rfl rfl rfl ⟨rfl, hd_J2_add_2⟩ ⟨Nat.le_of_ble_eq_true rfl, Nat.le_of_ble_eq_true rfl⟩) (g_preV hG hS hP (va_recv hG.K hP (ci := 9) (q0 := 0) rfl rfl)) rfl rfl hl.1 rfl (lv_room (Nat.le_of_ble_eq_true rfl)) dJ2_add_20 ⟨Nat.le_of_ble_eq_true rfl, Nat.le_of_ble_eq_true rfl⟩) hS (fun v w H locs hp hP hD hS => ?_)
  obtain ⟨ar2, cap2, rfl, g1, rfl⟩ := hp
  have hP : va_P (kD k) gCl ((al, .inr (9, [.int (md + (1 : Int32)), .ref ar2, .int (nI (xs ++ [x]).length)])) :: (lsA k ar2 cap2 (xs ++ [x]) ++ fr)) H := hP
  have hD : va_D (Ab k) ((al, .inr (9, [.int (md + (1 : Int32)), .ref ar2, .int (nI (xs ++ [x]).length)])) :: (lsA k ar2 cap2 (xs ++ [x]) ++ fr)) := hD
  refine lv_iconst (v := 1) hx hb dJ2_add_23 (by decide) ?_
  refine W.widen (k := 1) (n := 30) (Nat.le_of_ble_eq_true rfl) (Nat.le_of_ble_eq_true rfl) ?_
  exact W.zret hx hb hr rfl (fun t ht hW => c_retM (w := (al, .inr (9, [.int (md + (1 : Int32)), .ref ar2, .int (nI (xs ++ [x]).length)])) :: (lsA k ar2 cap2 (xs ++ [x]) ++ fr)) ⟨ar2, cap2, rfl, g1, rfl⟩ hP hD hS ht) hS.2.2 dJ2_add_24
theorem hd_J2_rangeCheckForAdd : yJ2_rangeCheckForAdd.cls ≠ "java/lang/invoke/MethodHandle" ∧ yJ2_rangeCheckForAdd.cls ≠ "java/lang/invoke/VarHandle" ∧ (parseMethodDescriptor yJ2_rangeCheckForAdd.desc).map (fun d => d.parameters.length) = some 1 := by decide +kernel
set_option maxHeartbeats 4000000 in
set_option maxRecDepth 100000 in
theorem met_J2_rangeCheckForAdd {l : Launch} {k : Cx} {al ar i : Nat} {md : Int32} {xs : List Nat} (hi : i ≤ xs.length) (h2 : xs.length ≤ 20) : Met l yJ2_rangeCheckForAdd (ws_ yJ2_rangeCheckForAdd cJ2_rangeCheckForAdd 2 none) ({ frames := 1, cells := 0, slots := 0, locals := 12 } : Room) (gPc [.ref al, .int (nI i)] k [lsO al ar md xs]) (QcV none) 0 0 (fun _ => False) := by
  refine va_MetF (cc := cJ2_rangeCheckForAdd) (maxL := 2) (ret := none) (by decide +kernel) rfl ?_
  intro p e s m args below meth c s₁ B hml hv
  obtain ⟨rfl, hP, hG⟩ := hv
  have hx := B.exec
  have hb := B.bytes
  have hr := B.returns
  have hts := atoms_spec (ws := ws_ yJ2_rangeCheckForAdd cJ2_rangeCheckForAdd 2 none) B.pre
  have hts : ∀ w ∈ lw_all, w.before _ s = true := fun w h => hts w (List.mem_cons_of_mem _ h)
  have hown : s.vm.findClass RJ2 = some m.cls := findClass_of_methodNamed B.named
  have hlocks := B.notSynchronized
  have hl := lv_entry ([.ref al, .int (nI i)]) (n := 2) (Nat.le_of_ble_eq_true rfl)
  rw [lg_entry_eq]
  generalize (lg_sl ([.ref al, .int (nI i)]) ++ List.replicate (2 - (lg_sl ([.ref al, .int (nI i)])).length) Slot.unset).toArray = ls at hl ⊢
  have hl : lv_has ls 2 [(0, .ref al), (1, .int (nI i))] := hl
  refine lv_iload_n hx hb dJ2_rangeCheckForAdd_0 rfl (lv_at hl 1 rfl) ?_
  refine lv_aload_n hx hb dJ2_rangeCheckForAdd_1 rfl (lv_at hl 0 rfl) ?_
  refine va_get (ci := 9) (v := .int (nI xs.length)) (C := RJ2) (T := TJ2) (N := 3) hx hb hts in_J2 hown hG.K (hP.sub [0] rfl) 0 rfl rfl 2 (by decide) (hts _ q135) (fun _ h9 => h9) rfl dJ2_rangeCheckForAdd_2 ?_
  refine lv_icmp_gt (tgt := 12) hx hb dJ2_rangeCheckForAdd_5 (by decide) (fun c9 => absurd c9 (nI_nlt hi (by omega))) (fun c9 => ?_)
  refine lv_iload_n hx hb dJ2_rangeCheckForAdd_8 rfl (lv_at hl 1 rfl) ?_
  refine lv_if_ge (tgt := 25) hx hb dJ2_rangeCheckForAdd_9 (by decide) (fun c9 => ?_) (fun c9 => absurd (nI_pos' (by omega)) c9)
  exact W.vret hx hb hr (fun t ht hW => c_ret ht) (fun q hq => absurd hq List.not_mem_nil) dJ2_rangeCheckForAdd_25
theorem hd_J2_add_3 : yJ2_add_3.cls ≠ "java/lang/invoke/MethodHandle" ∧ yJ2_add_3.cls ≠ "java/lang/invoke/VarHandle" ∧ (parseMethodDescriptor yJ2_add_3.desc).map (fun d => d.parameters.length) = some 2 := by decide +kernel
set_option maxHeartbeats 4000000 in
set_option maxRecDepth 100000 in
theorem met_J2_add_3 {l : Launch} {k : Cx} {al ar cap x i : Nat} {md : Int32} {xs : List Nat} {fr : va_W} (hO : lsOk k ar cap xs) (h2 : xs.length ≤ 20) (hi : i ≤ xs.length) (hE : ∀ y ∈ x :: xs, Sto k fr y) (hD : va_D (Ab k) ((al, .inr (9, [.int md, .ref ar, .int (nI xs.length)])) :: (lsA k ar cap xs ++ fr))) : Met l yJ2_add_3 (ws_ yJ2_add_3 cJ2_add_3 5 none) ({ frames := 5, cells := 1, slots := 30, locals := 127 } : Room) (gPc [.ref al, .int (nI i), .ref x] k ((al, .inr (9, [.int md, .ref ar, .int (nI xs.length)])) :: (lsA k ar cap xs ++ fr))) (QcM k (fun v w => ∃ ar2 cap2, v = none ∧ lsOk k ar2 cap2 (xs.insertIdx i x) ∧ w = lsO al ar2 (md + 1) (xs.insertIdx i x) :: (lsA k ar2 cap2 (xs.insertIdx i x) ++ fr))) 1 30 (Ab k) := by
  refine va_MetF (cc := cJ2_add_3) (maxL := 5) (ret := none) (by decide +kernel) rfl ?_
  intro p e s m args below meth c s₁ B hml hv
  obtain ⟨rfl, hP, hG⟩ := hv
  have hx := B.exec
  have hb := B.bytes
  have hr := B.returns
  have hts := atoms_spec (ws := ws_ yJ2_add_3 cJ2_add_3 5 none) B.pre
  have hts : ∀ w ∈ lw_all, w.before _ s = true := fun w h => hts w (List.mem_cons_of_mem _ h)
  have hown : s.vm.findClass RJ2 = some m.cls := findClass_of_methodNamed B.named
  have hlocks := B.notSynchronized
  have hl := lv_entry ([.ref al, .int (nI i), .ref x]) (n := 5) (Nat.le_of_ble_eq_true rfl)
  rw [lg_entry_eq]
  generalize (lg_sl ([.ref al, .int (nI i), .ref x]) ++ List.replicate (5 - (lg_sl ([.ref al, .int (nI i), .ref x])).length) Slot.unset).toArray = ls at hl ⊢
  have hl : lv_has ls 5 [(0, .ref al), (1, .int (nI i)), (2, .ref x)] := hl
  have hS : va_S (Ab k) s.heap s.heap [] := va_S.rf
  refine lv_aload_n hx hb dJ2_add_3_0 rfl (lv_at hl 0 rfl) ?_
  refine lv_iload_n hx hb dJ2_add_3_1 rfl (lv_at hl 1 rfl) ?_
  refine c_call (va_runV (As := [.int (nI i)]) (rest := []) ⟨hx, hb, hml, hown, hts⟩ (met_J2_rangeCheckForAdd (ar := ar) (md := md) (xs := xs) hi h2) (cwV 1 hts (lw_V q432 q434 qs4 q71 q435) rfl rfl rfl ⟨rfl, hd_J2_rangeCheckForAdd⟩ ⟨Nat.le_of_ble_eq_true rfl, Nat.le_of_ble_eq_true rfl⟩) (g_preV hG hS (hP.one List.mem_cons_self) (va_recv hG.K hP (ci := 9) (q0 := 0) rfl rfl)) rfl rfl hl.1 rfl (lv_room (Nat.le_of_ble_eq_true rfl)) dJ2_add_3_2 ⟨Nat.le_of_ble_eq_true rfl, Nat.le_of_ble_eq_true rfl⟩) ?_
  refine lv_aload_n hx hb dJ2_add_3_5 rfl (lv_at hl 0 rfl) ?_
  refine lv_dup hx hb dJ2_add_3_6 rfl ?_
  refine va_get (ci := 9) (v := .int md) (C := RJ2) (T := TJ2) (N := 3) hx hb hts in_J2 hown hG.K hP 0 rfl rfl 0 (by decide) (hts _ q139) (u_same (hts _ q138)) rfl dJ2_add_3_7 ?_
  refine lv_iconst (v := 1) hx hb dJ2_add_3_10 (by decide) ?_
  refine lv_iadd hx hb dJ2_add_3_11 ?_
  refine va_put (ci := 9) (v := .int (md + (1 : Int32))) (ty := .int) (C := RJ2) (T := TJ2) (N := 3) hx hb hts in_J2 tyJ2 tyJ2_ok nmJ2 hown hG.K hP hD hS 0 rfl rfl 0 (by decide) (hts _ q139) (u_same (hts _ q138)) rfl (by decide +kernel) rfl rfl (Nat.le_of_ble_eq_true rfl) dJ2_add_3_12 (fun H locs hP hD hS => ?_)
  have hP : va_P (kD k) gCl ((al, .inr (9, [.int (md + (1 : Int32)), .ref ar, .int (nI xs.length)])) :: (lsA k ar cap xs ++ fr)) H := hP
  have hD : va_D (Ab k) ((al, .inr (9, [.int (md + (1 : Int32)), .ref ar, .int (nI xs.length)])) :: (lsA k ar cap xs ++ fr)) := hD
  refine lv_aload_n hx hb dJ2_add_3_15 rfl (lv_at hl 0 rfl) ?_
  refine va_get (ci := 9) (v := .int (nI xs.length)) (C := RJ2) (T := TJ2) (N := 3) hx hb hts in_J2 hown hG.K hP 0 rfl rfl 2 (by decide) (hts _ q135) (fun _ h9 => h9) rfl dJ2_add_3_16 ?_
  refine lv_dup hx hb dJ2_add_3_19 rfl ?_
  refine lv_istore_n (lv' := [(3, .int (nI xs.length)), (0, .ref al), (1, .int (nI i)), (2, .ref x)]) hx hb dJ2_add_3_20 rfl hl (by decide) rfl (fun ls hl => ?_)
  refine lv_aload_n hx hb dJ2_add_3_21 rfl (lv_at hl 1 rfl) ?_
  refine va_get (ci := 9) (v := .ref ar) (C := RJ2) (T := TJ2) (N := 3) hx hb hts in_J2 hown hG.K hP 0 rfl rfl 1 (by decide) (hts _ q132) (fun _ h9 => h9) rfl dJ2_add_3_22 ?_
  refine lv_dup hx hb dJ2_add_3_25 rfl ?_
  refine lv_astore (lv' := [(4, .ref ar), (3, .int (nI xs.length)), (0, .ref al), (1, .int (nI i)), (2, .ref x)]) hx hb dJ2_add_3_26 hl (by decide) rfl (fun ls hl => ?_)
  refine ls_alen hx hb hG hS hO (va_P.left (va_P.tl hP)) dJ2_add_3_28 ?_
  refine W.cutM (cells' := 1) (slots' := 30) (G := fun H locs ls => ∃ ar2 cap2 : Nat, xs.length < cap2 ∧ cap2 ≤ 1000 ∧ ar2 ≠ ke k ∧ va_P (kD k) gCl (lsO al ar2 (md + (1 : Int32)) xs :: rA k ar2 cap2 xs :: fr) H ∧ va_D (Ab k) (lsO al ar2 (md + (1 : Int32)) xs :: rA k ar2 cap2 xs :: fr) ∧ va_S (Ab k) s.heap H locs ∧ lv_has ls 5 [(4, .ref ar2), (3, .int (nI xs.length)), (0, .ref al), (1, .int (nI i)), (2, .ref x)]) (pc' := 38) (st' := []) (fun H locs ls hG9 => ?_) (fun K => ?_)
  · obtain ⟨ar2, cap2, g1, g2, g3, hP, hD, hS, hl⟩ := hG9
    refine lv_aload hx hb dJ2_add_3_38 (lv_at hl 0 rfl) ?_
    refine lv_iload_n hx hb dJ2_add_3_40 rfl (lv_at hl 3 rfl) ?_
    refine lv_aload hx hb dJ2_add_3_41 (lv_at hl 0 rfl) ?_
    refine lv_iload_n hx hb dJ2_add_3_43 rfl (lv_at hl 3 rfl) ?_
    refine lv_iconst (v := 1) hx hb dJ2_add_3_44 (by decide) ?_
    refine lv_iadd hx hb dJ2_add_3_45 ?_
    refine lv_iload_n hx hb dJ2_add_3_46 rfl (lv_at hl 1 rfl) ?_
    refine lv_iload_n hx hb dJ2_add_3_47 rfl (lv_at hl 3 rfl) ?_
    refine lv_isub hx hb dJ2_add_3_48 ?_
    rw [show nI i + (1 : Int32) = nI (i + 1) from nI_1 i, pk_sub hi]
    refine va_copyM hx hb (hml.trans hl.1.symm) hown (hts _ q436) (hts _ q411) (hts _ q410) (hts _ q85) hG.K hP hD hS 1 1 1 1 rfl rfl rfl rfl (nI_pos (by omega)) (nI_pos (by omega)) (nI_pos (by omega)) (by rw [nI_clamp (by omega), nI_clamp (by omega)]; omega) (by rw [nI_clamp (by omega), nI_clamp (by omega)]; omega) (fun j hj y hy => sto_any (hE y (List.mem_cons_of_mem _ (List.mem_of_getElem? hy))) hG hS hP (fun q hq => List.mem_cons_of_mem _ (List.mem_cons_of_mem _ hq))) (Nat.le_of_ble_eq_true rfl) (Nat.le_of_ble_eq_true rfl) dJ2_add_3_49 (fun H locs hP hD hS => ?_)
    rw [nI_clamp (show i < 2 ^ 31 by omega), nI_clamp (show i + 1 < 2 ^ 31 by omega), nI_clamp (show xs.length - i < 2 ^ 31 by omega)] at hP hD
    have hP : va_P (kD k) gCl ((al, .inr (9, [.int (md + (1 : Int32)), .ref ar2, .int (nI xs.length)])) :: (ar2, .inl (kO k, cap2, .inr (.inr (.inr (.inr (va_cpy (fun j => xs[j]?) (fun j => xs[j]?) i (i + 1) (xs.length - i))))))) :: fr) H := hP
    have hD : va_D (Ab k) ((al, .inr (9, [.int (md + (1 : Int32)), .ref ar2, .int (nI xs.length)])) :: (ar2, .inl (kO k, cap2, .inr (.inr (.inr (.inr (va_cpy (fun j => xs[j]?) (fun j => xs[j]?) i (i + 1) (xs.length - i))))))) :: fr) := hD
    refine lv_aload hx hb dJ2_add_3_52 (lv_at hl 0 rfl) ?_
    refine lv_iload_n hx hb dJ2_add_3_54 rfl (lv_at hl 3 rfl) ?_
    refine lv_aload_n hx hb dJ2_add_3_55 rfl (lv_at hl 4 rfl) ?_
    refine va_astqM hx hb hG.K hP hD hS 1 1 rfl rfl (sto_any (hE x List.mem_cons_self) hG hS hP (fun q hq => List.mem_cons_of_mem _ (List.mem_cons_of_mem _ hq))) (vp_in_nI (by omega) (by omega)) dJ2_add_3_56 (fun H locs hP hD hS => ?_)
    rw [nI_clamp (show i < 2 ^ 31 by omega), up_ins hi] at hP hD
    have hP : va_P (kD k) gCl ((al, .inr (9, [.int (md + (1 : Int32)), .ref ar2, .int (nI xs.length)])) :: (ar2, .inl (kO k, cap2, .inr (.inr (.inr (.inr (fun j => (xs.insertIdx i x)[j]?)))))) :: fr) H := hP
    have hD : va_D (Ab k) ((al, .inr (9, [.int (md + (1 : Int32)), .ref ar2, .int (nI xs.length)])) :: (ar2, .inl (kO k, cap2, .inr (.inr (.inr (.inr (fun j => (xs.insertIdx i x)[j]?)))))) :: fr) := hD
    refine lv_aload_n hx hb dJ2_add_3_57 rfl (lv_at hl 2 rfl) ?_
    refine lv_iload_n hx hb dJ2_add_3_58 rfl (lv_at hl 1 rfl) ?_
    refine lv_iconst (v := 1) hx hb dJ2_add_3_59 (by decide) ?_
    refine lv_iadd hx hb dJ2_add_3_60 ?_
    rw [show nI xs.length + (1 : Int32) = nI (xs.insertIdx i x).length from by rw [List.length_insertIdx_of_le_length hi, nI_1]]
    refine va_put (ci := 9) (v := .int (nI (xs.insertIdx i x).length)) (ty := .int) (C := RJ2) (T := TJ2) (N := 3) hx hb hts in_J2 tyJ2 tyJ2_ok nmJ2 hown hG.K hP hD hS 0 rfl rfl 2 (by decide) (hts _ q135) (fun _ h9 => h9) rfl (by decide +kernel) rfl rfl (Nat.le_of_ble_eq_true rfl) dJ2_add_3_61 (fun H locs hP hD hS => ?_)
    have hP : va_P (kD k) gCl ((al, .inr (9, [.int (md + (1 : Int32)), .ref ar2, .int (nI (xs.insertIdx i x).length)])) :: (ar2, .inl (kO k, cap2, .inr (.inr (.inr (.inr (fun j => (xs.insertIdx i x)[j]?)))))) :: fr) H := hP
    have hD : va_D (Ab k) ((al, .inr (9, [.int (md + (1 : Int32)), .ref ar2, .int (nI (xs.insertIdx i x).length)])) :: (ar2, .inl (kO k, cap2, .inr (.inr (.inr (.inr (fun j => (xs.insertIdx i x)[j]?)))))) :: fr) := hD
    have h0 : cap2 ≠ 0 := by omega
    exact W.vret hx hb hr (fun t ht hW => c_retM (w := (al, .inr (9, [.int (md + (1 : Int32)), .ref ar2, .int (nI (xs.insertIdx i x).length)])) :: (ar2, .inl (kO k, cap2, .inr (.inr (.inr (.inr (fun j => (xs.insertIdx i x)[j]?)))))) :: fr) ⟨ar2, cap2, rfl, ⟨by rw [List.length_insertIdx_of_le_length hi]; omega, g2, fun h => absurd h h0, fun _ => g3⟩, by rw [lsA_ne h0]; rfl⟩ hP hD hS ht) hS.2.2 dJ2_add_3_64
  · refine lv_icmp_ne (tgt := 38) hx hb dJ2_add_3_29 (by decide) (fun c9 => ?_) (fun c9 => ?_)
    · have hlt : xs.length < cap := Nat.lt_of_le_of_ne hO.1 (fun e9 => c9 (by rw [e9]))
      have h0 : cap ≠ 0 := by omega
      rw [lsA_ne h0] at hP hD
      exact W.widen (Nat.le_of_ble_eq_true rfl) (Nat.le_of_ble_eq_true rfl) (K _ _ _ ⟨ar, cap, hlt, hO.2.1, hO.2.2.2 h0, hP, hD, hS, lv_sub hl [0, 1, 2, 3, 4] rfl⟩)
    · have hc : xs.length = cap := (nI_eq (Nat.lt_of_le_of_lt (Nat.le_trans hO.1 hO.2.1) (by decide)) (Nat.lt_of_le_of_lt hO.2.1 (by decide))).mp c9
      refine lv_aload_n hx hb dJ2_add_3_32 rfl (lv_at hl 2 rfl) ?_
      refine c_callM (va_runV (As := []) (rest := []) ⟨hx, hb, hml, hown, hts⟩ (met_J2_grow hO hc (by omega) (fun y hy => hE y (List.mem_cons_of_mem _ hy)) hD) (cwV 0 hts (lw_V q362 q364 qs2 q71 q365) rfl rfl rfl ⟨rfl, hd_J2_grow⟩ ⟨Nat.le_of_ble_eq_true rfl, Nat.le_of_ble_eq_true rfl⟩) (g_preV hG hS hP (va_recv hG.K hP (ci := 9) (q0 := 0) rfl rfl)) rfl rfl hl.1 rfl (lv_room (Nat.le_of_ble_eq_true rfl)) dJ2_add_3_33 ⟨Nat.le_of_ble_eq_true rfl, Nat.le_of_ble_eq_true rfl⟩) hS (fun v w H locs hp hP hD hS => ?_)
      obtain ⟨q1, cap2, rfl, g1, g2, rfl⟩ := hp
      have hP : va_P (kD k) gCl ((al, .inr (9, [.int (md + (1 : Int32)), .ref q1, .int (nI xs.length)])) :: (q1, .inl (kO k, cap2, .inr (.inr (.inr (.inr (fun i => xs[i]?)))))) :: fr) H := hP
      have hD : va_D (Ab k) ((al, .inr (9, [.int (md + (1 : Int32)), .ref q1, .int (nI xs.length)])) :: (q1, .inl (kO k, cap2, .inr (.inr (.inr (.inr (fun i => xs[i]?)))))) :: fr) := hD
      refine lv_astore (lv' := [(4, .ref q1), (3, .int (nI xs.length)), (0, .ref al), (1, .int (nI i)), (2, .ref x)]) hx hb dJ2_add_3_36 hl (by decide) rfl (fun ls hl => ?_)
      exact K _ _ _ ⟨q1, cap2, by omega, by omega, ke_old hG (hD.all _ (List.mem_cons_of_mem _ List.mem_cons_self)), hP, hD, hS, lv_sub hl [0, 1, 2, 3, 4] rfl⟩
