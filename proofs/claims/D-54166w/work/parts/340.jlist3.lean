/-! growing lists (printed by wip/gen/gen_jl3.py) -/
theorem growN : ∀ c : Nat, c ≤ 20 → nI c + (if nI (c + 1) - nI c < nI c >>> (1 &&& 31) then nI c >>> (1 &&& 31) else nI (c + 1) - nI c) = nI (c + max 1 (c / 2)) := by decide +kernel
theorem growM : ∀ c : Nat, c ≤ 20 → ¬ (2147483639 : Int32) < nI (c + max 1 (c / 2)) := by decide +kernel
theorem hd_J2_grow_2 : yJ2_grow_2.cls ≠ "java/lang/invoke/MethodHandle" ∧ yJ2_grow_2.cls ≠ "java/lang/invoke/VarHandle" ∧ (parseMethodDescriptor yJ2_grow_2.desc).map (fun d => d.parameters.length) = some 1 := by decide +kernel
set_option maxHeartbeats 4000000 in
set_option maxRecDepth 100000 in
theorem met_growA {l : Launch} {k : Cx} {al : Nat} {md : Int32} {fr : va_W} (hD : va_D (Ab k) ((al, .inr (9, [.int md, .ref (ke k), .int (nI 0)])) :: fr)) : Met l yJ2_grow_2 (ws_ yJ2_grow_2 cJ2_grow_2 4 (Option.some (Jvm.ClassFile.FieldType.array (Jvm.ClassFile.FieldType.object "java/lang/Object")))) ({ frames := 1, cells := 1, slots := 10, locals := 24 } : Room) (gPc [.ref al, .int 1] k ((al, .inr (9, [.int md, .ref (ke k), .int (nI 0)])) :: fr)) (QcM k (fun v w => ∃ q, v = some (.ref q) ∧ w = lsO al q md [] :: rA k q 10 [] :: fr)) 1 10 (Ab k) := by
  refine va_MetF (cc := cJ2_grow_2) (maxL := 4) (ret := (Option.some (Jvm.ClassFile.FieldType.array (Jvm.ClassFile.FieldType.object "java/lang/Object")))) (by decide +kernel) rfl ?_
  intro p e s m args below meth c s₁ B hml hv
  obtain ⟨rfl, hP, hG⟩ := hv
  have hx := B.exec
  have hb := B.bytes
  have hr := B.returns
  have hts := atoms_spec (ws := ws_ yJ2_grow_2 cJ2_grow_2 4 (Option.some (Jvm.ClassFile.FieldType.array (Jvm.ClassFile.FieldType.object "java/lang/Object")))) B.pre
  have hts : ∀ w ∈ lw_all, w.before _ s = true := fun w h => hts w (List.mem_cons_of_mem _ h)
  have hown : s.vm.findClass RJ2 = some m.cls := findClass_of_methodNamed B.named
  have hlocks := B.notSynchronized
  have hl := lv_entry ([.ref al, .int 1]) (n := 4) (Nat.le_of_ble_eq_true rfl)
  rw [lg_entry_eq]
  generalize (lg_sl ([.ref al, .int 1]) ++ List.replicate (4 - (lg_sl ([.ref al, .int 1])).length) Slot.unset).toArray = ls at hl ⊢
  have hl : lv_has ls 4 [(0, .ref al), (1, .int 1)] := hl
  have hS : va_S (Ab k) s.heap s.heap [] := va_S.rf
  refine lv_aload_n hx hb dJ2_grow_2_0 rfl (lv_at hl 0 rfl) ?_
  refine va_get (ci := 9) (v := .ref (ke k)) (C := RJ2) (T := TJ2) (N := 3) hx hb hts in_J2 hown hG.K hP 0 rfl rfl 1 (by decide) (hts _ q132) (fun _ h9 => h9) rfl dJ2_grow_2_1 ?_
  refine va_tlen (v := 0) hx hb hG.eT hS rfl dJ2_grow_2_4 ?_
  refine lv_istore_n (lv' := [(2, .int 0), (0, .ref al), (1, .int 1)]) hx hb dJ2_grow_2_5 rfl hl (by decide) rfl (fun ls hl => ?_)
  refine lv_iload_n hx hb dJ2_grow_2_6 rfl (lv_at hl 0 rfl) ?_
  refine lv_if_gt (tgt := 20) hx hb dJ2_grow_2_7 (by decide) (fun c9 => absurd c9 (by decide)) (fun c9 => ?_)
  refine lv_aload_n hx hb dJ2_grow_2_10 rfl (lv_at hl 1 rfl) ?_
  refine va_get (ci := 9) (v := .ref (ke k)) (C := RJ2) (T := TJ2) (N := 3) hx hb hts in_J2 hown hG.K hP 0 rfl rfl 1 (by decide) (hts _ q132) (fun _ h9 => h9) rfl dJ2_grow_2_11 ?_
  refine va_gets hx hb hG.e hS hown (hts _ q130) (fun _ h9 => h9) dJ2_grow_2_14 ?_
  refine lv_acmp_eq (rx := some (ke k)) (ry := some (ke k)) (tgt := 45) hx hb dJ2_grow_2_17 (by decide) (fun c9 => ?_) (fun c9 => absurd rfl c9)
  refine lv_aload_n hx hb dJ2_grow_2_45 rfl (lv_at hl 1 rfl) ?_
  refine lv_bipush (v := 10) hx hb dJ2_grow_2_46 (by decide) ?_
  refine lv_iload_n hx hb dJ2_grow_2_48 rfl (lv_at hl 2 rfl) ?_
  refine va_mmax hx hb (hml.trans hl.1.symm) hown (hts _ q412) (hts _ q374) (hts _ q83) (hts _ q375) (Nat.le_of_ble_eq_true rfl) (Nat.le_of_ble_eq_true rfl) (Nat.le_of_ble_eq_true rfl) (Nat.le_of_ble_eq_true rfl) dJ2_grow_2_49 ?_
  refine va_newq (n := (if (10 : Int32) < 1 then 1 else 10)) (N' := 10) hx hb hown (hts _ q413) hG.o1 hG.K hP hD hS hG.A (by decide) (by decide) (Nat.le_of_ble_eq_true rfl) (Nat.le_of_ble_eq_true rfl) (Nat.le_of_ble_eq_true rfl) dJ2_grow_2_52 (fun q1 cA H hK1 hP hD hS => ?_)
  have eA := kO_eq hG hK1
  subst eA
  have hP := hP.rot
  have hD := hD.rot
  have hP : va_P (kD k) gCl ((q1, .inl (kO k, 10, .inr (.inr (.inr (.inr (fun _ => none)))))) :: (al, .inr (9, [.int md, .ref (ke k), .int (nI 0)])) :: fr) H := hP
  have hD : va_D (Ab k) ((q1, .inl (kO k, 10, .inr (.inr (.inr (.inr (fun _ => none)))))) :: (al, .inr (9, [.int md, .ref (ke k), .int (nI 0)])) :: fr) := hD
  rw [show (fun _ : Nat => (none : Option Nat)) = (fun i => ([] : List Nat)[i]?) from by funext i; simp] at hP hD
  have hP : va_P (kD k) gCl ((q1, .inl (kO k, 10, .inr (.inr (.inr (.inr (fun i => ([] : List Nat)[i]?)))))) :: (al, .inr (9, [.int md, .ref (ke k), .int (nI 0)])) :: fr) H := hP
  have hD : va_D (Ab k) ((q1, .inl (kO k, 10, .inr (.inr (.inr (.inr (fun i => ([] : List Nat)[i]?)))))) :: (al, .inr (9, [.int md, .ref (ke k), .int (nI 0)])) :: fr) := hD
  refine lv_dup_x1 hx hb dJ2_grow_2_55 rfl rfl ?_
  refine va_put (ci := 9) (v := .ref q1) (ty := (tyJ2 1)) (C := RJ2) (T := TJ2) (N := 3) hx hb hts in_J2 tyJ2 tyJ2_ok nmJ2 hown hG.K hP hD hS 1 rfl rfl 1 (by decide) (hts _ q132) (fun _ h9 => h9) rfl (by decide +kernel) rfl rfl (Nat.le_of_ble_eq_true rfl) dJ2_grow_2_56 (fun H locs hP hD hS => ?_)
  have hP : va_P (kD k) gCl ((q1, .inl (kO k, 10, .inr (.inr (.inr (.inr (fun i => ([] : List Nat)[i]?)))))) :: (al, .inr (9, [.int md, .ref q1, .int (nI 0)])) :: fr) H := hP
  have hD : va_D (Ab k) ((q1, .inl (kO k, 10, .inr (.inr (.inr (.inr (fun i => ([] : List Nat)[i]?)))))) :: (al, .inr (9, [.int md, .ref q1, .int (nI 0)])) :: fr) := hD
  refine W.widen (k := 1) (n := 10) (Nat.le_of_ble_eq_true rfl) (Nat.le_of_ble_eq_true rfl) ?_
  exact W.aret hx hb hr (Or.inr ⟨_, rfl⟩) (Or.inr ⟨_, rfl⟩) (fun t ht hW => c_retM (w := lsO al q1 md [] :: rA k q1 10 [] :: fr) ⟨_, rfl, by rfl⟩ (hP.of_mem (fun x hx => by simp only [List.mem_cons] at hx ⊢; rcases hx with h | h | h <;> simp [h])) (hD.perm (List.Perm.swap _ _ _)) hS ht) hS.2.2 dJ2_grow_2_59
set_option maxHeartbeats 4000000 in
set_option maxRecDepth 100000 in
theorem met_growB {l : Launch} {k : Cx} {al ar cap : Nat} {md : Int32} {xs : List Nat} {fr : va_W} (hc : xs.length = cap) (h1 : 1 ≤ cap) (h2 : cap ≤ 20) (hE : ∀ y ∈ xs, Sto k fr y) (hD : va_D (Ab k) ((al, .inr (9, [.int md, .ref ar, .int (nI xs.length)])) :: (ar, .inl (kO k, cap, .inr (.inr (.inr (.inr (fun i => xs[i]?)))))) :: fr)) : Met l yJ2_grow_2 (ws_ yJ2_grow_2 cJ2_grow_2 4 (Option.some (Jvm.ClassFile.FieldType.array (Jvm.ClassFile.FieldType.object "java/lang/Object")))) ({ frames := 3, cells := 1, slots := 30, locals := 84 } : Room) (gPc [.ref al, .int (nI (cap + 1))] k ((al, .inr (9, [.int md, .ref ar, .int (nI xs.length)])) :: (ar, .inl (kO k, cap, .inr (.inr (.inr (.inr (fun i => xs[i]?)))))) :: fr)) (QcM k (fun v w => ∃ q cap2, v = some (.ref q) ∧ cap < cap2 ∧ cap2 ≤ 30 ∧ w = lsO al q md xs :: rA k q cap2 xs :: fr)) 1 30 (Ab k) := by
  refine va_MetF (cc := cJ2_grow_2) (maxL := 4) (ret := (Option.some (Jvm.ClassFile.FieldType.array (Jvm.ClassFile.FieldType.object "java/lang/Object")))) (by decide +kernel) rfl ?_
  intro p e s m args below meth c s₁ B hml hv
  obtain ⟨rfl, hP, hG⟩ := hv
  have hx := B.exec
  have hb := B.bytes
  have hr := B.returns
  have hts := atoms_spec (ws := ws_ yJ2_grow_2 cJ2_grow_2 4 (Option.some (Jvm.ClassFile.FieldType.array (Jvm.ClassFile.FieldType.object "java/lang/Object")))) B.pre
  have hts : ∀ w ∈ lw_all, w.before _ s = true := fun w h => hts w (List.mem_cons_of_mem _ h)
  have hown : s.vm.findClass RJ2 = some m.cls := findClass_of_methodNamed B.named
  have hlocks := B.notSynchronized
  have hl := lv_entry ([.ref al, .int (nI (cap + 1))]) (n := 4) (Nat.le_of_ble_eq_true rfl)
  rw [lg_entry_eq]
  generalize (lg_sl ([.ref al, .int (nI (cap + 1))]) ++ List.replicate (4 - (lg_sl ([.ref al, .int (nI (cap + 1))])).length) Slot.unset).toArray = ls at hl ⊢
  have hl : lv_has ls 4 [(0, .ref al), (1, .int (nI (cap + 1)))] := hl
  have hS : va_S (Ab k) s.heap s.heap [] := va_S.rf
  refine lv_aload_n hx hb dJ2_grow_2_0 rfl (lv_at hl 0 rfl) ?_
  refine va_get (ci := 9) (v := .ref ar) (C := RJ2) (T := TJ2) (N := 3) hx hb hts in_J2 hown hG.K hP 0 rfl rfl 1 (by decide) (hts _ q132) (fun _ h9 => h9) rfl dJ2_grow_2_1 ?_
  refine va_alen (v := nI cap) hx hb hG.K hP 1 1 rfl rfl rfl dJ2_grow_2_4 ?_
  refine lv_istore_n (lv' := [(2, .int (nI cap)), (0, .ref al), (1, .int (nI (cap + 1)))]) hx hb dJ2_grow_2_5 rfl hl (by decide) rfl (fun ls hl => ?_)
  refine lv_iload_n hx hb dJ2_grow_2_6 rfl (lv_at hl 0 rfl) ?_
  refine lv_if_gt (tgt := 20) hx hb dJ2_grow_2_7 (by decide) (fun c9 => ?_) (fun c9 => absurd (nI_lt (a := 0) (by omega) (by omega)) c9)
  refine lv_iload_n hx hb dJ2_grow_2_20 rfl (lv_at hl 0 rfl) ?_
  refine lv_iload_n hx hb dJ2_grow_2_21 rfl (lv_at hl 2 rfl) ?_
  refine lv_iload_n hx hb dJ2_grow_2_22 rfl (lv_at hl 0 rfl) ?_
  refine lv_isub hx hb dJ2_grow_2_23 ?_
  refine lv_iload_n hx hb dJ2_grow_2_24 rfl (lv_at hl 0 rfl) ?_
  refine lv_iconst (v := 1) hx hb dJ2_grow_2_25 (by decide) ?_
  refine lv_ishr hx hb dJ2_grow_2_26 ?_
  refine c_call (va_runS (As := [.int (nI cap), .int ((nI (cap + 1)) - (nI cap)), .int ((nI cap) >>> ((1 : Int32) &&& 31))]) (rest := []) ⟨hx, hb, hml, hown, hts⟩ (met_J11_newLength (r := nI (cap + max 1 (cap / 2))) (growN cap h2) (nI_nle (by omega) (by omega)) (growM cap h2)) (va_cwS 3 hts (lw_S q370 q371 q82 q372) rfl rfl rfl hd_J11_newLength ⟨Nat.le_of_ble_eq_true rfl, Nat.le_of_ble_eq_true rfl⟩) m_preS rfl rfl hl.1 rfl (lv_room (Nat.le_of_ble_eq_true rfl)) dJ2_grow_2_27 ⟨Nat.le_of_ble_eq_true rfl, Nat.le_of_ble_eq_true rfl⟩) ?_
  refine lv_istore_n (lv' := [(3, .int (nI (cap + max 1 (cap / 2)))), (2, .int (nI cap)), (0, .ref al), (1, .int (nI (cap + 1)))]) hx hb dJ2_grow_2_30 rfl hl (by decide) rfl (fun ls hl => ?_)
  refine lv_aload_n hx hb dJ2_grow_2_31 rfl (lv_at hl 2 rfl) ?_
  refine lv_aload_n hx hb dJ2_grow_2_32 rfl (lv_at hl 2 rfl) ?_
  refine va_get (ci := 9) (v := .ref ar) (C := RJ2) (T := TJ2) (N := 3) hx hb hts in_J2 hown hG.K hP 0 rfl rfl 1 (by decide) (hts _ q132) (fun _ h9 => h9) rfl dJ2_grow_2_33 ?_
  refine lv_iload_n hx hb dJ2_grow_2_36 rfl (lv_at hl 0 rfl) ?_
  have hPs := hP.perm (List.Perm.swap ((ar, .inl (kO k, cap, .inr (.inr (.inr (.inr (fun i => xs[i]?))))))) ((al, .inr (9, [.int md, .ref ar, .int (nI xs.length)]))) fr)
  have hDs := hD.perm (List.Perm.swap ((ar, .inl (kO k, cap, .inr (.inr (.inr (.inr (fun i => xs[i]?))))))) ((al, .inr (9, [.int md, .ref ar, .int (nI xs.length)]))) fr)
  refine c_callM (va_runS (As := [.ref ar, .int (nI (cap + max 1 (cap / 2)))]) (rest := [.ref al]) ⟨hx, hb, hml, hown, hts⟩ (met_J13_copyOf (fr := lsO al ar md xs :: fr) (Nat.le_of_eq hc) (by omega) (by omega) (fun y hy => (hE y hy).mono (fun q hq => List.mem_cons_of_mem _ hq)) hDs) (va_cwS 2 hts (lw_S q380 q381 q84 q382) rfl rfl rfl hd_J13_copyOf ⟨Nat.le_of_ble_eq_true rfl, Nat.le_of_ble_eq_true rfl⟩) (g_preS hG hS hPs) rfl rfl hl.1 rfl (lv_room (Nat.le_of_ble_eq_true rfl)) dJ2_grow_2_37 ⟨Nat.le_of_ble_eq_true rfl, Nat.le_of_ble_eq_true rfl⟩) hS (fun v w H locs hp hP hD hS => ?_)
  obtain ⟨q1, rfl, rfl⟩ := hp
  have hP : va_P (kD k) gCl ((q1, .inl (kO k, (cap + max 1 (cap / 2)), .inr (.inr (.inr (.inr (fun i => xs[i]?)))))) :: (ar, .inl (kO k, cap, .inr (.inr (.inr (.inr (fun i => xs[i]?)))))) :: (al, .inr (9, [.int md, .ref ar, .int (nI xs.length)])) :: fr) H := hP
  have hD : va_D (Ab k) ((q1, .inl (kO k, (cap + max 1 (cap / 2)), .inr (.inr (.inr (.inr (fun i => xs[i]?)))))) :: (ar, .inl (kO k, cap, .inr (.inr (.inr (.inr (fun i => xs[i]?)))))) :: (al, .inr (9, [.int md, .ref ar, .int (nI xs.length)])) :: fr) := hD
  refine lv_dup_x1 hx hb dJ2_grow_2_40 rfl rfl ?_
  refine va_put (ci := 9) (v := .ref q1) (ty := (tyJ2 1)) (C := RJ2) (T := TJ2) (N := 3) hx hb hts in_J2 tyJ2 tyJ2_ok nmJ2 hown hG.K hP hD hS 2 rfl rfl 1 (by decide) (hts _ q132) (fun _ h9 => h9) rfl (by decide +kernel) rfl rfl (Nat.le_of_ble_eq_true rfl) dJ2_grow_2_41 (fun H locs hP hD hS => ?_)
  have hP : va_P (kD k) gCl ((q1, .inl (kO k, (cap + max 1 (cap / 2)), .inr (.inr (.inr (.inr (fun i => xs[i]?)))))) :: (ar, .inl (kO k, cap, .inr (.inr (.inr (.inr (fun i => xs[i]?)))))) :: (al, .inr (9, [.int md, .ref q1, .int (nI xs.length)])) :: fr) H := hP
  have hD : va_D (Ab k) ((q1, .inl (kO k, (cap + max 1 (cap / 2)), .inr (.inr (.inr (.inr (fun i => xs[i]?)))))) :: (ar, .inl (kO k, cap, .inr (.inr (.inr (.inr (fun i => xs[i]?)))))) :: (al, .inr (9, [.int md, .ref q1, .int (nI xs.length)])) :: fr) := hD
  refine W.widen (k := 1) (n := 30) (Nat.le_of_ble_eq_true rfl) (Nat.le_of_ble_eq_true rfl) ?_
  exact W.aret hx hb hr (Or.inr ⟨_, rfl⟩) (Or.inr ⟨_, rfl⟩) (fun t ht hW => c_retM (w := lsO al q1 md xs :: rA k q1 (cap + max 1 (cap / 2)) xs :: fr) ⟨_, _, rfl, by omega, by omega, rfl⟩ (hP.of_mem (fun x hx => by simp only [List.mem_cons] at hx ⊢; rcases hx with h | h | h <;> simp [h])) ((hD.subl (List.Sublist.cons₂ _ (List.Sublist.cons _ (List.Sublist.refl _)))).perm (List.Perm.swap _ _ _)) hS ht) hS.2.2 dJ2_grow_2_44
