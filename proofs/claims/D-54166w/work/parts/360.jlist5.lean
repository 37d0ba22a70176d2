/-! lists: remove; cached Integers (printed by wip/gen/gen_jl5.py) -/
theorem up_del0 {xs : List Nat} {i : Nat} (hi : i < xs.length) (h : ¬ i < xs.length - 1) : va_up (fun j => xs[j]?) (xs.length - 1) none = fun j => (xs.eraseIdx i)[j]? := by
  rw [← up_del hi]
  have e : xs.length - 1 - i = 0 := by omega
  rw [e]
  congr 1
  funext j
  unfold va_cpy
  rw [if_neg (by omega)]
theorem hd_J2_fastRemove : yJ2_fastRemove.cls ≠ "java/lang/invoke/MethodHandle" ∧ yJ2_fastRemove.cls ≠ "java/lang/invoke/VarHandle" ∧ (parseMethodDescriptor yJ2_fastRemove.desc).map (fun d => d.parameters.length) = some 2 := by decide +kernel
set_option maxHeartbeats 4000000 in
set_option maxRecDepth 100000 in
theorem met_J2_fastRemove {l : Launch} {k : Cx} {al ar cap i : Nat} {md : Int32} {xs : List Nat} {fr : va_W} (hO : lsOk k ar cap xs) (hi : i < xs.length) (hE : ∀ y ∈ xs, Sto k fr y) (hD : va_D (Ab k) ((al, .inr (9, [.int md, .ref ar, .int (nI xs.length)])) :: (ar, .inl (kO k, cap, .inr (.inr (.inr (.inr (fun j => xs[j]?)))))) :: fr)) : Met l yJ2_fastRemove (ws_ yJ2_fastRemove cJ2_fastRemove 4 none) ({ frames := 1, cells := 0, slots := 0, locals := 60 } : Room) (gPc [.ref al, .ref ar, .int (nI i)] k ((al, .inr (9, [.int md, .ref ar, .int (nI xs.length)])) :: (ar, .inl (kO k, cap, .inr (.inr (.inr (.inr (fun j => xs[j]?)))))) :: fr)) (QcM k (fun v w => v = none ∧ w = lsO al ar (md + 1) (xs.eraseIdx i) :: rA k ar cap (xs.eraseIdx i) :: fr)) 0 0 (Ab k) := by
  refine va_MetF (cc := cJ2_fastRemove) (maxL := 4) (ret := none) (by decide +kernel) rfl ?_
  intro p e s m args below meth c s₁ B hml hv
  obtain ⟨rfl, hP, hG⟩ := hv
  have hx := B.exec
  have hb := B.bytes
  have hr := B.returns
  have hts := atoms_spec (ws := ws_ yJ2_fastRemove cJ2_fastRemove 4 none) B.pre
  have hts : ∀ w ∈ lw_all, w.before _ s = true := fun w h => hts w (List.mem_cons_of_mem _ h)
  have hown : s.vm.findClass RJ2 = some m.cls := findClass_of_methodNamed B.named
  have hlocks := B.notSynchronized
  have hl := lv_entry ([.ref al, .ref ar, .int (nI i)]) (n := 4) (Nat.le_of_ble_eq_true rfl)
  rw [lg_entry_eq]
  generalize (lg_sl ([.ref al, .ref ar, .int (nI i)]) ++ List.replicate (4 - (lg_sl ([.ref al, .ref ar, .int (nI i)])).length) Slot.unset).toArray = ls at hl ⊢
  have hl : lv_has ls 4 [(0, .ref al), (1, .ref ar), (2, .int (nI i))] := hl
  have hS : va_S (Ab k) s.heap s.heap [] := va_S.rf
  have hcap : xs.length ≤ cap ∧ cap ≤ 1000 := ⟨hO.1, hO.2.1⟩
  refine lv_aload_n hx hb dJ2_fastRemove_0 rfl (lv_at hl 0 rfl) ?_
  refine lv_dup hx hb dJ2_fastRemove_1 rfl ?_
  refine va_get (ci := 9) (v := .int md) (C := RJ2) (T := TJ2) (N := 3) hx hb hts in_J2 hown hG.K hP 0 rfl rfl 0 (by decide) (hts _ q139) (u_same (hts _ q138)) rfl dJ2_fastRemove_2 ?_
  refine lv_iconst (v := 1) hx hb dJ2_fastRemove_5 (by decide) ?_
  refine lv_iadd hx hb dJ2_fastRemove_6 ?_
  refine va_put (ci := 9) (v := .int (md + (1 : Int32))) (ty := .int) (C := RJ2) (T := TJ2) (N := 3) hx hb hts in_J2 tyJ2 tyJ2_ok nmJ2 hown hG.K hP hD hS 0 rfl rfl 0 (by decide) (hts _ q139) (u_same (hts _ q138)) rfl (by decide +kernel) rfl rfl (Nat.le_of_ble_eq_true rfl) dJ2_fastRemove_7 (fun H locs hP hD hS => ?_)
  have hP : va_P (kD k) gCl ((al, .inr (9, [.int (md + (1 : Int32)), .ref ar, .int (nI xs.length)])) :: (ar, .inl (kO k, cap, .inr (.inr (.inr (.inr (fun j => xs[j]?)))))) :: fr) H := hP
  have hD : va_D (Ab k) ((al, .inr (9, [.int (md + (1 : Int32)), .ref ar, .int (nI xs.length)])) :: (ar, .inl (kO k, cap, .inr (.inr (.inr (.inr (fun j => xs[j]?)))))) :: fr) := hD
  refine lv_aload_n hx hb dJ2_fastRemove_10 rfl (lv_at hl 0 rfl) ?_
  refine va_get (ci := 9) (v := .int (nI xs.length)) (C := RJ2) (T := TJ2) (N := 3) hx hb hts in_J2 hown hG.K hP 0 rfl rfl 2 (by decide) (hts _ q135) (fun _ h9 => h9) rfl dJ2_fastRemove_11 ?_
  refine lv_iconst (v := 1) hx hb dJ2_fastRemove_14 (by decide) ?_
  refine lv_isub hx hb dJ2_fastRemove_15 ?_
  rw [show nI xs.length - (1 : Int32) = nI (xs.length - 1) from pk_sub (a := xs.length) (b := 1) (by omega)]
  refine lv_dup hx hb dJ2_fastRemove_16 rfl ?_
  refine lv_istore_n (lv' := [(3, .int (nI (xs.length - 1))), (0, .ref al), (1, .ref ar), (2, .int (nI i))]) hx hb dJ2_fastRemove_17 rfl hl (by decide) rfl (fun ls hl => ?_)
  refine lv_iload_n hx hb dJ2_fastRemove_18 rfl (lv_at hl 3 rfl) ?_
  refine W.cutM (cells' := 0) (slots' := 0) (G := fun H locs ls => ∃ f : Nat → Option Nat, va_up f (xs.length - 1) none = (fun j => (xs.eraseIdx i)[j]?) ∧ va_P (kD k) gCl (lsO al ar (md + (1 : Int32)) xs :: (ar, .inl (kO k, cap, .inr (.inr (.inr (.inr f))))) :: fr) H ∧ va_D (Ab k) (lsO al ar (md + (1 : Int32)) xs :: (ar, .inl (kO k, cap, .inr (.inr (.inr (.inr f))))) :: fr) ∧ va_S (Ab k) s.heap H locs ∧ lv_has ls 4 [(3, .int (nI (xs.length - 1))), (0, .ref al), (1, .ref ar), (2, .int (nI i))]) (pc' := 34) (st' := []) (fun H locs ls hG9 => ?_) (fun K => ?_)
  · obtain ⟨f, gf, hP, hD, hS, hl⟩ := hG9
    refine lv_aload_n hx hb dJ2_fastRemove_34 rfl (lv_at hl 2 rfl) ?_
    refine lv_aload_n hx hb dJ2_fastRemove_35 rfl (lv_at hl 1 rfl) ?_
    refine lv_iload_n hx hb dJ2_fastRemove_36 rfl (lv_at hl 0 rfl) ?_
    refine lv_dup_x1 hx hb dJ2_fastRemove_37 rfl rfl ?_
    rw [show nI (xs.length - 1) = nI (xs.eraseIdx i).length from by rw [List.length_eraseIdx_of_lt hi]]
    refine va_put (ci := 9) (v := .int (nI (xs.eraseIdx i).length)) (ty := .int) (C := RJ2) (T := TJ2) (N := 3) hx hb hts in_J2 tyJ2 tyJ2_ok nmJ2 hown hG.K hP hD hS 0 rfl rfl 2 (by decide) (hts _ q135) (fun _ h9 => h9) rfl (by decide +kernel) rfl rfl (Nat.le_of_ble_eq_true rfl) dJ2_fastRemove_38 (fun H locs hP hD hS => ?_)
    have hP : va_P (kD k) gCl ((al, .inr (9, [.int (md + (1 : Int32)), .ref ar, .int (nI (xs.eraseIdx i).length)])) :: (ar, .inl (kO k, cap, .inr (.inr (.inr (.inr f))))) :: fr) H := hP
    have hD : va_D (Ab k) ((al, .inr (9, [.int (md + (1 : Int32)), .ref ar, .int (nI (xs.eraseIdx i).length)])) :: (ar, .inl (kO k, cap, .inr (.inr (.inr (.inr f))))) :: fr) := hD
    refine lv_null hx hb dJ2_fastRemove_41 ?_
    refine va_astqN hx hb hG.K hP hD hS 1 1 rfl rfl (by rw [List.length_eraseIdx_of_lt hi]; exact vp_in_nI (by omega) (by omega)) dJ2_fastRemove_42 (fun H locs hP hD hS => ?_)
    rw [show (nI (xs.eraseIdx i).length).toNatClampNeg = xs.length - 1 from by rw [List.length_eraseIdx_of_lt hi]; exact nI_clamp (by omega), gf] at hP hD
    have hP : va_P (kD k) gCl ((al, .inr (9, [.int (md + (1 : Int32)), .ref ar, .int (nI (xs.eraseIdx i).length)])) :: (ar, .inl (kO k, cap, .inr (.inr (.inr (.inr (fun j => (xs.eraseIdx i)[j]?)))))) :: fr) H := hP
    have hD : va_D (Ab k) ((al, .inr (9, [.int (md + (1 : Int32)), .ref ar, .int (nI (xs.eraseIdx i).length)])) :: (ar, .inl (kO k, cap, .inr (.inr (.inr (.inr (fun j => (xs.eraseIdx i)[j]?)))))) :: fr) := hD
    exact W.vret hx hb hr (fun t ht hW => c_retM (w := (al, .inr (9, [.int (md + (1 : Int32)), .ref ar, .int (nI (xs.eraseIdx i).length)])) :: (ar, .inl (kO k, cap, .inr (.inr (.inr (.inr (fun j => (xs.eraseIdx i)[j]?)))))) :: fr) ⟨rfl, rfl⟩ hP hD hS ht) hS.2.2 dJ2_fastRemove_43
  · refine lv_icmp_le (tgt := 34) hx hb dJ2_fastRemove_19 (by decide) (fun c9 => ?_) (fun c9 => ?_)
    · have c8 : ¬ i < xs.length - 1 := by rw [nI_leI (by omega) (by omega)] at c9; omega
      exact K _ _ _ ⟨_, up_del0 hi c8, hP, hD, hS, hl⟩
    · have c8 : i < xs.length - 1 := by rw [nI_leI (by omega) (by omega)] at c9; omega
      refine lv_aload_n hx hb dJ2_fastRemove_22 rfl (lv_at hl 2 rfl) ?_
      refine lv_iload_n hx hb dJ2_fastRemove_23 rfl (lv_at hl 3 rfl) ?_
      refine lv_iconst (v := 1) hx hb dJ2_fastRemove_24 (by decide) ?_
      refine lv_iadd hx hb dJ2_fastRemove_25 ?_
      refine lv_aload_n hx hb dJ2_fastRemove_26 rfl (lv_at hl 2 rfl) ?_
      refine lv_iload_n hx hb dJ2_fastRemove_27 rfl (lv_at hl 3 rfl) ?_
      refine lv_iload_n hx hb dJ2_fastRemove_28 rfl (lv_at hl 0 rfl) ?_
      refine lv_iload_n hx hb dJ2_fastRemove_29 rfl (lv_at hl 3 rfl) ?_
      refine lv_isub hx hb dJ2_fastRemove_30 ?_
      rw [show nI i + (1 : Int32) = nI (i + 1) from nI_1 i, pk_sub (show i ≤ xs.length - 1 by omega)]
      refine va_copyM hx hb (hml.trans hl.1.symm) hown (hts _ q436) (hts _ q411) (hts _ q410) (hts _ q85) hG.K hP hD hS 1 1 1 1 rfl rfl rfl rfl (nI_pos (by omega)) (nI_pos (by omega)) (nI_pos (by omega)) (by rw [nI_clamp (by omega), nI_clamp (by omega)]; omega) (by rw [nI_clamp (by omega), nI_clamp (by omega)]; omega) (fun j hj y hy => sto_any (hE y (List.mem_of_getElem? hy)) hG hS hP (fun q hq => List.mem_cons_of_mem _ (List.mem_cons_of_mem _ hq))) (Nat.le_of_ble_eq_true rfl) (Nat.le_of_ble_eq_true rfl) dJ2_fastRemove_31 (fun H locs hP hD hS => ?_)
      rw [nI_clamp (show i < 2 ^ 31 by omega), nI_clamp (show i + 1 < 2 ^ 31 by omega), nI_clamp (show xs.length - 1 - i < 2 ^ 31 by omega)] at hP hD
      exact K _ _ _ ⟨_, up_del hi, hP, hD, hS, hl⟩
theorem hd_J2_remove : yJ2_remove.cls ≠ "java/lang/invoke/MethodHandle" ∧ yJ2_remove.cls ≠ "java/lang/invoke/VarHandle" ∧ (parseMethodDescriptor yJ2_remove.desc).map (fun d => d.parameters.length) = some 1 := by decide +kernel
set_option maxHeartbeats 4000000 in
set_option maxRecDepth 100000 in
theorem met_J2_remove {l : Launch} {k : Cx} {al ar cap i y : Nat} {md : Int32} {xs : List Nat} {fr : va_W} (hO : lsOk k ar cap xs) (hy : xs[i]? = some y) (hE : ∀ y ∈ xs, Sto k fr y) (hD : va_D (Ab k) ((al, .inr (9, [.int md, .ref ar, .int (nI xs.length)])) :: (ar, .inl (kO k, cap, .inr (.inr (.inr (.inr (fun j => xs[j]?)))))) :: fr)) : Met l yJ2_remove (ws_ yJ2_remove cJ2_remove 4 (Option.some (Jvm.ClassFile.FieldType.object "java/lang/Object"))) ({ frames := 3, cells := 0, slots := 0, locals := 83 } : Room) (gPc [.ref al, .int (nI i)] k ((al, .inr (9, [.int md, .ref ar, .int (nI xs.length)])) :: (ar, .inl (kO k, cap, .inr (.inr (.inr (.inr (fun j => xs[j]?)))))) :: fr)) (QcM k (fun v w => v = some (.ref y) ∧ w = lsO al ar (md + 1) (xs.eraseIdx i) :: rA k ar cap (xs.eraseIdx i) :: fr)) 0 0 (Ab k) := by
  refine va_MetF (cc := cJ2_remove) (maxL := 4) (ret := (Option.some (Jvm.ClassFile.FieldType.object "java/lang/Object"))) (by decide +kernel) rfl ?_
  intro p e s m args below meth c s₁ B hml hv
  obtain ⟨rfl, hP, hG⟩ := hv
  have hx := B.exec
  have hb := B.bytes
  have hr := B.returns
  have hts := atoms_spec (ws := ws_ yJ2_remove cJ2_remove 4 (Option.some (Jvm.ClassFile.FieldType.object "java/lang/Object"))) B.pre
  have hts : ∀ w ∈ lw_all, w.before _ s = true := fun w h => hts w (List.mem_cons_of_mem _ h)
  have hown : s.vm.findClass RJ2 = some m.cls := findClass_of_methodNamed B.named
  have hlocks := B.notSynchronized
  have hl := lv_entry ([.ref al, .int (nI i)]) (n := 4) (Nat.le_of_ble_eq_true rfl)
  rw [lg_entry_eq]
  generalize (lg_sl ([.ref al, .int (nI i)]) ++ List.replicate (4 - (lg_sl ([.ref al, .int (nI i)])).length) Slot.unset).toArray = ls at hl ⊢
  have hl : lv_has ls 4 [(0, .ref al), (1, .int (nI i))] := hl
  have hS : va_S (Ab k) s.heap s.heap [] := va_S.rf
  have hi : i < xs.length := (List.getElem?_eq_some_iff.mp hy).1
  have hcap : xs.length ≤ cap ∧ cap ≤ 1000 := ⟨hO.1, hO.2.1⟩
  refine lv_iload_n hx hb dJ2_remove_0 rfl (lv_at hl 1 rfl) ?_
  refine lv_aload_n hx hb dJ2_remove_1 rfl (lv_at hl 0 rfl) ?_
  refine va_get (ci := 9) (v := .int (nI xs.length)) (C := RJ2) (T := TJ2) (N := 3) hx hb hts in_J2 hown hG.K hP 0 rfl rfl 2 (by decide) (hts _ q135) (fun _ h9 => h9) rfl dJ2_remove_2 ?_
  refine c_call (va_runS (As := [.int (nI i), .int (nI xs.length)]) (rest := []) ⟨hx, hb, hml, hown, hts⟩ (met_J8_checkIndex (nI_pos (by omega)) (nI_lt hi (by omega))) (va_cwS 2 hts (lw_S q261 q262 q79 q263) rfl rfl rfl hd_J8_checkIndex ⟨Nat.le_of_ble_eq_true rfl, Nat.le_of_ble_eq_true rfl⟩) m_preS rfl rfl hl.1 rfl (lv_room (Nat.le_of_ble_eq_true rfl)) dJ2_remove_5 ⟨Nat.le_of_ble_eq_true rfl, Nat.le_of_ble_eq_true rfl⟩) ?_
  refine lv_pop hx hb dJ2_remove_8 rfl ?_
  refine lv_aload_n hx hb dJ2_remove_9 rfl (lv_at hl 0 rfl) ?_
  refine va_get (ci := 9) (v := .ref ar) (C := RJ2) (T := TJ2) (N := 3) hx hb hts in_J2 hown hG.K hP 0 rfl rfl 1 (by decide) (hts _ q132) (fun _ h9 => h9) rfl dJ2_remove_10 ?_
  refine lv_astore_n (lv' := [(2, .ref ar), (0, .ref al), (1, .int (nI i))]) hx hb dJ2_remove_13 rfl hl (by decide) rfl (fun ls hl => ?_)
  refine lv_aload_n hx hb dJ2_remove_14 rfl (lv_at hl 0 rfl) ?_
  refine lv_iload_n hx hb dJ2_remove_15 rfl (lv_at hl 2 rfl) ?_
  refine va_aldq hx hb hG.K hP 1 1 rfl rfl (vp_in_nI (by omega) (by omega)) dJ2_remove_16 ?_
  rw [nI_clamp (show i < 2 ^ 31 by omega), hy]
  refine lv_astore_n (lv' := [(3, .ref y), (2, .ref ar), (0, .ref al), (1, .int (nI i))]) hx hb dJ2_remove_17 rfl hl (by decide) rfl (fun ls hl => ?_)
  refine lv_aload_n hx hb dJ2_remove_18 rfl (lv_at hl 2 rfl) ?_
  refine lv_aload_n hx hb dJ2_remove_19 rfl (lv_at hl 1 rfl) ?_
  refine lv_iload_n hx hb dJ2_remove_20 rfl (lv_at hl 3 rfl) ?_
  refine c_callM (va_runV (As := [.ref ar, .int (nI i)]) (rest := []) ⟨hx, hb, hml, hown, hts⟩ (met_J2_fastRemove hO hi hE hD) (cwV 2 hts (lw_V q580 q582 qs7 q71 q583) rfl rfl rfl ⟨rfl, hd_J2_fastRemove⟩ ⟨Nat.le_of_ble_eq_true rfl, Nat.le_of_ble_eq_true rfl⟩) (g_preV hG hS hP (va_recv hG.K hP (ci := 9) (q0 := 0) rfl rfl)) rfl rfl hl.1 rfl (lv_room (Nat.le_of_ble_eq_true rfl)) dJ2_remove_21 ⟨Nat.le_of_ble_eq_true rfl, Nat.le_of_ble_eq_true rfl⟩) hS (fun v w H locs hp hP hD hS => ?_)
  obtain ⟨rfl, rfl⟩ := hp
  have hP : va_P (kD k) gCl ((al, .inr (9, [.int (md + (1 : Int32)), .ref ar, .int (nI (xs.eraseIdx i).length)])) :: (ar, .inl (kO k, cap, .inr (.inr (.inr (.inr (fun j => (xs.eraseIdx i)[j]?)))))) :: fr) H := hP
  have hD : va_D (Ab k) ((al, .inr (9, [.int (md + (1 : Int32)), .ref ar, .int (nI (xs.eraseIdx i).length)])) :: (ar, .inl (kO k, cap, .inr (.inr (.inr (.inr (fun j => (xs.eraseIdx i)[j]?)))))) :: fr) := hD
  refine lv_aload_n hx hb dJ2_remove_24 rfl (lv_at hl 0 rfl) ?_
  exact W.aret hx hb hr (Or.inl ⟨_, rfl⟩) (Or.inr ⟨_, rfl⟩) (fun t ht hW => c_retM (w := (al, .inr (9, [.int (md + (1 : Int32)), .ref ar, .int (nI (xs.eraseIdx i).length)])) :: (ar, .inl (kO k, cap, .inr (.inr (.inr (.inr (fun j => (xs.eraseIdx i)[j]?)))))) :: fr) ⟨rfl, rfl⟩ hP hD hS ht) hS.2.2 dJ2_remove_25
theorem vo1 : ∀ n : Nat, n < 16 → (¬ nI n < -128) ∧ ¬ (127 : Int32) < nI n := by decide +kernel
theorem vo_e {n : Nat} (hn : n < 16) : nI n + 128 = nI (n + 128) := nI_add n 128
theorem hd_J17_valueOf : yJ17_valueOf.cls ≠ "java/lang/invoke/MethodHandle" ∧ yJ17_valueOf.cls ≠ "java/lang/invoke/VarHandle" ∧ (parseMethodDescriptor yJ17_valueOf.desc).map (fun d => d.parameters.length) = some 1 := by decide +kernel
set_option maxHeartbeats 4000000 in
set_option maxRecDepth 100000 in
theorem met_J17_valueOf {l : Launch} {k : Cx} {n : Nat} (hn : n < 16) : Met l yJ17_valueOf (ws_ yJ17_valueOf cJ17_valueOf 1 (Option.some (Jvm.ClassFile.FieldType.object "java/lang/Integer"))) ({ frames := 1, cells := 0, slots := 0, locals := 12 } : Room) (gPc [.int (nI n)] k []) (QcV (some (.ref (bxA k (nI n))))) 0 0 (fun _ => False) := by
  refine va_MetF (cc := cJ17_valueOf) (maxL := 1) (ret := (Option.some (Jvm.ClassFile.FieldType.object "java/lang/Integer"))) (by decide +kernel) rfl ?_
  intro p e s m args below meth c s₁ B hml hv
  obtain ⟨rfl, hP, hG⟩ := hv
  have hx := B.exec
  have hb := B.bytes
  have hr := B.returns
  have hts := atoms_spec (ws := ws_ yJ17_valueOf cJ17_valueOf 1 (Option.some (Jvm.ClassFile.FieldType.object "java/lang/Integer"))) B.pre
  have hts : ∀ w ∈ lw_all, w.before _ s = true := fun w h => hts w (List.mem_cons_of_mem _ h)
  have hown : s.vm.findClass RJ17 = some m.cls := findClass_of_methodNamed B.named
  have hlocks := B.notSynchronized
  have hl := lv_entry ([.int (nI n)]) (n := 1) (Nat.le_of_ble_eq_true rfl)
  rw [lg_entry_eq]
  generalize (lg_sl ([.int (nI n)]) ++ List.replicate (1 - (lg_sl ([.int (nI n)])).length) Slot.unset).toArray = ls at hl ⊢
  have hl : lv_has ls 1 [(0, .int (nI n))] := hl
  refine lv_iload_n hx hb dJ17_valueOf_0 rfl (lv_at hl 0 rfl) ?_
  refine lv_bipush (v := -128) hx hb dJ17_valueOf_1 (by decide) ?_
  refine lv_icmp_lt (tgt := 23) hx hb dJ17_valueOf_3 (by decide) (fun c9 => absurd c9 (vo1 n hn).1) (fun c9 => ?_)
  refine lv_iload_n hx hb dJ17_valueOf_6 rfl (lv_at hl 0 rfl) ?_
  refine va_gets hx hb hG.h va_S.rf hown (hts _ q554) (fun _ h9 => h9) dJ17_valueOf_7 ?_
  refine lv_icmp_gt (tgt := 23) hx hb dJ17_valueOf_10 (by decide) (fun c9 => absurd c9 (vo1 n hn).2) (fun c9 => ?_)
  refine va_gets hx hb hG.c va_S.rf hown (hts _ q556) (fun _ h9 => h9) dJ17_valueOf_13 ?_
  refine lv_iload_n hx hb dJ17_valueOf_16 rfl (lv_at hl 0 rfl) ?_
  refine lv_sipush (v := 128) hx hb dJ17_valueOf_17 (by decide) ?_
  refine lv_iadd hx hb dJ17_valueOf_20 ?_
  refine vb_tq hx hb hG.cT va_S.rf (i := nI n + 128) (v := .ref (bxA k (nI n))) (by rw [vo_e hn]; exact vp_in_nI (by omega) (by omega)) (by rw [vo_e hn, nI_clamp (by omega)]; show Value.ref (kI k (n + 128)) = .ref (kI k ((nI n).toNatClampNeg + 128)); rw [nI_clamp (by omega)]) dJ17_valueOf_21 ?_
  exact W.aret hx hb hr (Or.inl ⟨_, rfl⟩) (Or.inr ⟨_, rfl⟩) (fun t ht hW => c_ret ht) (fun q hq => absurd hq List.not_mem_nil) dJ17_valueOf_22
