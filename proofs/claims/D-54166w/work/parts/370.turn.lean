/-! turns and the store are made (printed by wip/gen/gen_turn.py) -/
/-- lists one behind another -/
def cat : List va_W → va_W → va_W
  | [], fr => fr
  | a :: as, fr => a ++ cat as fr
theorem cat_perm {as bs : List va_W} {fr : va_W} (h : as.Perm bs) : (cat as fr).Perm (cat bs fr) := by
  induction h with
  | nil => exact List.Perm.refl _
  | cons x _ ih => exact ih.append_left x
  | swap x y l =>
    show (y ++ (x ++ cat l fr)).Perm (x ++ (y ++ cat l fr))
    rw [← List.append_assoc, ← List.append_assoc]
    exact (List.perm_append_comm).append_right _
  | trans _ _ h1 h2 => exact h1.trans h2
theorem pick_range (as : List va_W) : (List.range as.length).filterMap (fun i => as[i]?) = as := by
  induction as with
  | nil => rfl
  | cons a as ih =>
    rw [List.length_cons, List.range_succ_eq_map, List.filterMap_cons]
    show a :: List.filterMap _ _ = _
    rw [List.filterMap_map]
    congr 1
theorem cat_pick (as : List va_W) (fr : va_W) (is : List Nat) (n : Nat) (hn : as.length = n) (h : is.Perm (List.range n)) : (cat as fr).Perm (cat (is.filterMap (fun i => as[i]?)) fr) := by
  subst hn
  refine cat_perm ?_
  have h1 := (h.filterMap (fun i => as[i]?)).symm
  rw [pick_range] at h1
  exact h1
theorem psw (X Y Z : va_W) : (X ++ (Y ++ Z)).Perm (Y ++ (X ++ Z)) := by
  rw [← List.append_assoc, ← List.append_assoc]
  exact (List.perm_append_comm).append_right Z
theorem hd_X4_init_2 : yX4_init_2.cls ≠ "java/lang/invoke/MethodHandle" ∧ yX4_init_2.cls ≠ "java/lang/invoke/VarHandle" ∧ (parseMethodDescriptor yX4_init_2.desc).map (fun d => d.parameters.length) = some 3 := by decide +kernel
set_option maxHeartbeats 4000000 in
set_option maxRecDepth 100000 in
theorem met_X4_init_2 {l : Launch} {k : Cx} {q : Nat} {b e1 p1 : Int32} {fr : va_W} (hD : va_D (Ab k) ((q, .inr (4, [.int 0, .int 0, .int 0, .int 0, .null])) :: fr)) : Met l yX4_init_2 (ws_ yX4_init_2 cX4_init_2 4 none) ({ frames := 4, cells := 1, slots := 3, locals := 84 } : Room) (gPc [.ref q, .int b, .int e1, .int p1] k ((q, .inr (4, [.int 0, .int 0, .int 0, .int 0, .null])) :: fr)) (QcM k (fun v w => ∃ al, v = none ∧ w = tuW k ((q, al, ke k, 0, 0), (b, e1, p1, -1, [])) ++ fr)) 1 3 (Ab k) := by
  refine Met.ofW (cc := cX4_init_2) (maxL := 4) (ret := none) (by decide) rfl ?_
  intro p e s m args below meth c s₁ B hml hv
  obtain ⟨rfl, hP, hG⟩ := hv
  have hx := B.exec
  have hb := B.bytes
  have hr := B.returns
  have hts := atoms_spec (ws := ws_ yX4_init_2 cX4_init_2 4 none) B.pre
  have hts : ∀ w ∈ lw_all, w.before _ s = true := fun w h => hts w (List.mem_cons_of_mem _ h)
  have hown : s.vm.findClass RX4 = some m.cls := findClass_of_methodNamed B.named
  have hlocks := B.notSynchronized
  have hl := lv_entry ([.ref q, .int b, .int e1, .int p1]) (n := 4) (Nat.le_of_ble_eq_true rfl)
  rw [lg_entry_eq]
  generalize (lg_sl ([.ref q, .int b, .int e1, .int p1]) ++ List.replicate (4 - (lg_sl ([.ref q, .int b, .int e1, .int p1])).length) Slot.unset).toArray = ls at hl ⊢
  have hl : lv_has ls 4 [(0, .ref q), (1, .int b), (2, .int e1), (3, .int p1)] := hl
  have hS : va_S (Ab k) s.heap s.heap [] := va_S.rf
  have hin : meth.name = "<init>" := (name_of_methodNamed B.named B.method).1
  refine lv_aload_n hx hb dX4_init_2_0 rfl (lv_at hl 0 rfl) ?_
  refine W.objInit hx hb hown (hts _ q278) (hts _ q104) (hts _ q105) rfl (by rw [hml]; exact hl.1) rfl dX4_init_2_1 (Nat.le_of_ble_eq_true rfl) (Nat.le_of_ble_eq_true rfl) ?_
  refine W.eq (g2 := F0 m 4 ls []) rfl ?_
  refine lv_aload_n hx hb dX4_init_2_4 rfl (lv_at hl 0 rfl) ?_
  refine lv_iconst (v := -1) hx hb dX4_init_2_5 (by decide) ?_
  refine va_put (ci := 4) (v := .int (-1 : Int32)) (ty := .int) (C := RX4) (T := TX4) (N := 5) hx hb hts in_X4 tyX4 tyX4_ok nmX4 hown hG.K hP hD hS 0 rfl rfl 3 (by decide) (hts _ q290) (fun _ h9 => h9) rfl (by decide +kernel) rfl rfl (Nat.le_of_ble_eq_true rfl) dX4_init_2_6 (fun H locs hP hD hS => ?_)
  have hP : va_P (kD k) gCl ((q, .inr (4, [.int 0, .int 0, .int 0, .int (-1 : Int32), .null])) :: fr) H := hP
  have hD : va_D (Ab k) ((q, .inr (4, [.int 0, .int 0, .int 0, .int (-1 : Int32), .null])) :: fr) := hD
  refine lv_aload_n hx hb dX4_init_2_9 rfl (lv_at hl 0 rfl) ?_
  refine va_new (ci := 9) (fs := [.int 0, .null, .int 0]) (C := RJ2) (T := TJ2) (N := 3) hx hb hts in_J2 tyJ2 tyJ2_ok hown (hts _ q279) (hts _ q119) (hts _ q71) hG.K hP hD hS hG.A rfl (fun j hj => by rcases (show j = 0 ∨ j = 1 ∨ j = 2 by omega) with rfl | rfl | rfl <;> rfl) (Nat.le_of_ble_eq_true rfl) (Nat.le_of_ble_eq_true rfl) dX4_init_2_10 (fun q1 H hP hD hS => ?_)
  have hP := hP.rot
  have hD := hD.rot
  have hP : va_P (kD k) gCl ((q1, .inr (9, [.int 0, .null, .int 0])) :: ((q, .inr (4, [.int 0, .int 0, .int 0, .int (-1 : Int32), .null])) :: fr)) H := hP
  have hD : va_D (Ab k) ((q1, .inr (9, [.int 0, .null, .int 0])) :: ((q, .inr (4, [.int 0, .int 0, .int 0, .int (-1 : Int32), .null])) :: fr)) := hD
  refine lv_dup hx hb dX4_init_2_13 rfl ?_
  refine c_callM (va_runI (As := []) (rest := [.ref q1, .ref q]) ⟨hx, hb, hml, hown, hts⟩ (met_J2_init hD) (cwI 0 hts (lw_meth q122) rfl rfl rfl (hts _ q71) (hts _ q280) (hts _ q121) rfl hd_J2_init ⟨Nat.le_of_ble_eq_true rfl, Nat.le_of_ble_eq_true rfl⟩) (g_preS hG hS hP) rfl rfl hl.1 rfl (lv_room (Nat.le_of_ble_eq_true rfl)) dX4_init_2_14 ⟨Nat.le_of_ble_eq_true rfl, Nat.le_of_ble_eq_true rfl⟩) hS (fun v w H locs hp hP hD hS => ?_)
  obtain ⟨rfl, rfl⟩ := hp
  have hP : va_P (kD k) gCl ((q1, .inr (9, [.int 0, .ref (ke k), .int (nI ([] : List Nat).length)])) :: ((q, .inr (4, [.int 0, .int 0, .int 0, .int (-1 : Int32), .null])) :: fr)) H := hP
  have hD : va_D (Ab k) ((q1, .inr (9, [.int 0, .ref (ke k), .int (nI ([] : List Nat).length)])) :: ((q, .inr (4, [.int 0, .int 0, .int 0, .int (-1 : Int32), .null])) :: fr)) := hD
  refine va_putF (ci := 4) (v := .ref q1) (ty := (tyX4 4)) (C := RX4) (T := TX4) (N := 5) hx hb hts in_X4 tyX4 tyX4_ok nmX4 hown hG.K hP hD hS 1 rfl rfl 4 (by decide) (hts _ q293) (fun _ h9 => h9) rfl hin rfl (by decide +kernel) rfl rfl (Nat.le_of_ble_eq_true rfl) dX4_init_2_17 (fun H locs hP hD hS => ?_)
  have hP : va_P (kD k) gCl ((q1, .inr (9, [.int 0, .ref (ke k), .int (nI ([] : List Nat).length)])) :: ((q, .inr (4, [.int 0, .int 0, .int 0, .int (-1 : Int32), .ref q1])) :: fr)) H := hP
  have hD : va_D (Ab k) ((q1, .inr (9, [.int 0, .ref (ke k), .int (nI ([] : List Nat).length)])) :: ((q, .inr (4, [.int 0, .int 0, .int 0, .int (-1 : Int32), .ref q1])) :: fr)) := hD
  refine lv_aload_n hx hb dX4_init_2_20 rfl (lv_at hl 0 rfl) ?_
  refine lv_iload_n hx hb dX4_init_2_21 rfl (lv_at hl 1 rfl) ?_
  refine va_putF (ci := 4) (v := .int b) (ty := .int) (C := RX4) (T := TX4) (N := 5) hx hb hts in_X4 tyX4 tyX4_ok nmX4 hown hG.K hP hD hS 1 rfl rfl 0 (by decide) (hts _ q281) (fun _ h9 => h9) rfl hin rfl (by decide +kernel) rfl rfl (Nat.le_of_ble_eq_true rfl) dX4_init_2_22 (fun H locs hP hD hS => ?_)
  have hP : va_P (kD k) gCl ((q1, .inr (9, [.int 0, .ref (ke k), .int (nI ([] : List Nat).length)])) :: ((q, .inr (4, [.int b, .int 0, .int 0, .int (-1 : Int32), .ref q1])) :: fr)) H := hP
  have hD : va_D (Ab k) ((q1, .inr (9, [.int 0, .ref (ke k), .int (nI ([] : List Nat).length)])) :: ((q, .inr (4, [.int b, .int 0, .int 0, .int (-1 : Int32), .ref q1])) :: fr)) := hD
  refine lv_aload_n hx hb dX4_init_2_25 rfl (lv_at hl 0 rfl) ?_
  refine lv_iload_n hx hb dX4_init_2_26 rfl (lv_at hl 2 rfl) ?_
  refine va_put (ci := 4) (v := .int e1) (ty := .int) (C := RX4) (T := TX4) (N := 5) hx hb hts in_X4 tyX4 tyX4_ok nmX4 hown hG.K hP hD hS 1 rfl rfl 1 (by decide) (hts _ q284) (fun _ h9 => h9) rfl (by decide +kernel) rfl rfl (Nat.le_of_ble_eq_true rfl) dX4_init_2_27 (fun H locs hP hD hS => ?_)
  have hP : va_P (kD k) gCl ((q1, .inr (9, [.int 0, .ref (ke k), .int (nI ([] : List Nat).length)])) :: ((q, .inr (4, [.int b, .int e1, .int 0, .int (-1 : Int32), .ref q1])) :: fr)) H := hP
  have hD : va_D (Ab k) ((q1, .inr (9, [.int 0, .ref (ke k), .int (nI ([] : List Nat).length)])) :: ((q, .inr (4, [.int b, .int e1, .int 0, .int (-1 : Int32), .ref q1])) :: fr)) := hD
  refine lv_aload_n hx hb dX4_init_2_30 rfl (lv_at hl 0 rfl) ?_
  refine lv_iload_n hx hb dX4_init_2_31 rfl (lv_at hl 3 rfl) ?_
  refine va_putF (ci := 4) (v := .int p1) (ty := .int) (C := RX4) (T := TX4) (N := 5) hx hb hts in_X4 tyX4 tyX4_ok nmX4 hown hG.K hP hD hS 1 rfl rfl 2 (by decide) (hts _ q287) (fun _ h9 => h9) rfl hin rfl (by decide +kernel) rfl rfl (Nat.le_of_ble_eq_true rfl) dX4_init_2_32 (fun H locs hP hD hS => ?_)
  have hP : va_P (kD k) gCl ((q1, .inr (9, [.int 0, .ref (ke k), .int (nI ([] : List Nat).length)])) :: ((q, .inr (4, [.int b, .int e1, .int p1, .int (-1 : Int32), .ref q1])) :: fr)) H := hP
  have hD : va_D (Ab k) ((q1, .inr (9, [.int 0, .ref (ke k), .int (nI ([] : List Nat).length)])) :: ((q, .inr (4, [.int b, .int e1, .int p1, .int (-1 : Int32), .ref q1])) :: fr)) := hD
  have hpm := cat_pick [[(q1, .inr (9, [.int 0, .ref (ke k), .int (nI ([] : List Nat).length)]))], [(q, .inr (4, [.int b, .int e1, .int p1, .int (-1 : Int32), .ref q1]))]] (fr) [1, 0] 2 rfl (by decide)
  have hP : va_P (kD k) gCl ((q, .inr (4, [.int b, .int e1, .int p1, .int (-1 : Int32), .ref q1])) :: ((q1, .inr (9, [.int 0, .ref (ke k), .int (nI ([] : List Nat).length)])) :: fr)) _ := hP.perm hpm
  have hD : va_D (Ab k) ((q, .inr (4, [.int b, .int e1, .int p1, .int (-1 : Int32), .ref q1])) :: ((q1, .inr (9, [.int 0, .ref (ke k), .int (nI ([] : List Nat).length)])) :: fr)) := hD.perm hpm
  refine W.widen (k := 1) (n := 3) (Nat.le_of_ble_eq_true rfl) (Nat.le_of_ble_eq_true rfl) ?_
  exact W.vret hx hb hr (fun t ht hW => c_retM (w := (q, .inr (4, [.int b, .int e1, .int p1, .int (-1 : Int32), .ref q1])) :: ((q1, .inr (9, [.int 0, .ref (ke k), .int (nI ([] : List Nat).length)])) :: fr)) ⟨q1, rfl, rfl⟩ hP hD hS ht) hS.2.2 dX4_init_2_35
theorem hd_X2_init : yX2_init.cls ≠ "java/lang/invoke/MethodHandle" ∧ yX2_init.cls ≠ "java/lang/invoke/VarHandle" ∧ (parseMethodDescriptor yX2_init.desc).map (fun d => d.parameters.length) = some 0 := by decide +kernel
set_option maxHeartbeats 4000000 in
set_option maxRecDepth 100000 in
theorem met_X2_init {l : Launch} {k : Cx} {q : Nat} {fr : va_W} (hD : va_D (Ab k) ((q, .inr (2, [.null])) :: fr)) : Met l yX2_init (ws_ yX2_init cX2_init 1 none) ({ frames := 4, cells := 1, slots := 3, locals := 84 } : Room) (gPc [.ref q] k ((q, .inr (2, [.null])) :: fr)) (QcM k (fun v w => ∃ al, v = none ∧ w = (q, .inr (2, [.ref al])) :: lsO al (ke k) 0 [] :: fr)) 1 3 (Ab k) := by
  refine Met.ofW (cc := cX2_init) (maxL := 1) (ret := none) (by decide) rfl ?_
  intro p e s m args below meth c s₁ B hml hv
  obtain ⟨rfl, hP, hG⟩ := hv
  have hx := B.exec
  have hb := B.bytes
  have hr := B.returns
  have hts := atoms_spec (ws := ws_ yX2_init cX2_init 1 none) B.pre
  have hts : ∀ w ∈ lw_all, w.before _ s = true := fun w h => hts w (List.mem_cons_of_mem _ h)
  have hown : s.vm.findClass RX2 = some m.cls := findClass_of_methodNamed B.named
  have hlocks := B.notSynchronized
  have hl := lv_entry ([.ref q]) (n := 1) (Nat.le_of_ble_eq_true rfl)
  rw [lg_entry_eq]
  generalize (lg_sl ([.ref q]) ++ List.replicate (1 - (lg_sl ([.ref q])).length) Slot.unset).toArray = ls at hl ⊢
  have hl : lv_has ls 1 [(0, .ref q)] := hl
  have hS : va_S (Ab k) s.heap s.heap [] := va_S.rf
  have hin : meth.name = "<init>" := (name_of_methodNamed B.named B.method).1
  refine lv_aload_n hx hb dX2_init_0 rfl (lv_at hl 0 rfl) ?_
  refine W.objInit hx hb hown (hts _ q117) (hts _ q104) (hts _ q105) rfl (by rw [hml]; exact hl.1) rfl dX2_init_1 (Nat.le_of_ble_eq_true rfl) (Nat.le_of_ble_eq_true rfl) ?_
  refine W.eq (g2 := F0 m 4 ls []) rfl ?_
  refine lv_aload_n hx hb dX2_init_4 rfl (lv_at hl 0 rfl) ?_
  refine va_new (ci := 9) (fs := [.int 0, .null, .int 0]) (C := RJ2) (T := TJ2) (N := 3) hx hb hts in_J2 tyJ2 tyJ2_ok hown (hts _ q118) (hts _ q119) (hts _ q71) hG.K hP hD hS hG.A rfl (fun j hj => by rcases (show j = 0 ∨ j = 1 ∨ j = 2 by omega) with rfl | rfl | rfl <;> rfl) (Nat.le_of_ble_eq_true rfl) (Nat.le_of_ble_eq_true rfl) dX2_init_5 (fun q1 H hP hD hS => ?_)
  have hP := hP.rot
  have hD := hD.rot
  have hP : va_P (kD k) gCl ((q1, .inr (9, [.int 0, .null, .int 0])) :: ((q, .inr (2, [.null])) :: fr)) H := hP
  have hD : va_D (Ab k) ((q1, .inr (9, [.int 0, .null, .int 0])) :: ((q, .inr (2, [.null])) :: fr)) := hD
  refine lv_dup hx hb dX2_init_8 rfl ?_
  refine c_callM (va_runI (As := []) (rest := [.ref q1, .ref q]) ⟨hx, hb, hml, hown, hts⟩ (met_J2_init hD) (cwI 0 hts (lw_meth q122) rfl rfl rfl (hts _ q71) (hts _ q120) (hts _ q121) rfl hd_J2_init ⟨Nat.le_of_ble_eq_true rfl, Nat.le_of_ble_eq_true rfl⟩) (g_preS hG hS hP) rfl rfl hl.1 rfl (lv_room (Nat.le_of_ble_eq_true rfl)) dX2_init_9 ⟨Nat.le_of_ble_eq_true rfl, Nat.le_of_ble_eq_true rfl⟩) hS (fun v w H locs hp hP hD hS => ?_)
  obtain ⟨rfl, rfl⟩ := hp
  have hP : va_P (kD k) gCl ((q1, .inr (9, [.int 0, .ref (ke k), .int (nI ([] : List Nat).length)])) :: ((q, .inr (2, [.null])) :: fr)) H := hP
  have hD : va_D (Ab k) ((q1, .inr (9, [.int 0, .ref (ke k), .int (nI ([] : List Nat).length)])) :: ((q, .inr (2, [.null])) :: fr)) := hD
  refine va_putF (ci := 2) (v := .ref q1) (ty := (tyX2 0)) (C := RX2) (T := TX2) (N := 1) hx hb hts in_X2 tyX2 tyX2_ok nmX2 hown hG.K hP hD hS 1 rfl rfl 0 (by decide) (hts _ q147) (fun _ h9 => h9) rfl hin rfl (by decide +kernel) rfl rfl (Nat.le_of_ble_eq_true rfl) dX2_init_12 (fun H locs hP hD hS => ?_)
  have hP : va_P (kD k) gCl ((q1, .inr (9, [.int 0, .ref (ke k), .int (nI ([] : List Nat).length)])) :: ((q, .inr (2, [.ref q1])) :: fr)) H := hP
  have hD : va_D (Ab k) ((q1, .inr (9, [.int 0, .ref (ke k), .int (nI ([] : List Nat).length)])) :: ((q, .inr (2, [.ref q1])) :: fr)) := hD
  have hpm := cat_pick [[(q1, .inr (9, [.int 0, .ref (ke k), .int (nI ([] : List Nat).length)]))], [(q, .inr (2, [.ref q1]))]] (fr) [1, 0] 2 rfl (by decide)
  have hP : va_P (kD k) gCl ((q, .inr (2, [.ref q1])) :: ((q1, .inr (9, [.int 0, .ref (ke k), .int (nI ([] : List Nat).length)])) :: fr)) _ := hP.perm hpm
  have hD : va_D (Ab k) ((q, .inr (2, [.ref q1])) :: ((q1, .inr (9, [.int 0, .ref (ke k), .int (nI ([] : List Nat).length)])) :: fr)) := hD.perm hpm
  refine W.widen (k := 1) (n := 3) (Nat.le_of_ble_eq_true rfl) (Nat.le_of_ble_eq_true rfl) ?_
  exact W.vret hx hb hr (fun t ht hW => c_retM (w := (q, .inr (2, [.ref q1])) :: ((q1, .inr (9, [.int 0, .ref (ke k), .int (nI ([] : List Nat).length)])) :: fr)) ⟨q1, rfl, rfl⟩ hP hD hS ht) hS.2.2 dX2_init_15
