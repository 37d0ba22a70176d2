/-! need (printed by wip/gen/gen_need.py) -/
/-- Refused, with its code -/
abbrev rfO (k : Cx) (q : Nat) (ca u sen : Value) (cd : Int32) : Nat × va_E := (q, .inr (5, [ca, u, sen, .ref (kS k 0), .null, .int 0, .int cd]))
theorem hd_X0_need : yX0_need.cls ≠ "java/lang/invoke/MethodHandle" ∧ yX0_need.cls ≠ "java/lang/invoke/VarHandle" ∧ (parseMethodDescriptor yX0_need.desc).map (fun d => d.parameters.length) = some 2 := by decide +kernel
set_option maxHeartbeats 4000000 in
set_option maxRecDepth 100000 in
theorem met_X0_need {l : Launch} (htr : l.stackTraces = false) {k : Cx} {x cd : Int32} {fr : va_W} (hD : va_D (Ab k) (fr)) : vy_Met l yX0_need (ws_ yX0_need cX0_need 2 none) ({ frames := 6, cells := 1, slots := 7, locals := 126 } : Room) (gPc [.int x, .int cd] k (fr)) (QcM k (fun v w => x ≠ 0 ∧ v = none ∧ w = fr)) (QxM k (fun E q w => x = 0 ∧ E = RX5 ∧ ∃ u sen : Value, w = rfO k q .null u sen cd :: fr)) 1 7 (Ab k) := by
  refine vy_ofW (cc := cX0_need) (maxL := 2) (ret := none) (by decide) rfl ?_
  intro p e s m args below meth c s₁ B hml hex hv
  obtain ⟨rfl, hP, hG⟩ := hv
  have hx := B.exec
  have hb := B.bytes
  have hr := B.returns
  have hts := atoms_spec (ws := ws_ yX0_need cX0_need 2 none) B.pre
  have hts : ∀ w ∈ lw_all, w.before _ s = true := fun w h => hts w (List.mem_cons_of_mem _ h)
  have hown : s.vm.findClass RX0 = some m.cls := findClass_of_methodNamed B.named
  have hlocks := B.notSynchronized
  have hl := lv_entry ([.int x, .int cd]) (n := 2) (Nat.le_of_ble_eq_true rfl)
  rw [lg_entry_eq]
  generalize (lg_sl ([.int x, .int cd]) ++ List.replicate (2 - (lg_sl ([.int x, .int cd])).length) Slot.unset).toArray = ls at hl ⊢
  have hl : lv_has ls 2 [(0, .int x), (1, .int cd)] := hl
  have hS : va_S (Ab k) s.heap s.heap [] := va_S.rf
  refine lv_iload_n hx hb dX0_need_0 rfl (lv_at hl 0 rfl) ?_
  refine lv_if_ne (tgt := 14) hx hb dX0_need_1 (by decide) (fun c1 => ?_) (fun c1 => ?_)
  · refine vy_ret ?_
    refine W.widen (k := 1) (n := 7) (Nat.le_of_ble_eq_true rfl) (Nat.le_of_ble_eq_true rfl) ?_
    exact W.vret hx hb hr (fun t9 ht9 hW9 => c_retM (w := fr) ⟨c1, rfl, rfl⟩ hP hD hS ht9) hS.2.2 dX0_need_14
  · refine d_new (ci := 5) (fs := [.null, .null, .null, .null, .null, .int 0, .int 0]) (C := RX5) (T := TX5) (N := 7) hx hb hts in_X5 tyX5 tyX5_ok hown (hts _ q239) (hts _ q459) (hts _ q88) hG.K hP hD hS hG.A rfl (fun j hj => by rcases (show j = 0 ∨ j = 1 ∨ j = 2 ∨ j = 3 ∨ j = 4 ∨ j = 5 ∨ j = 6 by omega) with rfl | rfl | rfl | rfl | rfl | rfl | rfl <;> rfl) (Nat.le_of_ble_eq_true rfl) (Nat.le_of_ble_eq_true rfl) dX0_need_4 (fun q2 H hM hP hD hS => ?_)
    have hP := hP.rot
    have hD := hD.rot
    have hP : va_P (kD k) gCl ((q2, .inr (5, [.null, .null, .null, .null, .null, .int 0, .int 0])) :: fr) H := hP
    have hD : va_D (Ab k) ((q2, .inr (5, [.null, .null, .null, .null, .null, .int 0, .int 0])) :: fr) := hD
    refine lv_dup hx hb dX0_need_7 rfl ?_
    refine lv_iload_n hx hb dX0_need_8 rfl (lv_at hl 1 rfl) ?_
    refine lv_null hx hb dX0_need_9 ?_
    refine d_callX (va_runI (As := [.int cd, .null]) (rest := [.ref q2]) ⟨hx, hb, hml, hown, hts⟩ (met_X5_initN htr hD) (cwI 2 hts (lw_meth q499) rfl rfl rfl (hts _ q88) (hts _ q497) (hts _ q498) rfl hd_X5_init ⟨Nat.le_of_ble_eq_true rfl, Nat.le_of_ble_eq_true rfl⟩) (x_preS hG hS hP hM) rfl rfl hl.1 rfl (lv_room (Nat.le_of_ble_eq_true rfl)) dX0_need_10 ⟨Nat.le_of_ble_eq_true rfl, Nat.le_of_ble_eq_true rfl⟩) hS (fun v w H locs hp hM hP hD hS => ?_)
    obtain ⟨u, sen, rfl, rfl⟩ := hp
    have hP : va_P (kD k) gCl ((q2, .inr (5, [.null, u, sen, .ref (kS k 0), .null, .int 0, .int cd])) :: fr) H := hP
    have hD : va_D (Ab k) ((q2, .inr (5, [.null, u, sen, .ref (kS k 0), .null, .int 0, .int cd])) :: fr) := hD
    refine vx_athrow hx hb dX0_need_13 ?_
    obtain ⟨ce, h1, h2, h3⟩ := d_obj (ci := 5) (q0 := 0) hG hP rfl rfl
    exact d_out (fun x h9 => (hex x h9).elim) hlocks h1 h2 h3 ⟨by simpa using c1, rfl, u, sen, rfl⟩ hM hP hD hS (Nat.le_of_ble_eq_true rfl) (Nat.le_of_ble_eq_true rfl)
