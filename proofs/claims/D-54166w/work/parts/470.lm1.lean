/-! Lecture.needed (printed by wip/gen/gen_lm1.py) -/
theorem hd_X1_needed : yX1_needed.cls ≠ "java/lang/invoke/MethodHandle" ∧ yX1_needed.cls ≠ "java/lang/invoke/VarHandle" ∧ (parseMethodDescriptor yX1_needed.desc).map (fun d => d.parameters.length) = some 1 := by decide +kernel
set_option maxHeartbeats 4000000 in
set_option maxRecDepth 100000 in
theorem met_X1_needed {l : Launch} (htr : l.stackTraces = false) {k : Cx} {a : LA} {T : List TT} {vs : List TV} {pit cor : Nat → Int32} {tol : Int32} {fr : va_W} {x : Int32} (hvs : T.map Prod.snd = vs) (hO : leOk k a T) (h1k : vs.length ≤ 1000) (hD : va_D (Ab k) ((leW k a T pit cor tol) ++ fr)) : vy_Met l yX1_needed (ws_ yX1_needed cX1_needed 2 (Option.some (Jvm.ClassFile.FieldType.object "LectureTurns$Turn"))) ({ frames := 7, cells := 1, slots := 7, locals := 147 } : Room) (gPc [.ref (lL a), .int x] k ((leW k a T pit cor tol) ++ fr)) (QcM k (fun v w => ∃ t, pAt T x = some t ∧ v = some (.ref (aT t.1)) ∧ w = leW k a T pit cor tol ++ fr)) (QxM k (fun E q w => pAt vs x = none ∧ E = RX5 ∧ ∃ u sen : Value, w = rfO k q .null u sen (-1000001) :: (leW k a T pit cor tol ++ fr))) 1 7 (Ab k) := by
  refine vy_ofW (cc := cX1_needed) (maxL := 2) (ret := (Option.some (Jvm.ClassFile.FieldType.object "LectureTurns$Turn"))) (by decide) rfl ?_
  intro p e s m args below meth c s₁ B hml hex hv
  obtain ⟨rfl, hP, hG⟩ := hv
  have hx := B.exec
  have hb := B.bytes
  have hr := B.returns
  have hts := atoms_spec (ws := ws_ yX1_needed cX1_needed 2 (Option.some (Jvm.ClassFile.FieldType.object "LectureTurns$Turn"))) B.pre
  have hts : ∀ w ∈ lw_all, w.before _ s = true := fun w h => hts w (List.mem_cons_of_mem _ h)
  have hown : s.vm.findClass RX1 = some m.cls := findClass_of_methodNamed B.named
  have hlocks := B.notSynchronized
  have hl := lv_entry ([.ref (lL a), .int x]) (n := 2) (Nat.le_of_ble_eq_true rfl)
  rw [lg_entry_eq]
  generalize (lg_sl ([.ref (lL a), .int x]) ++ List.replicate (2 - (lg_sl ([.ref (lL a), .int x])).length) Slot.unset).toArray = ls at hl ⊢
  have hl : lv_has ls 2 [(0, .ref (lL a)), (1, .int x)] := hl
  have hS : va_S (Ab k) s.heap s.heap [] := va_S.rf
  refine lv_aload_n hx hb dX1_needed_0 rfl (lv_at hl 0 rfl) ?_
  refine lv_iload_n hx hb dX1_needed_1 rfl (lv_at hl 1 rfl) ?_
  have hPs : va_P (kD k) gCl (leW k a T pit cor tol) _ := hP.of_mem (fun x hx => (List.mem_append_left _ hx))
  refine c_call (va_runV (As := [.int x]) (rest := []) ⟨hx, hb, hml, hown, hts⟩ (met_X1_isTurn hvs hO (isTurn_eq h1k _)) (cwV 1 hts (lw_V q546 q547 q548 q67 q549) rfl rfl rfl ⟨rfl, hd_X1_isTurn⟩ ⟨Nat.le_of_ble_eq_true rfl, Nat.le_of_ble_eq_true rfl⟩) (g_preV hG hS hPs (va_recv hG.K (le_o hPs) (ci := 1) (q0 := 0) rfl rfl)) rfl rfl hl.1 rfl (lv_room (Nat.le_of_ble_eq_true rfl)) dX1_needed_2 ⟨Nat.le_of_ble_eq_true rfl, Nat.le_of_ble_eq_true rfl⟩) ?_
  refine lv_ldc hx hb hown (hts _ q455) dX1_needed_5 ?_
  refine d_callM (vy_runSN (As := [.int (bi (pAt vs x).isSome), .int (-1000001 : Int32)]) (rest := []) ⟨hx, hb, hml, hown, hts⟩ (met_X0_need htr hD) ⟨va_cnB 2 hts (lw_meth q458) rfl rfl rfl (nm_LectureTurns_Lecture_57 hG) (hts _ q66) hd_X0_need ⟨Nat.le_of_ble_eq_true rfl, Nat.le_of_ble_eq_true rfl⟩, hts _ q457, trivial⟩ (g_preS hG hS hP) rfl rfl hl.1 rfl (lv_room (Nat.le_of_ble_eq_true rfl)) dX1_needed_7 ⟨Nat.le_of_ble_eq_true rfl, Nat.le_of_ble_eq_true rfl⟩) hS (fun E ce q9 w H locs hp hM hP hD hS h1 h2 h3 => ?_) (fun v w H locs hp hP hD hS => ?_)
  · obtain ⟨n1, rfl, u, sen, rfl⟩ := hp
    exact d_out (fun x h9 => (hex x h9).elim) hlocks h1 h2 h3 ⟨by rw [bi_0] at n1; simpa using n1, rfl, u, sen, rfl⟩ hM hP hD hS (Nat.le_of_ble_eq_true rfl) (Nat.le_of_ble_eq_true rfl)
  obtain ⟨n1, rfl, rfl⟩ := hp
  have hP : va_P (kD k) gCl ((leW k a T pit cor tol) ++ fr) H := hP
  have hD : va_D (Ab k) ((leW k a T pit cor tol) ++ fr) := hD
  obtain ⟨t, ht0⟩ : ∃ t, pAt T x = some t := by
    cases hc : pAt T x with
    | some t => exact ⟨t, rfl⟩
    | none => exact absurd (by rw [(pAt_none hvs).mpr hc]; rfl) n1
  have ht := (pAt_some ht0).2
  have hq : pAt (tads T) x = some (aT t.1) := pAt_map ht0
  refine lv_aload_n hx hb dX1_needed_10 rfl (lv_at hl 0 rfl) ?_
  have hPs : va_P (kD k) gCl (leW k a T pit cor tol) _ := hP.of_mem (fun x hx => (List.mem_append_left _ hx))
  refine va_get (ci := 1) (v := .ref (lS a)) (C := RX1) (T := TX1) (N := 4) hx hb hts in_X1 hown hG.K (le_o hPs) 0 rfl rfl 0 (by decide) (hts _ q151) (fun _ h9 => h9) rfl dX1_needed_11 ?_
  refine lv_iload_n hx hb dX1_needed_14 rfl (lv_at hl 1 rfl) ?_
  have hPs : va_P (kD k) gCl (leW k a T pit cor tol) _ := hP.of_mem (fun x hx => (List.mem_append_left _ hx))
  refine c_call (va_runV (As := [.int x]) (rest := []) ⟨hx, hb, hml, hown, hts⟩ (met_X2_at (t := t) hO.1 hq) (cwV 1 hts (lw_V q253 q254 q255 q68 q256) rfl rfl rfl ⟨rfl, hd_X2_at⟩ ⟨Nat.le_of_ble_eq_true rfl, Nat.le_of_ble_eq_true rfl⟩) (g_preV hG hS (va_P.cons (le_t hPs ht) (le_st hPs)) (va_recv hG.K (le_s hPs) (ci := 2) (q0 := 0) rfl rfl)) rfl rfl hl.1 rfl (lv_room (Nat.le_of_ble_eq_true rfl)) dX1_needed_15 ⟨Nat.le_of_ble_eq_true rfl, Nat.le_of_ble_eq_true rfl⟩) ?_
  have hPs : va_P (kD k) gCl (leW k a T pit cor tol) _ := hP.of_mem (fun x hx => (List.mem_append_left _ hx))
  refine va_castS hx hb hown (hts _ q251) (hG.K.1 4 _ rfl).2 (va_recv hG.K (le_t hPs ht) (ci := 4) (q0 := 0) rfl rfl) dX1_needed_18 ?_
  refine vy_ret ?_
  refine W.widen (k := 1) (n := 7) (Nat.le_of_ble_eq_true rfl) (Nat.le_of_ble_eq_true rfl) ?_
  exact W.aret hx hb hr (Or.inl ⟨_, rfl⟩) (Or.inr ⟨_, rfl⟩) (fun t9 ht9 hW9 => c_retM (w := (leW k a T pit cor tol) ++ fr) ⟨t, ht0, rfl, rfl⟩ hP hD hS ht9) hS.2.2 dX1_needed_21
