/-! Lecture: toleranceTo, comes (printed by wip/gen/gen_lm2.py) -/
theorem hd_X1_toleranceTo : yX1_toleranceTo.cls ≠ "java/lang/invoke/MethodHandle" ∧ yX1_toleranceTo.cls ≠ "java/lang/invoke/VarHandle" ∧ (parseMethodDescriptor yX1_toleranceTo.desc).map (fun d => d.parameters.length) = some 1 := by decide +kernel
set_option maxHeartbeats 4000000 in
set_option maxRecDepth 100000 in
theorem met_X1_toleranceTo {l : Launch} (htr : l.stackTraces = false) {k : Cx} {a : LA} {T : List TT} {vs : List TV} {pit cor : Nat → Int32} {tol : Int32} {fr : va_W} {x : Int32} {out : OR} (hvs : T.map Prod.snd = vs) (hO : leOk k a T) (h1k : vs.length ≤ 1000) (h : o_tol (vs, pit, cor, tol) x = some out) (hD : va_D (Ab k) ((leW k a T pit cor tol) ++ fr)) : vy_Met l yX1_toleranceTo (ws_ yX1_toleranceTo cX1_toleranceTo 3 (some .int)) ({ frames := 7, cells := 1, slots := 7, locals := 147 } : Room) (gPc [.ref (lL a), .int x] k ((leW k a T pit cor tol) ++ fr)) (QcM k (oP k (lL a) fr out)) (QxM k (oX k fr out)) 1 7 (Ab k) := by
  refine vy_ofW (cc := cX1_toleranceTo) (maxL := 3) (ret := (some .int)) (by decide) rfl ?_
  intro p e s m args below meth c s₁ B hml hex hv
  obtain ⟨rfl, hP, hG⟩ := hv
  have hx := B.exec
  have hb := B.bytes
  have hr := B.returns
  have hts := atoms_spec (ws := ws_ yX1_toleranceTo cX1_toleranceTo 3 (some .int)) B.pre
  have hts : ∀ w ∈ lw_all, w.before _ s = true := fun w h => hts w (List.mem_cons_of_mem _ h)
  have hown : s.vm.findClass RX1 = some m.cls := findClass_of_methodNamed B.named
  have hlocks := B.notSynchronized
  have hl := lv_entry ([.ref (lL a), .int x]) (n := 3) (Nat.le_of_ble_eq_true rfl)
  rw [lg_entry_eq]
  generalize (lg_sl ([.ref (lL a), .int x]) ++ List.replicate (3 - (lg_sl ([.ref (lL a), .int x])).length) Slot.unset).toArray = ls at hl ⊢
  have hl : lv_has ls 3 [(0, .ref (lL a)), (1, .int x)] := hl
  have hS : va_S (Ab k) s.heap s.heap [] := va_S.rf
  refine lv_iload_n hx hb dX1_toleranceTo_0 rfl (lv_at hl 1 rfl) ?_
  refine lv_i2l hx hb dX1_toleranceTo_1 rfl ?_
  refine lv_lconst (v := 0) hx hb dX1_toleranceTo_2 (by decide) ?_
  refine lv_ldc2 hx hb hown (hts _ q680) dX1_toleranceTo_3 ?_
  refine c_call (va_runSN (As := [.long x.toInt64, .long (0 : Int64), .long (200 : Int64)]) (rest := []) ⟨hx, hb, hml, hown, hts⟩ (met_X0_isBetween (isB_eq _ _ _)) ⟨va_cnB 3 hts (lw_meth q447) rfl rfl rfl (nm_LectureTurns_Lecture_46 hG) (hts _ q66) hd_X0_isBetween ⟨Nat.le_of_ble_eq_true rfl, Nat.le_of_ble_eq_true rfl⟩, hts _ q446, trivial⟩ m_preS rfl rfl hl.1 rfl (lv_room (Nat.le_of_ble_eq_true rfl)) dX1_toleranceTo_6 ⟨Nat.le_of_ble_eq_true rfl, Nat.le_of_ble_eq_true rfl⟩) ?_
  refine lv_ldc hx hb hown (hts _ q455) dX1_toleranceTo_9 ?_
  refine d_callM (vy_runSN (As := [.int (bi (ib x.toInt64 (0 : Int64) (200 : Int64))), .int (-1000001 : Int32)]) (rest := []) ⟨hx, hb, hml, hown, hts⟩ (met_X0_need htr hD) ⟨va_cnB 2 hts (lw_meth q458) rfl rfl rfl (nm_LectureTurns_Lecture_57 hG) (hts _ q66) hd_X0_need ⟨Nat.le_of_ble_eq_true rfl, Nat.le_of_ble_eq_true rfl⟩, hts _ q457, trivial⟩ (g_preS hG hS hP) rfl rfl hl.1 rfl (lv_room (Nat.le_of_ble_eq_true rfl)) dX1_toleranceTo_11 ⟨Nat.le_of_ble_eq_true rfl, Nat.le_of_ble_eq_true rfl⟩) hS (fun E ce q9 w H locs hp hM hP hD hS h1 h2 h3 => ?_) (fun v w H locs hp hP hD hS => ?_)
  · obtain ⟨n1, rfl, u, sen, rfl⟩ := hp
    exact d_out (fun x h9 => (hex x h9).elim) hlocks h1 h2 h3 ⟨(-1000001 : Int32), .null, u, sen, leW k a T pit cor tol, (by have h9 := h; unfold o_tol at h9; dsimp only at h9; rw [if_pos n1] at h9; cases h9; rfl), rfl, rfl⟩ hM hP hD hS (Nat.le_of_ble_eq_true rfl) (Nat.le_of_ble_eq_true rfl)
  obtain ⟨n1, rfl, rfl⟩ := hp
  have hP : va_P (kD k) gCl ((leW k a T pit cor tol) ++ fr) H := hP
  have hD : va_D (Ab k) ((leW k a T pit cor tol) ++ fr) := hD
  refine lv_aload_n hx hb dX1_toleranceTo_14 rfl (lv_at hl 0 rfl) ?_
  have hPs : va_P (kD k) gCl (leW k a T pit cor tol) _ := hP.of_mem (fun x hx => (List.mem_append_left _ hx))
  refine va_get (ci := 1) (v := .int tol) (C := RX1) (T := TX1) (N := 4) hx hb hts in_X1 hown hG.K (le_o hPs) 0 rfl rfl 3 (by decide) (hts _ q157) (fun _ h9 => h9) rfl dX1_toleranceTo_15 ?_
  refine lv_istore_n (lv' := [(2, .int tol), (0, .ref (lL a)), (1, .int x)]) hx hb dX1_toleranceTo_18 rfl hl (by decide) rfl (fun ls hl => ?_)
  refine lv_aload_n hx hb dX1_toleranceTo_19 rfl (lv_at hl 1 rfl) ?_
  refine lv_iload_n hx hb dX1_toleranceTo_20 rfl (lv_at hl 2 rfl) ?_
  rw [leW_flat] at hP hD
  have hP : va_P (kD k) gCl (((lL a), .inr (1, [.ref (lS a), .ref (lP a), .ref (lK a), .int tol])) :: (((lS a), .inr (2, [.ref (lR a)])) :: (((lP a), .inl (kA k, 6, .inl pit)) :: (((lK a), .inl (kA k, 16, .inl cor)) :: (((lR a), .inr (9, [.int (lM a), .ref (lE a), .int (nI (tads T).length)])) :: ((lsA k (lE a) (lC a) (tads T)) ++ ((tusW k T) ++ fr))))))) H := hP
  have hD : va_D (Ab k) (((lL a), .inr (1, [.ref (lS a), .ref (lP a), .ref (lK a), .int tol])) :: (((lS a), .inr (2, [.ref (lR a)])) :: (((lP a), .inl (kA k, 6, .inl pit)) :: (((lK a), .inl (kA k, 16, .inl cor)) :: (((lR a), .inr (9, [.int (lM a), .ref (lE a), .int (nI (tads T).length)])) :: ((lsA k (lE a) (lC a) (tads T)) ++ ((tusW k T) ++ fr))))))) := hD
  refine va_put (ci := 1) (v := .int x) (ty := .int) (C := RX1) (T := TX1) (N := 4) hx hb hts in_X1 tyX1 tyX1_ok nmX1 hown hG.K hP hD hS 0 rfl rfl 3 (by decide) (hts _ q157) (fun _ h9 => h9) rfl (by decide +kernel) rfl rfl (Nat.le_of_ble_eq_true rfl) dX1_toleranceTo_21 (fun H locs hP hD hS => ?_)
  have hP : va_P (kD k) gCl (((lL a), .inr (1, [.ref (lS a), .ref (lP a), .ref (lK a), .int x])) :: (((lS a), .inr (2, [.ref (lR a)])) :: (((lP a), .inl (kA k, 6, .inl pit)) :: (((lK a), .inl (kA k, 16, .inl cor)) :: (((lR a), .inr (9, [.int (lM a), .ref (lE a), .int (nI (tads T).length)])) :: ((lsA k (lE a) (lC a) (tads T)) ++ ((tusW k T) ++ fr))))))) H := hP
  have hD : va_D (Ab k) (((lL a), .inr (1, [.ref (lS a), .ref (lP a), .ref (lK a), .int x])) :: (((lS a), .inr (2, [.ref (lR a)])) :: (((lP a), .inl (kA k, 6, .inl pit)) :: (((lK a), .inl (kA k, 16, .inl cor)) :: (((lR a), .inr (9, [.int (lM a), .ref (lE a), .int (nI (tads T).length)])) :: ((lsA k (lE a) (lC a) (tads T)) ++ ((tusW k T) ++ fr))))))) := hD
  have hpf := leW_fold (k := k) (a := a) (T2 := T) (pit := pit) (cor := cor) (tol := x) (fr := fr) (List.Perm.refl _)
  have hP : va_P (kD k) gCl (leW k a T pit cor x ++ fr) H := hP.perm hpf
  have hD : va_D (Ab k) (leW k a T pit cor x ++ fr) := hD.perm hpf
  refine lv_iload_n hx hb dX1_toleranceTo_24 rfl (lv_at hl 0 rfl) ?_
  refine vy_ret ?_
  refine W.widen (k := 1) (n := 7) (Nat.le_of_ble_eq_true rfl) (Nat.le_of_ble_eq_true rfl) ?_
  exact W.iret hx hb hr (fun t9 ht9 hW9 => c_retM (w := (leW k a T pit cor x) ++ fr) ⟨tol, (vs, pit, cor, x), a, T, (by have h9 := h; unfold o_tol at h9; dsimp only at h9; rw [if_neg n1] at h9; cases h9; rfl), rfl, rfl, hvs, hO, rfl⟩ hP hD hS ht9) hS.2.2 dX1_toleranceTo_25
theorem hd_X1_comes : yX1_comes.cls ≠ "java/lang/invoke/MethodHandle" ∧ yX1_comes.cls ≠ "java/lang/invoke/VarHandle" ∧ (parseMethodDescriptor yX1_comes.desc).map (fun d => d.parameters.length) = some 3 := by decide +kernel
set_option maxHeartbeats 4000000 in
set_option maxRecDepth 100000 in
theorem met_X1_comes {l : Launch} (htr : l.stackTraces = false) {k : Cx} {a : LA} {T : List TT} {vs : List TV} {pit cor : Nat → Int32} {tol : Int32} {fr : va_W} {b e1 p1 : Int32} {out : OR} (hvs : T.map Prod.snd = vs) (hO : leOk k a T) (h1k : vs.length ≤ 1000) (h20 : vs.length ≤ 20) (h : o_comes (vs, pit, cor, tol) b e1 p1 = some out) (hD : va_D (Ab k) ((leW k a T pit cor tol) ++ fr)) : vy_Met l yX1_comes (ws_ yX1_comes cX1_comes 5 (some .int)) ({ frames := 7, cells := 5, slots := 52, locals := 173 } : Room) (gPc [.ref (lL a), .int b, .int e1, .int p1] k ((leW k a T pit cor tol) ++ fr)) (QcM k (oP k (lL a) fr out)) (QxM k (oX k fr out)) 5 52 (Ab k) := by
  refine vy_ofW (cc := cX1_comes) (maxL := 5) (ret := (some .int)) (by decide) rfl ?_
  intro p e s m args below meth c s₁ B hml hex hv
  obtain ⟨rfl, hP, hG⟩ := hv
  have hx := B.exec
  have hb := B.bytes
  have hr := B.returns
  have hts := atoms_spec (ws := ws_ yX1_comes cX1_comes 5 (some .int)) B.pre
  have hts : ∀ w ∈ lw_all, w.before _ s = true := fun w h => hts w (List.mem_cons_of_mem _ h)
  have hown : s.vm.findClass RX1 = some m.cls := findClass_of_methodNamed B.named
  have hlocks := B.notSynchronized
  have hl := lv_entry ([.ref (lL a), .int b, .int e1, .int p1]) (n := 5) (Nat.le_of_ble_eq_true rfl)
  rw [lg_entry_eq]
  generalize (lg_sl ([.ref (lL a), .int b, .int e1, .int p1]) ++ List.replicate (5 - (lg_sl ([.ref (lL a), .int b, .int e1, .int p1])).length) Slot.unset).toArray = ls at hl ⊢
  have hl : lv_has ls 5 [(0, .ref (lL a)), (1, .int b), (2, .int e1), (3, .int p1)] := hl
  have hS : va_S (Ab k) s.heap s.heap [] := va_S.rf
  have hTn : T.length = vs.length := by rw [← hvs]; simp
  refine lv_iload_n hx hb dX1_comes_0 rfl (lv_at hl 1 rfl) ?_
  refine lv_i2l hx hb dX1_comes_1 rfl ?_
  refine lv_lconst (v := 0) hx hb dX1_comes_2 (by decide) ?_
  refine lv_ldc2 hx hb hown (hts _ q444) dX1_comes_3 ?_
  refine c_call (va_runSN (As := [.long b.toInt64, .long (0 : Int64), .long (1998 : Int64)]) (rest := []) ⟨hx, hb, hml, hown, hts⟩ (met_X0_isBetween (isB_eq _ _ _)) ⟨va_cnB 3 hts (lw_meth q447) rfl rfl rfl (nm_LectureTurns_Lecture_46 hG) (hts _ q66) hd_X0_isBetween ⟨Nat.le_of_ble_eq_true rfl, Nat.le_of_ble_eq_true rfl⟩, hts _ q446, trivial⟩ m_preS rfl rfl hl.1 rfl (lv_room (Nat.le_of_ble_eq_true rfl)) dX1_comes_6 ⟨Nat.le_of_ble_eq_true rfl, Nat.le_of_ble_eq_true rfl⟩) ?_
  refine lv_if_eq (tgt := 38) hx hb dX1_comes_9 (by decide) (fun c1 => ?_) (fun c1 => ?_)
  · refine lv_iconst (v := 0) hx hb dX1_comes_38 (by decide) ?_
    refine lv_ldc hx hb hown (hts _ q455) dX1_comes_39 ?_
    refine d_callM (vy_runSN (As := [.int (0 : Int32), .int (-1000001 : Int32)]) (rest := []) ⟨hx, hb, hml, hown, hts⟩ (met_X0_need htr hD) ⟨va_cnB 2 hts (lw_meth q458) rfl rfl rfl (nm_LectureTurns_Lecture_57 hG) (hts _ q66) hd_X0_need ⟨Nat.le_of_ble_eq_true rfl, Nat.le_of_ble_eq_true rfl⟩, hts _ q457, trivial⟩ (g_preS hG hS hP) rfl rfl hl.1 rfl (lv_room (Nat.le_of_ble_eq_true rfl)) dX1_comes_41 ⟨Nat.le_of_ble_eq_true rfl, Nat.le_of_ble_eq_true rfl⟩) hS (fun E ce q9 w H locs hp hM hP hD hS h1 h2 h3 => ?_) (fun v w H locs hp hP hD hS => ?_)
    · obtain ⟨n2, rfl, u, sen, rfl⟩ := hp
      exact d_out (fun x h9 => (hex x h9).elim) hlocks h1 h2 h3 ⟨(-1000001 : Int32), .null, u, sen, leW k a T pit cor tol, (by have h9 := h; unfold o_comes at h9; dsimp only at h9; rw [if_pos c1] at h9; cases h9; rfl), rfl, rfl⟩ hM hP hD hS (Nat.le_of_ble_eq_true rfl) (Nat.le_of_ble_eq_true rfl)
    · exact absurd rfl hp.1
  · refine lv_iload_n hx hb dX1_comes_12 rfl (lv_at hl 2 rfl) ?_
    refine lv_i2l hx hb dX1_comes_13 rfl ?_
    refine lv_iload_n hx hb dX1_comes_14 rfl (lv_at hl 1 rfl) ?_
    refine lv_i2l hx hb dX1_comes_15 rfl ?_
    refine lv_lconst (v := 1) hx hb dX1_comes_16 (by decide) ?_
    refine lv_ladd hx hb dX1_comes_17 ?_
    refine lv_ldc2 hx hb hown (hts _ q448) dX1_comes_18 ?_
    refine c_call (va_runSN (As := [.long e1.toInt64, .long (b.toInt64 + (1 : Int64)), .long (1999 : Int64)]) (rest := []) ⟨hx, hb, hml, hown, hts⟩ (met_X0_isBetween (isB_eq _ _ _)) ⟨va_cnB 3 hts (lw_meth q447) rfl rfl rfl (nm_LectureTurns_Lecture_46 hG) (hts _ q66) hd_X0_isBetween ⟨Nat.le_of_ble_eq_true rfl, Nat.le_of_ble_eq_true rfl⟩, hts _ q446, trivial⟩ m_preS rfl rfl hl.1 rfl (lv_room (Nat.le_of_ble_eq_true rfl)) dX1_comes_21 ⟨Nat.le_of_ble_eq_true rfl, Nat.le_of_ble_eq_true rfl⟩) ?_
    refine lv_if_eq (tgt := 38) hx hb dX1_comes_24 (by decide) (fun c3 => ?_) (fun c3 => ?_)
    · refine lv_iconst (v := 0) hx hb dX1_comes_38 (by decide) ?_
      refine lv_ldc hx hb hown (hts _ q455) dX1_comes_39 ?_
      refine d_callM (vy_runSN (As := [.int (0 : Int32), .int (-1000001 : Int32)]) (rest := []) ⟨hx, hb, hml, hown, hts⟩ (met_X0_need htr hD) ⟨va_cnB 2 hts (lw_meth q458) rfl rfl rfl (nm_LectureTurns_Lecture_57 hG) (hts _ q66) hd_X0_need ⟨Nat.le_of_ble_eq_true rfl, Nat.le_of_ble_eq_true rfl⟩, hts _ q457, trivial⟩ (g_preS hG hS hP) rfl rfl hl.1 rfl (lv_room (Nat.le_of_ble_eq_true rfl)) dX1_comes_41 ⟨Nat.le_of_ble_eq_true rfl, Nat.le_of_ble_eq_true rfl⟩) hS (fun E ce q9 w H locs hp hM hP hD hS h1 h2 h3 => ?_) (fun v w H locs hp hP hD hS => ?_)
      · obtain ⟨n4, rfl, u, sen, rfl⟩ := hp
        exact d_out (fun x h9 => (hex x h9).elim) hlocks h1 h2 h3 ⟨(-1000001 : Int32), .null, u, sen, leW k a T pit cor tol, (by have h9 := h; unfold o_comes at h9; dsimp only at h9; rw [if_neg c1] at h9; rw [if_pos c3] at h9; cases h9; rfl), rfl, rfl⟩ hM hP hD hS (Nat.le_of_ble_eq_true rfl) (Nat.le_of_ble_eq_true rfl)
      · exact absurd rfl hp.1
    · refine lv_iload_n hx hb dX1_comes_27 rfl (lv_at hl 3 rfl) ?_
      refine c_call (va_runSN (As := [.int p1]) (rest := []) ⟨hx, hb, hml, hown, hts⟩ (met_X0_isPitch (isPitch_eq _)) ⟨va_cnB 1 hts (lw_meth q451) rfl rfl rfl (nm_LectureTurns_Lecture_71 hG) (hts _ q66) hd_X0_isPitch ⟨Nat.le_of_ble_eq_true rfl, Nat.le_of_ble_eq_true rfl⟩, hts _ q450, trivial⟩ m_preS rfl rfl hl.1 rfl (lv_room (Nat.le_of_ble_eq_true rfl)) dX1_comes_28 ⟨Nat.le_of_ble_eq_true rfl, Nat.le_of_ble_eq_true rfl⟩) ?_
      refine lv_if_eq (tgt := 38) hx hb dX1_comes_31 (by decide) (fun c5 => ?_) (fun c5 => ?_)
      · refine lv_iconst (v := 0) hx hb dX1_comes_38 (by decide) ?_
        refine lv_ldc hx hb hown (hts _ q455) dX1_comes_39 ?_
        refine d_callM (vy_runSN (As := [.int (0 : Int32), .int (-1000001 : Int32)]) (rest := []) ⟨hx, hb, hml, hown, hts⟩ (met_X0_need htr hD) ⟨va_cnB 2 hts (lw_meth q458) rfl rfl rfl (nm_LectureTurns_Lecture_57 hG) (hts _ q66) hd_X0_need ⟨Nat.le_of_ble_eq_true rfl, Nat.le_of_ble_eq_true rfl⟩, hts _ q457, trivial⟩ (g_preS hG hS hP) rfl rfl hl.1 rfl (lv_room (Nat.le_of_ble_eq_true rfl)) dX1_comes_41 ⟨Nat.le_of_ble_eq_true rfl, Nat.le_of_ble_eq_true rfl⟩) hS (fun E ce q9 w H locs hp hM hP hD hS h1 h2 h3 => ?_) (fun v w H locs hp hP hD hS => ?_)
        · obtain ⟨n6, rfl, u, sen, rfl⟩ := hp
          exact d_out (fun x h9 => (hex x h9).elim) hlocks h1 h2 h3 ⟨(-1000001 : Int32), .null, u, sen, leW k a T pit cor tol, (by have h9 := h; unfold o_comes at h9; dsimp only at h9; rw [if_neg c1] at h9; rw [if_neg c3] at h9; rw [if_pos c5] at h9; cases h9; rfl), rfl, rfl⟩ hM hP hD hS (Nat.le_of_ble_eq_true rfl) (Nat.le_of_ble_eq_true rfl)
        · exact absurd rfl hp.1
      · refine lv_iconst (v := 1) hx hb dX1_comes_34 (by decide) ?_
        refine lv_goto (tgt := 39) hx hb dX1_comes_35 (by decide) ?_
        refine lv_ldc hx hb hown (hts _ q455) dX1_comes_39 ?_
        refine d_callM (vy_runSN (As := [.int (1 : Int32), .int (-1000001 : Int32)]) (rest := []) ⟨hx, hb, hml, hown, hts⟩ (met_X0_need htr hD) ⟨va_cnB 2 hts (lw_meth q458) rfl rfl rfl (nm_LectureTurns_Lecture_57 hG) (hts _ q66) hd_X0_need ⟨Nat.le_of_ble_eq_true rfl, Nat.le_of_ble_eq_true rfl⟩, hts _ q457, trivial⟩ (g_preS hG hS hP) rfl rfl hl.1 rfl (lv_room (Nat.le_of_ble_eq_true rfl)) dX1_comes_41 ⟨Nat.le_of_ble_eq_true rfl, Nat.le_of_ble_eq_true rfl⟩) hS (fun E ce q9 w H locs hp hM hP hD hS h1 h2 h3 => ?_) (fun v w H locs hp hP hD hS => ?_)
        · exact absurd hp.1 (by decide)
        obtain ⟨n7, rfl, rfl⟩ := hp
        have hP : va_P (kD k) gCl ((leW k a T pit cor tol) ++ fr) H := hP
        have hD : va_D (Ab k) ((leW k a T pit cor tol) ++ fr) := hD
        refine lv_aload_n hx hb dX1_comes_44 rfl (lv_at hl 0 rfl) ?_
        have hPs : va_P (kD k) gCl (leW k a T pit cor tol) _ := hP.of_mem (fun x hx => (List.mem_append_left _ hx))
        refine va_get (ci := 1) (v := .ref (lS a)) (C := RX1) (T := TX1) (N := 4) hx hb hts in_X1 hown hG.K (le_o hPs) 0 rfl rfl 0 (by decide) (hts _ q151) (fun _ h9 => h9) rfl dX1_comes_45 ?_
        have hPs : va_P (kD k) gCl (leW k a T pit cor tol) _ := hP.of_mem (fun x hx => (List.mem_append_left _ hx))
        refine c_call (va_runV (As := []) (rest := []) ⟨hx, hb, hml, hown, hts⟩ (met_X2_size (n := vs.length) (by rw [← hvs]; simp)) (cwV 0 hts (lw_V q243 q244 q245 q68 q246) rfl rfl rfl ⟨rfl, hd_X2_size⟩ ⟨Nat.le_of_ble_eq_true rfl, Nat.le_of_ble_eq_true rfl⟩) (g_preV hG hS (le_st hPs) (va_recv hG.K (le_s hPs) (ci := 2) (q0 := 0) rfl rfl)) rfl rfl hl.1 rfl (lv_room (Nat.le_of_ble_eq_true rfl)) dX1_comes_48 ⟨Nat.le_of_ble_eq_true rfl, Nat.le_of_ble_eq_true rfl⟩) ?_
        refine lv_bipush (v := 20) hx hb dX1_comes_51 (by decide) ?_
        refine lv_icmp_ge (tgt := 60) hx hb dX1_comes_53 (by decide) (fun c8 => ?_) (fun c8 => ?_)
        · refine lv_iconst (v := 0) hx hb dX1_comes_60 (by decide) ?_
          refine lv_ldc hx hb hown (hts _ q525) dX1_comes_61 ?_
          refine d_callM (vy_runSN (As := [.int (0 : Int32), .int (-1000003 : Int32)]) (rest := []) ⟨hx, hb, hml, hown, hts⟩ (met_X0_need htr hD) ⟨va_cnB 2 hts (lw_meth q458) rfl rfl rfl (nm_LectureTurns_Lecture_57 hG) (hts _ q66) hd_X0_need ⟨Nat.le_of_ble_eq_true rfl, Nat.le_of_ble_eq_true rfl⟩, hts _ q457, trivial⟩ (g_preS hG hS hP) rfl rfl hl.1 rfl (lv_room (Nat.le_of_ble_eq_true rfl)) dX1_comes_63 ⟨Nat.le_of_ble_eq_true rfl, Nat.le_of_ble_eq_true rfl⟩) hS (fun E ce q9 w H locs hp hM hP hD hS h1 h2 h3 => ?_) (fun v w H locs hp hP hD hS => ?_)
          · obtain ⟨n9, rfl, u, sen, rfl⟩ := hp
            exact d_out (fun x h9 => (hex x h9).elim) hlocks h1 h2 h3 ⟨(-1000003 : Int32), .null, u, sen, leW k a T pit cor tol, (by have h9 := h; unfold o_comes at h9; dsimp only at h9; rw [if_neg c1] at h9; rw [if_neg c3] at h9; rw [if_neg c5] at h9; rw [if_pos c8] at h9; cases h9; rfl), rfl, rfl⟩ hM hP hD hS (Nat.le_of_ble_eq_true rfl) (Nat.le_of_ble_eq_true rfl)
          · exact absurd rfl hp.1
        · refine lv_iconst (v := 1) hx hb dX1_comes_56 (by decide) ?_
          refine lv_goto (tgt := 61) hx hb dX1_comes_57 (by decide) ?_
          refine lv_ldc hx hb hown (hts _ q525) dX1_comes_61 ?_
          refine d_callM (vy_runSN (As := [.int (1 : Int32), .int (-1000003 : Int32)]) (rest := []) ⟨hx, hb, hml, hown, hts⟩ (met_X0_need htr hD) ⟨va_cnB 2 hts (lw_meth q458) rfl rfl rfl (nm_LectureTurns_Lecture_57 hG) (hts _ q66) hd_X0_need ⟨Nat.le_of_ble_eq_true rfl, Nat.le_of_ble_eq_true rfl⟩, hts _ q457, trivial⟩ (g_preS hG hS hP) rfl rfl hl.1 rfl (lv_room (Nat.le_of_ble_eq_true rfl)) dX1_comes_63 ⟨Nat.le_of_ble_eq_true rfl, Nat.le_of_ble_eq_true rfl⟩) hS (fun E ce q9 w H locs hp hM hP hD hS h1 h2 h3 => ?_) (fun v w H locs hp hP hD hS => ?_)
          · exact absurd hp.1 (by decide)
          obtain ⟨n10, rfl, rfl⟩ := hp
          have hP : va_P (kD k) gCl ((leW k a T pit cor tol) ++ fr) H := hP
          have hD : va_D (Ab k) ((leW k a T pit cor tol) ++ fr) := hD
          rw [leW_flat] at hP hD
          have hP : va_P (kD k) gCl (((lL a), .inr (1, [.ref (lS a), .ref (lP a), .ref (lK a), .int tol])) :: (((lS a), .inr (2, [.ref (lR a)])) :: (((lP a), .inl (kA k, 6, .inl pit)) :: (((lK a), .inl (kA k, 16, .inl cor)) :: (((lR a), .inr (9, [.int (lM a), .ref (lE a), .int (nI (tads T).length)])) :: ((lsA k (lE a) (lC a) (tads T)) ++ ((tusW k T) ++ fr))))))) H := hP
          have hD : va_D (Ab k) (((lL a), .inr (1, [.ref (lS a), .ref (lP a), .ref (lK a), .int tol])) :: (((lS a), .inr (2, [.ref (lR a)])) :: (((lP a), .inl (kA k, 6, .inl pit)) :: (((lK a), .inl (kA k, 16, .inl cor)) :: (((lR a), .inr (9, [.int (lM a), .ref (lE a), .int (nI (tads T).length)])) :: ((lsA k (lE a) (lC a) (tads T)) ++ ((tusW k T) ++ fr))))))) := hD
          refine va_new (ci := 4) (fs := [.int 0, .int 0, .int 0, .int 0, .null]) (C := RX4) (T := TX4) (N := 5) hx hb hts in_X4 tyX4 tyX4_ok hown (hts _ q251) (hts _ q252) (hts _ q78) hG.K hP hD hS hG.A rfl (fun j hj => by rcases (show j = 0 ∨ j = 1 ∨ j = 2 ∨ j = 3 ∨ j = 4 by omega) with rfl | rfl | rfl | rfl | rfl <;> rfl) (Nat.le_of_ble_eq_true rfl) (Nat.le_of_ble_eq_true rfl) dX1_comes_66 (fun q11 H hP hD hS => ?_)
          have hP := hP.rot
          have hD := hD.rot
          have hP : va_P (kD k) gCl ((q11, .inr (4, [.int 0, .int 0, .int 0, .int 0, .null])) :: (((lL a), .inr (1, [.ref (lS a), .ref (lP a), .ref (lK a), .int tol])) :: (((lS a), .inr (2, [.ref (lR a)])) :: (((lP a), .inl (kA k, 6, .inl pit)) :: (((lK a), .inl (kA k, 16, .inl cor)) :: (((lR a), .inr (9, [.int (lM a), .ref (lE a), .int (nI (tads T).length)])) :: ((lsA k (lE a) (lC a) (tads T)) ++ ((tusW k T) ++ fr)))))))) H := hP
          have hD : va_D (Ab k) ((q11, .inr (4, [.int 0, .int 0, .int 0, .int 0, .null])) :: (((lL a), .inr (1, [.ref (lS a), .ref (lP a), .ref (lK a), .int tol])) :: (((lS a), .inr (2, [.ref (lR a)])) :: (((lP a), .inl (kA k, 6, .inl pit)) :: (((lK a), .inl (kA k, 16, .inl cor)) :: (((lR a), .inr (9, [.int (lM a), .ref (lE a), .int (nI (tads T).length)])) :: ((lsA k (lE a) (lC a) (tads T)) ++ ((tusW k T) ++ fr)))))))) := hD
          refine lv_dup hx hb dX1_comes_69 rfl ?_
          refine lv_iload_n hx hb dX1_comes_70 rfl (lv_at hl 1 rfl) ?_
          refine lv_iload_n hx hb dX1_comes_71 rfl (lv_at hl 2 rfl) ?_
          refine lv_iload_n hx hb dX1_comes_72 rfl (lv_at hl 3 rfl) ?_
          refine c_callM (va_runI (As := [.int b, .int e1, .int p1]) (rest := [.ref q11]) ⟨hx, hb, hml, hown, hts⟩ (met_X4_init_2 hD) (cwI 3 hts (lw_meth q277) rfl rfl rfl (hts _ q78) (hts _ q526) (hts _ q276) rfl hd_X4_init_2 ⟨Nat.le_of_ble_eq_true rfl, Nat.le_of_ble_eq_true rfl⟩) (g_preS hG hS hP) rfl rfl hl.1 rfl (lv_room (Nat.le_of_ble_eq_true rfl)) dX1_comes_73 ⟨Nat.le_of_ble_eq_true rfl, Nat.le_of_ble_eq_true rfl⟩) hS (fun v w H locs hp hP hD hS => ?_)
          obtain ⟨al, rfl, rfl⟩ := hp
          have hP : va_P (kD k) gCl ((q11, .inr (4, [.int b, .int e1, .int p1, .int (-1 : Int32), .ref al])) :: ((al, .inr (9, [.int 0, .ref (ke k), .int (nI ([] : List Nat).length)])) :: (((lL a), .inr (1, [.ref (lS a), .ref (lP a), .ref (lK a), .int tol])) :: (((lS a), .inr (2, [.ref (lR a)])) :: (((lP a), .inl (kA k, 6, .inl pit)) :: (((lK a), .inl (kA k, 16, .inl cor)) :: (((lR a), .inr (9, [.int (lM a), .ref (lE a), .int (nI (tads T).length)])) :: ((lsA k (lE a) (lC a) (tads T)) ++ ((tusW k T) ++ fr))))))))) H := hP
          have hD : va_D (Ab k) ((q11, .inr (4, [.int b, .int e1, .int p1, .int (-1 : Int32), .ref al])) :: ((al, .inr (9, [.int 0, .ref (ke k), .int (nI ([] : List Nat).length)])) :: (((lL a), .inr (1, [.ref (lS a), .ref (lP a), .ref (lK a), .int tol])) :: (((lS a), .inr (2, [.ref (lR a)])) :: (((lP a), .inl (kA k, 6, .inl pit)) :: (((lK a), .inl (kA k, 16, .inl cor)) :: (((lR a), .inr (9, [.int (lM a), .ref (lE a), .int (nI (tads T).length)])) :: ((lsA k (lE a) (lC a) (tads T)) ++ ((tusW k T) ++ fr))))))))) := hD
          refine lv_astore (lv' := [(4, .ref q11), (0, .ref (lL a)), (1, .int b), (2, .int e1), (3, .int p1)]) hx hb dX1_comes_76 hl (by decide) rfl (fun ls hl => ?_)
          refine lv_aload hx hb dX1_comes_78 (lv_at hl 0 rfl) ?_
          refine lv_aload_n hx hb dX1_comes_80 rfl (lv_at hl 1 rfl) ?_
          refine lv_iload_n hx hb dX1_comes_81 rfl (lv_at hl 4 rfl) ?_
          obtain ⟨sp, esp⟩ : ∃ sp, near pit tol p1 = some sp := by
            cases hc : near pit tol p1 with
            | some sp => exact ⟨sp, rfl⟩
            | none => exact absurd h (by unfold o_comes; dsimp only; rw [if_neg c1]; rw [if_neg c3]; rw [if_neg c5]; rw [if_neg c8]; rw [hc]; intro h8; cases h8)
          have hpm := cat_pick [[(q11, .inr (4, [.int b, .int e1, .int p1, .int (-1 : Int32), .ref al]))], [(al, .inr (9, [.int 0, .ref (ke k), .int (nI ([] : List Nat).length)]))], [((lL a), .inr (1, [.ref (lS a), .ref (lP a), .ref (lK a), .int tol]))], [((lS a), .inr (2, [.ref (lR a)]))], [((lP a), .inl (kA k, 6, .inl pit))], [((lK a), .inl (kA k, 16, .inl cor))], [((lR a), .inr (9, [.int (lM a), .ref (lE a), .int (nI (tads T).length)]))], lsA k (lE a) (lC a) (tads T), tusW k T] (fr) [2, 3, 4, 5, 6, 7, 8, 0, 1] 9 rfl (by decide)
          have hP : va_P (kD k) gCl (((lL a), .inr (1, [.ref (lS a), .ref (lP a), .ref (lK a), .int tol])) :: (((lS a), .inr (2, [.ref (lR a)])) :: (((lP a), .inl (kA k, 6, .inl pit)) :: (((lK a), .inl (kA k, 16, .inl cor)) :: (((lR a), .inr (9, [.int (lM a), .ref (lE a), .int (nI (tads T).length)])) :: ((lsA k (lE a) (lC a) (tads T)) ++ ((tusW k T) ++ ((q11, .inr (4, [.int b, .int e1, .int p1, .int (-1 : Int32), .ref al])) :: ((al, .inr (9, [.int 0, .ref (ke k), .int (nI ([] : List Nat).length)])) :: fr))))))))) _ := hP.perm hpm
          have hD : va_D (Ab k) (((lL a), .inr (1, [.ref (lS a), .ref (lP a), .ref (lK a), .int tol])) :: (((lS a), .inr (2, [.ref (lR a)])) :: (((lP a), .inl (kA k, 6, .inl pit)) :: (((lK a), .inl (kA k, 16, .inl cor)) :: (((lR a), .inr (9, [.int (lM a), .ref (lE a), .int (nI (tads T).length)])) :: ((lsA k (lE a) (lC a) (tads T)) ++ ((tusW k T) ++ ((q11, .inr (4, [.int b, .int e1, .int p1, .int (-1 : Int32), .ref al])) :: ((al, .inr (9, [.int 0, .ref (ke k), .int (nI ([] : List Nat).length)])) :: fr))))))))) := hD.perm hpm
          have hPs : va_P (kD k) gCl (leW k a T pit cor tol) _ := (hP.perm (leW_fold (List.Perm.refl _))).left
          refine c_call (va_runV (As := [.int p1]) (rest := [.ref q11]) ⟨hx, hb, hml, hown, hts⟩ (met_X1_nearestTo (nf := 7) hvs hO esp) (cwV 1 hts (lw_V q527 q528 q529 q67 q530) rfl rfl rfl ⟨rfl, hd_X1_nearestTo⟩ ⟨Nat.le_of_ble_eq_true rfl, Nat.le_of_ble_eq_true rfl⟩) (g_preV hG hS hPs (va_recv hG.K (le_o hPs) (ci := 1) (q0 := 0) rfl rfl)) rfl rfl hl.1 rfl (lv_room (Nat.le_of_ble_eq_true rfl)) dX1_comes_82 ⟨Nat.le_of_ble_eq_true rfl, Nat.le_of_ble_eq_true rfl⟩) ?_
          have hpm := cat_pick [[((lL a), .inr (1, [.ref (lS a), .ref (lP a), .ref (lK a), .int tol]))], [((lS a), .inr (2, [.ref (lR a)]))], [((lP a), .inl (kA k, 6, .inl pit))], [((lK a), .inl (kA k, 16, .inl cor))], [((lR a), .inr (9, [.int (lM a), .ref (lE a), .int (nI (tads T).length)]))], lsA k (lE a) (lC a) (tads T), tusW k T, [(q11, .inr (4, [.int b, .int e1, .int p1, .int (-1 : Int32), .ref al]))]] ((al, .inr (9, [.int 0, .ref (ke k), .int (nI ([] : List Nat).length)])) :: fr) [7, 0, 1, 2, 3, 4, 5, 6] 8 rfl (by decide)
          have hP : va_P (kD k) gCl ((q11, .inr (4, [.int b, .int e1, .int p1, .int (-1 : Int32), .ref al])) :: (((lL a), .inr (1, [.ref (lS a), .ref (lP a), .ref (lK a), .int tol])) :: (((lS a), .inr (2, [.ref (lR a)])) :: (((lP a), .inl (kA k, 6, .inl pit)) :: (((lK a), .inl (kA k, 16, .inl cor)) :: (((lR a), .inr (9, [.int (lM a), .ref (lE a), .int (nI (tads T).length)])) :: ((lsA k (lE a) (lC a) (tads T)) ++ ((tusW k T) ++ ((al, .inr (9, [.int 0, .ref (ke k), .int (nI ([] : List Nat).length)])) :: fr))))))))) _ := hP.perm hpm
          have hD : va_D (Ab k) ((q11, .inr (4, [.int b, .int e1, .int p1, .int (-1 : Int32), .ref al])) :: (((lL a), .inr (1, [.ref (lS a), .ref (lP a), .ref (lK a), .int tol])) :: (((lS a), .inr (2, [.ref (lR a)])) :: (((lP a), .inl (kA k, 6, .inl pit)) :: (((lK a), .inl (kA k, 16, .inl cor)) :: (((lR a), .inr (9, [.int (lM a), .ref (lE a), .int (nI (tads T).length)])) :: ((lsA k (lE a) (lC a) (tads T)) ++ ((tusW k T) ++ ((al, .inr (9, [.int 0, .ref (ke k), .int (nI ([] : List Nat).length)])) :: fr))))))))) := hD.perm hpm
          refine va_putN (ci := 4) (v := .int sp) (ty := .int) (C := RX4) (T := TX4) (N := 5) hx hb hts in_X4 tyX4 tyX4_ok nmX4 hown hG.K hP hD hS 0 rfl rfl 3 (by decide) (nf_LectureTurns_Lecture_81 hG) (fun _ h9 => h9) rfl (by decide +kernel) rfl rfl (Nat.le_of_ble_eq_true rfl) dX1_comes_85 (fun H locs hP hD hS => ?_)
          have hP : va_P (kD k) gCl ((q11, .inr (4, [.int b, .int e1, .int p1, .int sp, .ref al])) :: (((lL a), .inr (1, [.ref (lS a), .ref (lP a), .ref (lK a), .int tol])) :: (((lS a), .inr (2, [.ref (lR a)])) :: (((lP a), .inl (kA k, 6, .inl pit)) :: (((lK a), .inl (kA k, 16, .inl cor)) :: (((lR a), .inr (9, [.int (lM a), .ref (lE a), .int (nI (tads T).length)])) :: ((lsA k (lE a) (lC a) (tads T)) ++ ((tusW k T) ++ ((al, .inr (9, [.int 0, .ref (ke k), .int (nI ([] : List Nat).length)])) :: fr))))))))) H := hP
          have hD : va_D (Ab k) ((q11, .inr (4, [.int b, .int e1, .int p1, .int sp, .ref al])) :: (((lL a), .inr (1, [.ref (lS a), .ref (lP a), .ref (lK a), .int tol])) :: (((lS a), .inr (2, [.ref (lR a)])) :: (((lP a), .inl (kA k, 6, .inl pit)) :: (((lK a), .inl (kA k, 16, .inl cor)) :: (((lR a), .inr (9, [.int (lM a), .ref (lE a), .int (nI (tads T).length)])) :: ((lsA k (lE a) (lC a) (tads T)) ++ ((tusW k T) ++ ((al, .inr (9, [.int 0, .ref (ke k), .int (nI ([] : List Nat).length)])) :: fr))))))))) := hD
          refine lv_aload_n hx hb dX1_comes_88 rfl (lv_at hl 1 rfl) ?_
          refine va_get (ci := 1) (v := .ref (lS a)) (C := RX1) (T := TX1) (N := 4) hx hb hts in_X1 hown hG.K hP 1 rfl rfl 0 (by decide) (hts _ q151) (fun _ h9 => h9) rfl dX1_comes_89 ?_
          refine lv_aload hx hb dX1_comes_92 (lv_at hl 0 rfl) ?_
          have hpm := cat_pick [[(q11, .inr (4, [.int b, .int e1, .int p1, .int sp, .ref al]))], [((lL a), .inr (1, [.ref (lS a), .ref (lP a), .ref (lK a), .int tol]))], [((lS a), .inr (2, [.ref (lR a)]))], [((lP a), .inl (kA k, 6, .inl pit))], [((lK a), .inl (kA k, 16, .inl cor))], [((lR a), .inr (9, [.int (lM a), .ref (lE a), .int (nI (tads T).length)]))], lsA k (lE a) (lC a) (tads T)] ((tusW k T) ++ ((al, .inr (9, [.int 0, .ref (ke k), .int (nI ([] : List Nat).length)])) :: fr)) [2, 5, 6, 0, 1, 3, 4] 7 rfl (by decide)
          have hP : va_P (kD k) gCl (((lS a), .inr (2, [.ref (lR a)])) :: (((lR a), .inr (9, [.int (lM a), .ref (lE a), .int (nI (tads T).length)])) :: ((lsA k (lE a) (lC a) (tads T)) ++ ((q11, .inr (4, [.int b, .int e1, .int p1, .int sp, .ref al])) :: (((lL a), .inr (1, [.ref (lS a), .ref (lP a), .ref (lK a), .int tol])) :: (((lP a), .inl (kA k, 6, .inl pit)) :: (((lK a), .inl (kA k, 16, .inl cor)) :: ((tusW k T) ++ ((al, .inr (9, [.int 0, .ref (ke k), .int (nI ([] : List Nat).length)])) :: fr))))))))) _ := hP.perm hpm
          have hD : va_D (Ab k) (((lS a), .inr (2, [.ref (lR a)])) :: (((lR a), .inr (9, [.int (lM a), .ref (lE a), .int (nI (tads T).length)])) :: ((lsA k (lE a) (lC a) (tads T)) ++ ((q11, .inr (4, [.int b, .int e1, .int p1, .int sp, .ref al])) :: (((lL a), .inr (1, [.ref (lS a), .ref (lP a), .ref (lK a), .int tol])) :: (((lP a), .inl (kA k, 6, .inl pit)) :: (((lK a), .inl (kA k, 16, .inl cor)) :: ((tusW k T) ++ ((al, .inr (9, [.int 0, .ref (ke k), .int (nI ([] : List Nat).length)])) :: fr))))))))) := hD.perm hpm
          refine c_callM (va_runV (As := [.ref q11]) (rest := []) ⟨hx, hb, hml, hown, hts⟩ (met_X2_lay (t0 := ((q11, al, ke k, 0, 0), (b, e1, p1, sp, []))) (T := T) hvs hO.1 (by omega) (fun t ht => (List.mem_cons_of_mem _ (List.mem_cons_of_mem _ (List.mem_cons_of_mem _ (List.mem_cons_of_mem _ (List.mem_append_left _ (tuO_in ht))))))) List.mem_cons_self hD) (cwV 1 hts (lw_V q414 q415 q416 q68 q417) rfl rfl rfl ⟨rfl, hd_X2_lay⟩ ⟨Nat.le_of_ble_eq_true rfl, Nat.le_of_ble_eq_true rfl⟩) (g_preV hG hS hP (va_recv hG.K hP (ci := 2) (q0 := 0) rfl rfl)) rfl rfl hl.1 rfl (lv_room (Nat.le_of_ble_eq_true rfl)) dX1_comes_94 ⟨Nat.le_of_ble_eq_true rfl, Nat.le_of_ble_eq_true rfl⟩) hS (fun v w H locs hp hP hD hS => ?_)
          obtain ⟨rfl, ar2, cap2, hO2, rfl⟩ := hp
          rw [tads_ins] at hP hD hO2
          have hP : va_P (kD k) gCl (((lS a), .inr (2, [.ref (lR a)])) :: (((lR a), .inr (9, [.int (lM a + 1), .ref ar2, .int (nI (tads (T.insertIdx (layP vs b T.length) ((q11, al, ke k, 0, 0), (b, e1, p1, sp, [])))).length)])) :: ((lsA k ar2 cap2 (tads (T.insertIdx (layP vs b T.length) ((q11, al, ke k, 0, 0), (b, e1, p1, sp, []))))) ++ ((q11, .inr (4, [.int b, .int e1, .int p1, .int sp, .ref al])) :: (((lL a), .inr (1, [.ref (lS a), .ref (lP a), .ref (lK a), .int tol])) :: (((lP a), .inl (kA k, 6, .inl pit)) :: (((lK a), .inl (kA k, 16, .inl cor)) :: ((tusW k T) ++ ((al, .inr (9, [.int 0, .ref (ke k), .int (nI ([] : List Nat).length)])) :: fr))))))))) H := hP
          have hD : va_D (Ab k) (((lS a), .inr (2, [.ref (lR a)])) :: (((lR a), .inr (9, [.int (lM a + 1), .ref ar2, .int (nI (tads (T.insertIdx (layP vs b T.length) ((q11, al, ke k, 0, 0), (b, e1, p1, sp, [])))).length)])) :: ((lsA k ar2 cap2 (tads (T.insertIdx (layP vs b T.length) ((q11, al, ke k, 0, 0), (b, e1, p1, sp, []))))) ++ ((q11, .inr (4, [.int b, .int e1, .int p1, .int sp, .ref al])) :: (((lL a), .inr (1, [.ref (lS a), .ref (lP a), .ref (lK a), .int tol])) :: (((lP a), .inl (kA k, 6, .inl pit)) :: (((lK a), .inl (kA k, 16, .inl cor)) :: ((tusW k T) ++ ((al, .inr (9, [.int 0, .ref (ke k), .int (nI ([] : List Nat).length)])) :: fr))))))))) := hD
          have hpm := cat_pick [[((lS a), .inr (2, [.ref (lR a)]))], [((lR a), .inr (9, [.int (lM a + 1), .ref ar2, .int (nI (tads (T.insertIdx (layP vs b T.length) ((q11, al, ke k, 0, 0), (b, e1, p1, sp, [])))).length)]))], lsA k ar2 cap2 (tads (T.insertIdx (layP vs b T.length) ((q11, al, ke k, 0, 0), (b, e1, p1, sp, [])))), [(q11, .inr (4, [.int b, .int e1, .int p1, .int sp, .ref al]))], [((lL a), .inr (1, [.ref (lS a), .ref (lP a), .ref (lK a), .int tol]))], [((lP a), .inl (kA k, 6, .inl pit))], [((lK a), .inl (kA k, 16, .inl cor))], tusW k T, [(al, .inr (9, [.int 0, .ref (ke k), .int (nI ([] : List Nat).length)]))]] (fr) [4, 0, 5, 6, 1, 2, 3, 8, 7] 9 rfl (by decide)
          have hP : va_P (kD k) gCl (((lL a), .inr (1, [.ref (lS a), .ref (lP a), .ref (lK a), .int tol])) :: (((lS a), .inr (2, [.ref (lR a)])) :: (((lP a), .inl (kA k, 6, .inl pit)) :: (((lK a), .inl (kA k, 16, .inl cor)) :: (((lR a), .inr (9, [.int (lM a + 1), .ref ar2, .int (nI (tads (T.insertIdx (layP vs b T.length) ((q11, al, ke k, 0, 0), (b, e1, p1, sp, [])))).length)])) :: ((lsA k ar2 cap2 (tads (T.insertIdx (layP vs b T.length) ((q11, al, ke k, 0, 0), (b, e1, p1, sp, []))))) ++ ((q11, .inr (4, [.int b, .int e1, .int p1, .int sp, .ref al])) :: ((al, .inr (9, [.int 0, .ref (ke k), .int (nI ([] : List Nat).length)])) :: ((tusW k T) ++ fr))))))))) _ := hP.perm hpm
          have hD : va_D (Ab k) (((lL a), .inr (1, [.ref (lS a), .ref (lP a), .ref (lK a), .int tol])) :: (((lS a), .inr (2, [.ref (lR a)])) :: (((lP a), .inl (kA k, 6, .inl pit)) :: (((lK a), .inl (kA k, 16, .inl cor)) :: (((lR a), .inr (9, [.int (lM a + 1), .ref ar2, .int (nI (tads (T.insertIdx (layP vs b T.length) ((q11, al, ke k, 0, 0), (b, e1, p1, sp, [])))).length)])) :: ((lsA k ar2 cap2 (tads (T.insertIdx (layP vs b T.length) ((q11, al, ke k, 0, 0), (b, e1, p1, sp, []))))) ++ ((q11, .inr (4, [.int b, .int e1, .int p1, .int sp, .ref al])) :: ((al, .inr (9, [.int 0, .ref (ke k), .int (nI ([] : List Nat).length)])) :: ((tusW k T) ++ fr))))))))) := hD.perm hpm
          have hpf := leW_fold (k := k) (a := (lL a, lS a, lR a, ar2, cap2, lP a, lK a, lM a + 1)) (T2 := (T.insertIdx (layP vs b T.length) ((q11, al, ke k, 0, 0), (b, e1, p1, sp, [])))) (pit := pit) (cor := cor) (tol := tol) (fr := fr) (tusW_ins (t := ((q11, al, ke k, 0, 0), (b, e1, p1, sp, []))) (lay_le vs b T.length))
          have hP : va_P (kD k) gCl (leW k (lL a, lS a, lR a, ar2, cap2, lP a, lK a, lM a + 1) (T.insertIdx (layP vs b T.length) ((q11, al, ke k, 0, 0), (b, e1, p1, sp, []))) pit cor tol ++ fr) H := hP.perm hpf
          have hD : va_D (Ab k) (leW k (lL a, lS a, lR a, ar2, cap2, lP a, lK a, lM a + 1) (T.insertIdx (layP vs b T.length) ((q11, al, ke k, 0, 0), (b, e1, p1, sp, []))) pit cor tol ++ fr) := hD.perm hpf
          refine vy_ret ?_
          refine W.widen (k := 5) (n := 52) (Nat.le_of_ble_eq_true rfl) (Nat.le_of_ble_eq_true rfl) ?_
          exact W.iret hx hb hr (fun t9 ht9 hW9 => c_retM (w := (leW k (lL a, lS a, lR a, ar2, cap2, lP a, lK a, lM a + 1) (T.insertIdx (layP vs b T.length) ((q11, al, ke k, 0, 0), (b, e1, p1, sp, []))) pit cor tol) ++ fr) ⟨nI (layP vs b T.length), (vs.insertIdx (layP vs b T.length) (b, e1, p1, sp, []), pit, cor, tol), (lL a, lS a, lR a, ar2, cap2, lP a, lK a, lM a + 1), T.insertIdx (layP vs b T.length) ((q11, al, ke k, 0, 0), (b, e1, p1, sp, [])), (by have h9 := h; unfold o_comes at h9; dsimp only at h9; rw [if_neg c1] at h9; rw [if_neg c3] at h9; rw [if_neg c5] at h9; rw [if_neg c8] at h9; rw [esp] at h9; rw [hTn]; cases h9; rfl), rfl, rfl, by rw [snd_ins, hvs], ⟨hO2, fun u hu => by rcases mem_ins (lay_le vs b T.length) hu with rfl | hu; exact ⟨⟨Nat.le_refl _, Nat.zero_le _, fun _ => rfl, fun h => absurd rfl h⟩, fun v hv => nomatch hv⟩; exact hO.2 u hu⟩, rfl⟩ hP hD hS ht9) hS.2.2 dX1_comes_97
