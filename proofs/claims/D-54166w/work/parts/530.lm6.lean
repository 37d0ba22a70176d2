/-! Lecture: gives (printed by wip/gen/gen_lm6.py) -/
theorem spk_in {pit : Nat → Int32} {y : Int32} {b : Bool} (h : m_X1_isSpeaker pit y = some b) (hb : ¬ bi b = 0) : vp_in y 6 := by
  unfold m_X1_isSpeaker at h
  obtain ⟨b2, e2, h⟩ := pb_some h
  by_cases c : bi b2 = 0
  · rw [if_pos c] at h
    cases h
    exact absurd rfl hb
  · rw [if_neg c] at h
    exact (pg_some h).1
theorem hd_X1_gives : yX1_gives.cls ≠ "java/lang/invoke/MethodHandle" ∧ yX1_gives.cls ≠ "java/lang/invoke/VarHandle" ∧ (parseMethodDescriptor yX1_gives.desc).map (fun d => d.parameters.length) = some 2 := by decide +kernel
set_option maxHeartbeats 4000000 in
set_option maxRecDepth 100000 in
theorem met_X1_gives {l : Launch} (htr : l.stackTraces = false) {k : Cx} {a : LA} {T : List TT} {vs : List TV} {pit cor : Nat → Int32} {tol : Int32} {fr : va_W} {x y : Int32} {out : OR} (hvs : T.map Prod.snd = vs) (hO : leOk k a T) (h1k : vs.length ≤ 1000) (h20 : vs.length ≤ 20) (h : o_gives (vs, pit, cor, tol) x y = some out) (hD : va_D (Ab k) ((leW k a T pit cor tol) ++ fr)) : vy_Met l yX1_gives (ws_ yX1_gives cX1_gives 4 (some .int)) ({ frames := 8, cells := 3, slots := 21, locals := 168 } : Room) (gPc [.ref (lL a), .int x, .int y] k ((leW k a T pit cor tol) ++ fr)) (QcM k (oP k (lL a) fr out)) (QxM k (oX k fr out)) 3 21 (Ab k) := by
  refine vy_ofW (cc := cX1_gives) (maxL := 4) (ret := (some .int)) (by decide) rfl ?_
  intro p e s m args below meth c s₁ B hml hex hv
  obtain ⟨rfl, hP, hG⟩ := hv
  have hx := B.exec
  have hb := B.bytes
  have hr := B.returns
  have hts := atoms_spec (ws := ws_ yX1_gives cX1_gives 4 (some .int)) B.pre
  have hts : ∀ w ∈ lw_all, w.before _ s = true := fun w h => hts w (List.mem_cons_of_mem _ h)
  have hown : s.vm.findClass RX1 = some m.cls := findClass_of_methodNamed B.named
  have hlocks := B.notSynchronized
  have hl := lv_entry ([.ref (lL a), .int x, .int y]) (n := 4) (Nat.le_of_ble_eq_true rfl)
  rw [lg_entry_eq]
  generalize (lg_sl ([.ref (lL a), .int x, .int y]) ++ List.replicate (4 - (lg_sl ([.ref (lL a), .int x, .int y])).length) Slot.unset).toArray = ls at hl ⊢
  have hl : lv_has ls 4 [(0, .ref (lL a)), (1, .int x), (2, .int y)] := hl
  have hS : va_S (Ab k) s.heap s.heap [] := va_S.rf
  unfold o_gives at h
  dsimp only at h
  obtain ⟨b, eb, h⟩ := Option.bind_eq_some_iff.mp h
  refine lv_aload_n hx hb dX1_gives_0 rfl (lv_at hl 0 rfl) ?_
  refine lv_iload_n hx hb dX1_gives_1 rfl (lv_at hl 2 rfl) ?_
  have hPs : va_P (kD k) gCl (leW k a T pit cor tol) _ := hP.of_mem (fun x hx => (List.mem_append_left _ hx))
  refine c_call (va_runV (As := [.int y]) (rest := []) ⟨hx, hb, hml, hown, hts⟩ (met_X1_isSpeaker hvs hO eb) (cwV 1 hts (lw_V q659 q660 q661 q67 q662) rfl rfl rfl ⟨rfl, hd_X1_isSpeaker⟩ ⟨Nat.le_of_ble_eq_true rfl, Nat.le_of_ble_eq_true rfl⟩) (g_preV hG hS hPs (va_recv hG.K (le_o hPs) (ci := 1) (q0 := 0) rfl rfl)) rfl rfl hl.1 rfl (lv_room (Nat.le_of_ble_eq_true rfl)) dX1_gives_2 ⟨Nat.le_of_ble_eq_true rfl, Nat.le_of_ble_eq_true rfl⟩) ?_
  refine lv_ldc hx hb hown (hts _ q455) dX1_gives_5 ?_
  refine d_callM (vy_runSN (As := [.int (bi b), .int (-1000001 : Int32)]) (rest := []) ⟨hx, hb, hml, hown, hts⟩ (met_X0_need htr hD) ⟨va_cnB 2 hts (lw_meth q458) rfl rfl rfl (nm_LectureTurns_Lecture_57 hG) (hts _ q66) hd_X0_need ⟨Nat.le_of_ble_eq_true rfl, Nat.le_of_ble_eq_true rfl⟩, hts _ q457, trivial⟩ (g_preS hG hS hP) rfl rfl hl.1 rfl (lv_room (Nat.le_of_ble_eq_true rfl)) dX1_gives_7 ⟨Nat.le_of_ble_eq_true rfl, Nat.le_of_ble_eq_true rfl⟩) hS (fun E ce q9 w H locs hp hM hP hD hS h1 h2 h3 => ?_) (fun v w H locs hp hP hD hS => ?_)
  · obtain ⟨n1, rfl, u, sen, rfl⟩ := hp
    exact d_out (fun x h9 => (hex x h9).elim) hlocks h1 h2 h3 ⟨(-1000001 : Int32), .null, u, sen, leW k a T pit cor tol, (by have h9 := h; rw [if_pos n1] at h9; cases h9; rfl), rfl, rfl⟩ hM hP hD hS (Nat.le_of_ble_eq_true rfl) (Nat.le_of_ble_eq_true rfl)
  obtain ⟨n1, rfl, rfl⟩ := hp
  have hP : va_P (kD k) gCl ((leW k a T pit cor tol) ++ fr) _ := hP
  have hD : va_D (Ab k) ((leW k a T pit cor tol) ++ fr) := hD
  refine lv_aload_n hx hb dX1_gives_10 rfl (lv_at hl 0 rfl) ?_
  refine lv_iload_n hx hb dX1_gives_11 rfl (lv_at hl 1 rfl) ?_
  refine d_callM (vy_runV (As := [.int x]) (rest := []) ⟨hx, hb, hml, hown, hts⟩ (met_X1_needed htr hvs hO h1k hD) (cwV 1 hts (lw_V q542 q544 qs6 q67 q545) rfl rfl rfl ⟨rfl, hd_X1_needed⟩ ⟨Nat.le_of_ble_eq_true rfl, Nat.le_of_ble_eq_true rfl⟩) (g_preV hG hS hP (va_recv hG.K (le_o hP.left) (ci := 1) (q0 := 0) rfl rfl)) rfl rfl hl.1 rfl (lv_room (Nat.le_of_ble_eq_true rfl)) dX1_gives_12 ⟨Nat.le_of_ble_eq_true rfl, Nat.le_of_ble_eq_true rfl⟩) hS (fun E ce q9 w H locs hp hM hP hD hS h1 h2 h3 => ?_) (fun v w H locs hp hP hD hS => ?_)
  · obtain ⟨n2, rfl, u, sen, rfl⟩ := hp
    exact d_out (fun x h9 => (hex x h9).elim) hlocks h1 h2 h3 ⟨-1000001, .null, u, sen, leW k a T pit cor tol, (by have h9 := h; rw [if_neg n1] at h9; simp only [n2] at h9; cases h9; rfl), rfl, rfl⟩ hM hP hD hS (Nat.le_of_ble_eq_true rfl) (Nat.le_of_ble_eq_true rfl)
  obtain ⟨t, n2, rfl, rfl⟩ := hp
  have ht := (pAt_some n2).2
  have hv : pAt vs x = some t.2 := by rw [← hvs]; exact pAt_map n2
  obtain ⟨i, hi, rfl⟩ : ∃ i : Nat, i < 2 ^ 31 ∧ x = nI i := clamp_nI (pAt_some n2).1
  have hcl : (nI i).toNatClampNeg = i := nI_clamp hi
  rw [hcl] at ht
  have hP : va_P (kD k) gCl ((leW k a T pit cor tol) ++ fr) _ := hP
  have hD : va_D (Ab k) ((leW k a T pit cor tol) ++ fr) := hD
  refine lv_astore_n (lv' := [(3, .ref (aT t.1)), (0, .ref (lL a)), (1, .int (nI i)), (2, .int y)]) hx hb dX1_gives_15 rfl hl (by decide) rfl (fun ls hl => ?_)
  refine lv_aload_n hx hb dX1_gives_16 rfl (lv_at hl 0 rfl) ?_
  have hPs : va_P (kD k) gCl (leW k a T pit cor tol) _ := hP.of_mem (fun x hx => (List.mem_append_left _ hx))
  refine va_getN (ci := 4) (v := .int (vS t.2)) (C := RX4) (T := TX4) (N := 5) hx hb hts in_X4 hown hG.K (le_t hPs ht) 0 rfl rfl 3 (by decide) (nf_LectureTurns_Lecture_81 hG) (fun _ h9 => h9) rfl dX1_gives_17 ?_
  refine lv_iload_n hx hb dX1_gives_20 rfl (lv_at hl 3 rfl) ?_
  refine lv_icmp_eq (tgt := 28) hx hb dX1_gives_21 (by decide) (fun c3 => ?_) (fun c3 => ?_)
  · refine lv_iconst (v := 0) hx hb dX1_gives_28 (by decide) ?_
    refine lv_ldc hx hb hown (hts _ q624) dX1_gives_29 ?_
    refine d_callM (vy_runSN (As := [.int (0 : Int32), .int (-1000002 : Int32)]) (rest := []) ⟨hx, hb, hml, hown, hts⟩ (met_X0_need htr hD) ⟨va_cnB 2 hts (lw_meth q458) rfl rfl rfl (nm_LectureTurns_Lecture_57 hG) (hts _ q66) hd_X0_need ⟨Nat.le_of_ble_eq_true rfl, Nat.le_of_ble_eq_true rfl⟩, hts _ q457, trivial⟩ (g_preS hG hS hP) rfl rfl hl.1 rfl (lv_room (Nat.le_of_ble_eq_true rfl)) dX1_gives_31 ⟨Nat.le_of_ble_eq_true rfl, Nat.le_of_ble_eq_true rfl⟩) hS (fun E ce q9 w H locs hp hM hP hD hS h1 h2 h3 => ?_) (fun v w H locs hp hP hD hS => ?_)
    · obtain ⟨n4, rfl, u, sen, rfl⟩ := hp
      exact d_out (fun x h9 => (hex x h9).elim) hlocks h1 h2 h3 ⟨(-1000002 : Int32), .null, u, sen, leW k a T pit cor tol, (by have h9 := h; rw [if_neg n1] at h9; simp only [hv] at h9; rw [if_pos c3] at h9; cases h9; rfl), rfl, rfl⟩ hM hP hD hS (Nat.le_of_ble_eq_true rfl) (Nat.le_of_ble_eq_true rfl)
    · exact absurd rfl hp.1
  · refine lv_iconst (v := 1) hx hb dX1_gives_24 (by decide) ?_
    refine lv_goto (tgt := 29) hx hb dX1_gives_25 (by decide) ?_
    refine lv_ldc hx hb hown (hts _ q624) dX1_gives_29 ?_
    refine d_callM (vy_runSN (As := [.int (1 : Int32), .int (-1000002 : Int32)]) (rest := []) ⟨hx, hb, hml, hown, hts⟩ (met_X0_need htr hD) ⟨va_cnB 2 hts (lw_meth q458) rfl rfl rfl (nm_LectureTurns_Lecture_57 hG) (hts _ q66) hd_X0_need ⟨Nat.le_of_ble_eq_true rfl, Nat.le_of_ble_eq_true rfl⟩, hts _ q457, trivial⟩ (g_preS hG hS hP) rfl rfl hl.1 rfl (lv_room (Nat.le_of_ble_eq_true rfl)) dX1_gives_31 ⟨Nat.le_of_ble_eq_true rfl, Nat.le_of_ble_eq_true rfl⟩) hS (fun E ce q9 w H locs hp hM hP hD hS h1 h2 h3 => ?_) (fun v w H locs hp hP hD hS => ?_)
    · exact absurd hp.1 (by decide)
    obtain ⟨n5, rfl, rfl⟩ := hp
    have hP : va_P (kD k) gCl ((leW k a T pit cor tol) ++ fr) _ := hP
    have hD : va_D (Ab k) ((leW k a T pit cor tol) ++ fr) := hD
    have h9 := h
    rw [if_neg n1] at h9
    simp only [hv] at h9
    rw [if_neg c3] at h9
    rw [hcl] at h9
    obtain ⟨pit2, ep, h9⟩ := Option.bind_eq_some_iff.mp h9
    unfold o_avg at ep
    obtain ⟨many, hmany, ep⟩ := Option.bind_eq_some_iff.mp ep
    cases ep
    refine lv_aload_n hx hb dX1_gives_34 rfl (lv_at hl 0 rfl) ?_
    refine lv_iload_n hx hb dX1_gives_35 rfl (lv_at hl 3 rfl) ?_
    rw [leW_flat] at hP hD
    have hP : va_P (kD k) gCl (((lL a), .inr (1, [.ref (lS a), .ref (lP a), .ref (lK a), .int tol])) :: (((lS a), .inr (2, [.ref (lR a)])) :: (((lP a), .inl (kA k, 6, .inl pit)) :: (((lK a), .inl (kA k, 16, .inl cor)) :: (((lR a), .inr (9, [.int (lM a), .ref (lE a), .int (nI (tads T).length)])) :: ((lsA k (lE a) (lC a) (tads T)) ++ ((tusW k T) ++ fr))))))) _ := hP
    have hD : va_D (Ab k) (((lL a), .inr (1, [.ref (lS a), .ref (lP a), .ref (lK a), .int tol])) :: (((lS a), .inr (2, [.ref (lR a)])) :: (((lP a), .inl (kA k, 6, .inl pit)) :: (((lK a), .inl (kA k, 16, .inl cor)) :: (((lR a), .inr (9, [.int (lM a), .ref (lE a), .int (nI (tads T).length)])) :: ((lsA k (lE a) (lC a) (tads T)) ++ ((tusW k T) ++ fr))))))) := hD
    have hpm := cat_pick [[((lL a), .inr (1, [.ref (lS a), .ref (lP a), .ref (lK a), .int tol]))], [((lS a), .inr (2, [.ref (lR a)]))], [((lP a), .inl (kA k, 6, .inl pit))], [((lK a), .inl (kA k, 16, .inl cor))], [((lR a), .inr (9, [.int (lM a), .ref (lE a), .int (nI (tads T).length)]))], lsA k (lE a) (lC a) (tads T), tusW k T] (fr) [6, 0, 1, 2, 3, 4, 5] 7 rfl (by decide)
    have hP : va_P (kD k) gCl ((tusW k T) ++ (((lL a), .inr (1, [.ref (lS a), .ref (lP a), .ref (lK a), .int tol])) :: (((lS a), .inr (2, [.ref (lR a)])) :: (((lP a), .inl (kA k, 6, .inl pit)) :: (((lK a), .inl (kA k, 16, .inl cor)) :: (((lR a), .inr (9, [.int (lM a), .ref (lE a), .int (nI (tads T).length)])) :: ((lsA k (lE a) (lC a) (tads T)) ++ fr))))))) _ := hP.perm hpm
    have hD : va_D (Ab k) ((tusW k T) ++ (((lL a), .inr (1, [.ref (lS a), .ref (lP a), .ref (lK a), .int tol])) :: (((lS a), .inr (2, [.ref (lR a)])) :: (((lP a), .inl (kA k, 6, .inl pit)) :: (((lK a), .inl (kA k, 16, .inl cor)) :: (((lR a), .inr (9, [.int (lM a), .ref (lE a), .int (nI (tads T).length)])) :: ((lsA k (lE a) (lC a) (tads T)) ++ fr))))))) := hD.perm hpm
    obtain ⟨R9, hR1, hR2⟩ := tusW_upd (k := k) ht
    have h8p := hP.perm (hR1.append_right _)
    have h8d := hD.perm (hR1.append_right _)
    simp only [List.cons_append, List.append_assoc] at h8p h8d
    have hP : va_P (kD k) gCl (((aT t.1), .inr (4, [.int (vB t.2), .int (vE t.2), .int (vP t.2), .int (vS t.2), .ref (aL t.1)])) :: (((aL t.1), .inr (9, [.int (aM t.1), .ref (aE t.1), .int (nI (bxs k (vT t.2)).length)])) :: ((lsA k (aE t.1) (aC t.1) (bxs k (vT t.2))) ++ (R9 ++ (((lL a), .inr (1, [.ref (lS a), .ref (lP a), .ref (lK a), .int tol])) :: (((lS a), .inr (2, [.ref (lR a)])) :: (((lP a), .inl (kA k, 6, .inl pit)) :: (((lK a), .inl (kA k, 16, .inl cor)) :: (((lR a), .inr (9, [.int (lM a), .ref (lE a), .int (nI (tads T).length)])) :: ((lsA k (lE a) (lC a) (tads T)) ++ fr)))))))))) _ := h8p
    have hD : va_D (Ab k) (((aT t.1), .inr (4, [.int (vB t.2), .int (vE t.2), .int (vP t.2), .int (vS t.2), .ref (aL t.1)])) :: (((aL t.1), .inr (9, [.int (aM t.1), .ref (aE t.1), .int (nI (bxs k (vT t.2)).length)])) :: ((lsA k (aE t.1) (aC t.1) (bxs k (vT t.2))) ++ (R9 ++ (((lL a), .inr (1, [.ref (lS a), .ref (lP a), .ref (lK a), .int tol])) :: (((lS a), .inr (2, [.ref (lR a)])) :: (((lP a), .inl (kA k, 6, .inl pit)) :: (((lK a), .inl (kA k, 16, .inl cor)) :: (((lR a), .inr (9, [.int (lM a), .ref (lE a), .int (nI (tads T).length)])) :: ((lsA k (lE a) (lC a) (tads T)) ++ fr)))))))))) := h8d
    refine va_putN (ci := 4) (v := .int y) (ty := .int) (C := RX4) (T := TX4) (N := 5) hx hb hts in_X4 tyX4 tyX4_ok nmX4 hown hG.K hP hD hS 0 rfl rfl 3 (by decide) (nf_LectureTurns_Lecture_81 hG) (fun _ h9 => h9) rfl (by decide +kernel) rfl rfl (Nat.le_of_ble_eq_true rfl) dX1_gives_36 (fun H locs hP hD hS => ?_)
    have hP : va_P (kD k) gCl (((aT t.1), .inr (4, [.int (vB t.2), .int (vE t.2), .int (vP t.2), .int y, .ref (aL t.1)])) :: (((aL t.1), .inr (9, [.int (aM t.1), .ref (aE t.1), .int (nI (bxs k (vT t.2)).length)])) :: ((lsA k (aE t.1) (aC t.1) (bxs k (vT t.2))) ++ (R9 ++ (((lL a), .inr (1, [.ref (lS a), .ref (lP a), .ref (lK a), .int tol])) :: (((lS a), .inr (2, [.ref (lR a)])) :: (((lP a), .inl (kA k, 6, .inl pit)) :: (((lK a), .inl (kA k, 16, .inl cor)) :: (((lR a), .inr (9, [.int (lM a), .ref (lE a), .int (nI (tads T).length)])) :: ((lsA k (lE a) (lC a) (tads T)) ++ fr)))))))))) _ := hP
    have hD : va_D (Ab k) (((aT t.1), .inr (4, [.int (vB t.2), .int (vE t.2), .int (vP t.2), .int y, .ref (aL t.1)])) :: (((aL t.1), .inr (9, [.int (aM t.1), .ref (aE t.1), .int (nI (bxs k (vT t.2)).length)])) :: ((lsA k (aE t.1) (aC t.1) (bxs k (vT t.2))) ++ (R9 ++ (((lL a), .inr (1, [.ref (lS a), .ref (lP a), .ref (lK a), .int tol])) :: (((lS a), .inr (2, [.ref (lR a)])) :: (((lP a), .inl (kA k, 6, .inl pit)) :: (((lK a), .inl (kA k, 16, .inl cor)) :: (((lR a), .inr (9, [.int (lM a), .ref (lE a), .int (nI (tads T).length)])) :: ((lsA k (lE a) (lC a) (tads T)) ++ fr)))))))))) := hD
    have htd : tads (T.set i ((aT t.1, aL t.1, aE t.1, aC t.1, aM t.1), (vB t.2, vE t.2, vP t.2, y, vT t.2))) = tads T := tads_set ht rfl
    have hpm := cat_pick [[((aT t.1), .inr (4, [.int (vB t.2), .int (vE t.2), .int (vP t.2), .int y, .ref (aL t.1)]))], [((aL t.1), .inr (9, [.int (aM t.1), .ref (aE t.1), .int (nI (bxs k (vT t.2)).length)]))], lsA k (aE t.1) (aC t.1) (bxs k (vT t.2)), R9, [((lL a), .inr (1, [.ref (lS a), .ref (lP a), .ref (lK a), .int tol]))], [((lS a), .inr (2, [.ref (lR a)]))], [((lP a), .inl (kA k, 6, .inl pit))], [((lK a), .inl (kA k, 16, .inl cor))], [((lR a), .inr (9, [.int (lM a), .ref (lE a), .int (nI (tads T).length)]))], lsA k (lE a) (lC a) (tads T)] (fr) [4, 5, 6, 7, 8, 9, 0, 1, 2, 3] 10 rfl (by decide)
    have hP : va_P (kD k) gCl (((lL a), .inr (1, [.ref (lS a), .ref (lP a), .ref (lK a), .int tol])) :: (((lS a), .inr (2, [.ref (lR a)])) :: (((lP a), .inl (kA k, 6, .inl pit)) :: (((lK a), .inl (kA k, 16, .inl cor)) :: (((lR a), .inr (9, [.int (lM a), .ref (lE a), .int (nI (tads T).length)])) :: ((lsA k (lE a) (lC a) (tads T)) ++ (((aT t.1), .inr (4, [.int (vB t.2), .int (vE t.2), .int (vP t.2), .int y, .ref (aL t.1)])) :: (((aL t.1), .inr (9, [.int (aM t.1), .ref (aE t.1), .int (nI (bxs k (vT t.2)).length)])) :: ((lsA k (aE t.1) (aC t.1) (bxs k (vT t.2))) ++ (R9 ++ fr)))))))))) _ := hP.perm hpm
    have hD : va_D (Ab k) (((lL a), .inr (1, [.ref (lS a), .ref (lP a), .ref (lK a), .int tol])) :: (((lS a), .inr (2, [.ref (lR a)])) :: (((lP a), .inl (kA k, 6, .inl pit)) :: (((lK a), .inl (kA k, 16, .inl cor)) :: (((lR a), .inr (9, [.int (lM a), .ref (lE a), .int (nI (tads T).length)])) :: ((lsA k (lE a) (lC a) (tads T)) ++ (((aT t.1), .inr (4, [.int (vB t.2), .int (vE t.2), .int (vP t.2), .int y, .ref (aL t.1)])) :: (((aL t.1), .inr (9, [.int (aM t.1), .ref (aE t.1), .int (nI (bxs k (vT t.2)).length)])) :: ((lsA k (aE t.1) (aC t.1) (bxs k (vT t.2))) ++ (R9 ++ fr)))))))))) := hD.perm hpm
    have hpf := leW_fold (k := k) (a := a) (T2 := T.set i ((aT t.1, aL t.1, aE t.1, aC t.1, aM t.1), (vB t.2, vE t.2, vP t.2, y, vT t.2))) (pit := pit) (cor := cor) (tol := tol) (fr := fr) (hR2 ((aT t.1, aL t.1, aE t.1, aC t.1, aM t.1), (vB t.2, vE t.2, vP t.2, y, vT t.2)))
    simp only [List.cons_append, List.append_assoc, htd] at hpf
    have hP : va_P (kD k) gCl (leW k a (T.set i ((aT t.1, aL t.1, aE t.1, aC t.1, aM t.1), (vB t.2, vE t.2, vP t.2, y, vT t.2))) pit cor tol ++ fr) H := hP.perm hpf
    have hD : va_D (Ab k) (leW k a (T.set i ((aT t.1, aL t.1, aE t.1, aC t.1, aM t.1), (vB t.2, vE t.2, vP t.2, y, vT t.2))) pit cor tol ++ fr) := hD.perm hpf
    have hvs2 : (T.set i ((aT t.1, aL t.1, aE t.1, aC t.1, aM t.1), (vB t.2, vE t.2, vP t.2, y, vT t.2))).map Prod.snd = (vs.set i (vB t.2, vE t.2, vP t.2, y, vT t.2)) := by rw [map_set', hvs]
    have hO2 : leOk k a (T.set i ((aT t.1, aL t.1, aE t.1, aC t.1, aM t.1), (vB t.2, vE t.2, vP t.2, y, vT t.2))) := ⟨by rw [htd]; exact hO.1, fun u hu => by rcases mem_set' hu with rfl | hu; exact hO.2 t (List.mem_of_getElem? ht); exact hO.2 u hu⟩
    refine lv_aload_n hx hb dX1_gives_39 rfl (lv_at hl 1 rfl) ?_
    refine lv_iload_n hx hb dX1_gives_40 rfl (lv_at hl 3 rfl) ?_
    refine c_callM (va_runV (As := [.int y]) (rest := []) ⟨hx, hb, hml, hown, hts⟩ (met_X1_average hvs2 hO2 (by rw [List.length_set]; omega) (spk_in eb n1) hmany hD) (cwV 1 hts (lw_V q664 q666 qs11 q67 q667) rfl rfl rfl ⟨rfl, hd_X1_average⟩ ⟨Nat.le_of_ble_eq_true rfl, Nat.le_of_ble_eq_true rfl⟩) (g_preV hG hS hP (va_recv hG.K (le_o hP.left) (ci := 1) (q0 := 0) rfl rfl)) rfl rfl hl.1 rfl (lv_room (Nat.le_of_ble_eq_true rfl)) dX1_gives_41 ⟨Nat.le_of_ble_eq_true rfl, Nat.le_of_ble_eq_true rfl⟩) hS (fun v w H locs hp hP hD hS => ?_)
    obtain ⟨rfl, rfl⟩ := hp
    have hP : va_P (kD k) gCl ((leW k a (T.set i ((aT t.1, aL t.1, aE t.1, aC t.1, aM t.1), (vB t.2, vE t.2, vP t.2, y, vT t.2))) (upd pit y.toNatClampNeg (avg (vs.set i (vB t.2, vE t.2, vP t.2, y, vT t.2)) pit y many)) cor tol) ++ fr) _ := hP
    have hD : va_D (Ab k) ((leW k a (T.set i ((aT t.1, aL t.1, aE t.1, aC t.1, aM t.1), (vB t.2, vE t.2, vP t.2, y, vT t.2))) (upd pit y.toNatClampNeg (avg (vs.set i (vB t.2, vE t.2, vP t.2, y, vT t.2)) pit y many)) cor tol) ++ fr) := hD
    refine lv_aload_n hx hb dX1_gives_44 rfl (lv_at hl 1 rfl) ?_
    have hPs : va_P (kD k) gCl (leW k a (T.set i ((aT t.1, aL t.1, aE t.1, aC t.1, aM t.1), (vB t.2, vE t.2, vP t.2, y, vT t.2))) (upd pit y.toNatClampNeg (avg (vs.set i (vB t.2, vE t.2, vP t.2, y, vT t.2)) pit y many)) cor tol) H := hP.left
    refine va_get (ci := 1) (v := .ref (lP a)) (C := RX1) (T := TX1) (N := 4) hx hb hts in_X1 hown hG.K (le_o hPs) 0 rfl rfl 1 (by decide) (hts _ q153) (fun _ h9 => h9) rfl dX1_gives_45 ?_
    refine lv_iload_n hx hb dX1_gives_48 rfl (lv_at hl 3 rfl) ?_
    refine va_iald hx hb hG.K (le_p hPs) 0 0 rfl rfl (spk_in eb n1) dX1_gives_49 ?_
    refine vy_ret ?_
    refine W.widen (k := 3) (n := 21) (Nat.le_of_ble_eq_true rfl) (Nat.le_of_ble_eq_true rfl) ?_
    exact W.iret hx hb hr (fun t9 ht9 hW9 => c_retM (w := (leW k a (T.set i ((aT t.1, aL t.1, aE t.1, aC t.1, aM t.1), (vB t.2, vE t.2, vP t.2, y, vT t.2))) (upd pit y.toNatClampNeg (avg (vs.set i (vB t.2, vE t.2, vP t.2, y, vT t.2)) pit y many)) cor tol) ++ fr) ⟨(upd pit y.toNatClampNeg (avg (vs.set i (vB t.2, vE t.2, vP t.2, y, vT t.2)) pit y many)) y.toNatClampNeg, ((vs.set i (vB t.2, vE t.2, vP t.2, y, vT t.2)), (upd pit y.toNatClampNeg (avg (vs.set i (vB t.2, vE t.2, vP t.2, y, vT t.2)) pit y many)), cor, tol), a, T.set i ((aT t.1, aL t.1, aE t.1, aC t.1, aM t.1), (vB t.2, vE t.2, vP t.2, y, vT t.2)), (by cases h9; rfl), rfl, rfl, hvs2, hO2, rfl⟩ hP hD hS ht9) hS.2.2 dX1_gives_50
