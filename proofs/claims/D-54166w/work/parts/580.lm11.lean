/-! Lecture: uncorrects (printed by wip/gen/gen_lm11.py) -/
theorem term_in {x : Int32} (h : ¬ bi (ib x.toInt64 0 15) = 0) : vp_in x 16 := by
  obtain ⟨j, hj, rfl⟩ := term_nI h
  exact vp_in_nI hj (by omega)
/-- a correction is changed: the answer, the lecture -/
def o_chg (L : LV) (x y : Int32) : Option OR :=
  (m_X1_places 21 L.1 (chSet (shN L.2.2.1) (shN (upd L.2.2.1 x.toNatClampNeg y)) 16)).bind fun r => some (.ok (r, (L.1, L.2.1, upd L.2.2.1 x.toNatClampNeg y, L.2.2.2)))
def o_uncor (L : LV) (x : Int32) : Option OR :=
  if bi (ib x.toInt64 0 15) = 0 then some (.error (-1000001)) else
  if L.2.2.1 x.toNatClampNeg = (-1 : Int32) then some (.error (-1000002)) else o_chg L x (-1)
theorem hd_X1_uncorrects : yX1_uncorrects.cls ≠ "java/lang/invoke/MethodHandle" ∧ yX1_uncorrects.cls ≠ "java/lang/invoke/VarHandle" ∧ (parseMethodDescriptor yX1_uncorrects.desc).map (fun d => d.parameters.length) = some 1 := by decide +kernel
set_option maxHeartbeats 4000000 in
set_option maxRecDepth 100000 in
theorem met_X1_uncorrects {l : Launch} (htr : l.stackTraces = false) {k : Cx} {a : LA} {T : List TT} {vs : List TV} {pit cor : Nat → Int32} {tol : Int32} {fr : va_W} {x : Int32} {out : OR} (hvs : T.map Prod.snd = vs) (hO : leOk k a T) (h1k : vs.length ≤ 1000) (hs1 : shOk cor) (hs2 : shOk (upd cor x.toNatClampNeg (-1))) (h : o_uncor (vs, pit, cor, tol) x = some out) (hD : va_D (Ab k) ((leW k a T pit cor tol) ++ fr)) : vy_Met l yX1_uncorrects (ws_ yX1_uncorrects cX1_uncorrects 2 (some .int)) ({ frames := 20, cells := 24, slots := 114, locals := 415 } : Room) (gPc [.ref (lL a), .int x] k ((leW k a T pit cor tol) ++ fr)) (QcM k (oP k (lL a) fr out)) (QxM k (oX k fr out)) 24 114 (Ab k) := by
  refine vy_ofW (cc := cX1_uncorrects) (maxL := 2) (ret := (some .int)) (by decide) rfl ?_
  intro p e s m args below meth c s₁ B hml hex hv
  obtain ⟨rfl, hP, hG⟩ := hv
  have hx := B.exec
  have hb := B.bytes
  have hr := B.returns
  have hts := atoms_spec (ws := ws_ yX1_uncorrects cX1_uncorrects 2 (some .int)) B.pre
  have hts : ∀ w ∈ lw_all, w.before _ s = true := fun w h => hts w (List.mem_cons_of_mem _ h)
  have hown : s.vm.findClass RX1 = some m.cls := findClass_of_methodNamed B.named
  have hlocks := B.notSynchronized
  have hl := lv_entry ([.ref (lL a), .int x]) (n := 2) (Nat.le_of_ble_eq_true rfl)
  rw [lg_entry_eq]
  generalize (lg_sl ([.ref (lL a), .int x]) ++ List.replicate (2 - (lg_sl ([.ref (lL a), .int x])).length) Slot.unset).toArray = ls at hl ⊢
  have hl : lv_has ls 2 [(0, .ref (lL a)), (1, .int x)] := hl
  have hS : va_S (Ab k) s.heap s.heap [] := va_S.rf
  refine lv_iload_n hx hb dX1_uncorrects_0 rfl (lv_at hl 1 rfl) ?_
  refine c_call (va_runSN (As := [.int x]) (rest := []) ⟨hx, hb, hml, hown, hts⟩ (met_X0_isTerm (isTerm_eq _)) ⟨va_cnB 1 hts (lw_meth q540) rfl rfl rfl (nm_LectureTurns_Lecture_84 hG) (hts _ q66) hd_X0_isTerm ⟨Nat.le_of_ble_eq_true rfl, Nat.le_of_ble_eq_true rfl⟩, hts _ q539, trivial⟩ m_preS rfl rfl hl.1 rfl (lv_room (Nat.le_of_ble_eq_true rfl)) dX1_uncorrects_1 ⟨Nat.le_of_ble_eq_true rfl, Nat.le_of_ble_eq_true rfl⟩) ?_
  refine lv_ldc hx hb hown (hts _ q455) dX1_uncorrects_4 ?_
  refine d_callM (vy_runSN (As := [.int (bi (ib (x).toInt64 0 15)), .int (-1000001 : Int32)]) (rest := []) ⟨hx, hb, hml, hown, hts⟩ (met_X0_need htr hD) ⟨va_cnB 2 hts (lw_meth q458) rfl rfl rfl (nm_LectureTurns_Lecture_57 hG) (hts _ q66) hd_X0_need ⟨Nat.le_of_ble_eq_true rfl, Nat.le_of_ble_eq_true rfl⟩, hts _ q457, trivial⟩ (g_preS hG hS hP) rfl rfl hl.1 rfl (lv_room (Nat.le_of_ble_eq_true rfl)) dX1_uncorrects_6 ⟨Nat.le_of_ble_eq_true rfl, Nat.le_of_ble_eq_true rfl⟩) hS (fun E ce q9 w H locs hp hM hP hD hS h1 h2 h3 => ?_) (fun v w H locs hp hP hD hS => ?_)
  · obtain ⟨n1, rfl, u, sen, rfl⟩ := hp
    exact d_out (fun x h9 => (hex x h9).elim) hlocks h1 h2 h3 ⟨(-1000001 : Int32), .null, u, sen, leW k a T pit cor tol, (by have h9 := h; unfold o_uncor at h9; dsimp only at h9; rw [if_pos n1] at h9; cases h9; rfl), rfl, rfl⟩ hM hP hD hS (Nat.le_of_ble_eq_true rfl) (Nat.le_of_ble_eq_true rfl)
  obtain ⟨n1, rfl, rfl⟩ := hp
  have hP : va_P (kD k) gCl ((leW k a T pit cor tol) ++ fr) _ := hP
  have hD : va_D (Ab k) ((leW k a T pit cor tol) ++ fr) := hD
  refine lv_aload_n hx hb dX1_uncorrects_9 rfl (lv_at hl 0 rfl) ?_
  have hPs : va_P (kD k) gCl (leW k a T pit cor tol) _ := hP.of_mem (fun x hx => (List.mem_append_left _ hx))
  refine va_get (ci := 1) (v := .ref (lK a)) (C := RX1) (T := TX1) (N := 4) hx hb hts in_X1 hown hG.K (le_o hPs) 0 rfl rfl 2 (by decide) (hts _ q155) (fun _ h9 => h9) rfl dX1_uncorrects_10 ?_
  refine lv_iload_n hx hb dX1_uncorrects_13 rfl (lv_at hl 1 rfl) ?_
  have hPs : va_P (kD k) gCl (leW k a T pit cor tol) _ := hP.of_mem (fun x hx => (List.mem_append_left _ hx))
  refine va_iald hx hb hG.K (le_c hPs) 0 0 rfl rfl (term_in n1) dX1_uncorrects_14 ?_
  refine lv_iconst (v := -1) hx hb dX1_uncorrects_15 (by decide) ?_
  refine lv_icmp_eq (tgt := 23) hx hb dX1_uncorrects_16 (by decide) (fun c2 => ?_) (fun c2 => ?_)
  · refine lv_iconst (v := 0) hx hb dX1_uncorrects_23 (by decide) ?_
    refine lv_ldc hx hb hown (hts _ q624) dX1_uncorrects_24 ?_
    refine d_callM (vy_runSN (As := [.int (0 : Int32), .int (-1000002 : Int32)]) (rest := []) ⟨hx, hb, hml, hown, hts⟩ (met_X0_need htr hD) ⟨va_cnB 2 hts (lw_meth q458) rfl rfl rfl (nm_LectureTurns_Lecture_57 hG) (hts _ q66) hd_X0_need ⟨Nat.le_of_ble_eq_true rfl, Nat.le_of_ble_eq_true rfl⟩, hts _ q457, trivial⟩ (g_preS hG hS hP) rfl rfl hl.1 rfl (lv_room (Nat.le_of_ble_eq_true rfl)) dX1_uncorrects_26 ⟨Nat.le_of_ble_eq_true rfl, Nat.le_of_ble_eq_true rfl⟩) hS (fun E ce q9 w H locs hp hM hP hD hS h1 h2 h3 => ?_) (fun v w H locs hp hP hD hS => ?_)
    · obtain ⟨n3, rfl, u, sen, rfl⟩ := hp
      exact d_out (fun x h9 => (hex x h9).elim) hlocks h1 h2 h3 ⟨(-1000002 : Int32), .null, u, sen, leW k a T pit cor tol, (by have h9 := h; unfold o_uncor at h9; dsimp only at h9; rw [if_neg n1] at h9; rw [if_pos c2] at h9; cases h9; rfl), rfl, rfl⟩ hM hP hD hS (Nat.le_of_ble_eq_true rfl) (Nat.le_of_ble_eq_true rfl)
    · exact absurd rfl hp.1
  · refine lv_iconst (v := 1) hx hb dX1_uncorrects_19 (by decide) ?_
    refine lv_goto (tgt := 24) hx hb dX1_uncorrects_20 (by decide) ?_
    refine lv_ldc hx hb hown (hts _ q624) dX1_uncorrects_24 ?_
    refine d_callM (vy_runSN (As := [.int (1 : Int32), .int (-1000002 : Int32)]) (rest := []) ⟨hx, hb, hml, hown, hts⟩ (met_X0_need htr hD) ⟨va_cnB 2 hts (lw_meth q458) rfl rfl rfl (nm_LectureTurns_Lecture_57 hG) (hts _ q66) hd_X0_need ⟨Nat.le_of_ble_eq_true rfl, Nat.le_of_ble_eq_true rfl⟩, hts _ q457, trivial⟩ (g_preS hG hS hP) rfl rfl hl.1 rfl (lv_room (Nat.le_of_ble_eq_true rfl)) dX1_uncorrects_26 ⟨Nat.le_of_ble_eq_true rfl, Nat.le_of_ble_eq_true rfl⟩) hS (fun E ce q9 w H locs hp hM hP hD hS h1 h2 h3 => ?_) (fun v w H locs hp hP hD hS => ?_)
    · exact absurd hp.1 (by decide)
    obtain ⟨n4, rfl, rfl⟩ := hp
    have hP : va_P (kD k) gCl ((leW k a T pit cor tol) ++ fr) _ := hP
    have hD : va_D (Ab k) ((leW k a T pit cor tol) ++ fr) := hD
    refine lv_aload_n hx hb dX1_uncorrects_29 rfl (lv_at hl 0 rfl) ?_
    refine lv_iload_n hx hb dX1_uncorrects_30 rfl (lv_at hl 1 rfl) ?_
    refine lv_iconst (v := -1) hx hb dX1_uncorrects_31 (by decide) ?_
    have h9 := h
    unfold o_uncor at h9
    dsimp only at h9
    rw [if_neg n1] at h9
    rw [if_neg c2] at h9
    unfold o_chg at h9
    dsimp only at h9
    obtain ⟨r, hpl, h9⟩ := Option.bind_eq_some_iff.mp h9
    refine c_callM (va_runV (As := [.int x, .int (-1 : Int32)]) (rest := []) ⟨hx, hb, hml, hown, hts⟩ (met_X1_changes hvs hO (term_in n1) hs1 hs2 hpl hD) (cwV 2 hts (lw_V q626 q628 qs9 q67 q629) rfl rfl rfl ⟨rfl, hd_X1_changes⟩ ⟨Nat.le_of_ble_eq_true rfl, Nat.le_of_ble_eq_true rfl⟩) (g_preV hG hS hP (va_recv hG.K (le_o hP.left) (ci := 1) (q0 := 0) rfl rfl)) rfl rfl hl.1 rfl (lv_room (Nat.le_of_ble_eq_true rfl)) dX1_uncorrects_32 ⟨Nat.le_of_ble_eq_true rfl, Nat.le_of_ble_eq_true rfl⟩) hS (fun v w H locs hp hP hD hS => ?_)
    obtain ⟨rfl, rfl⟩ := hp
    have hP : va_P (kD k) gCl ((leW k a T pit (upd cor x.toNatClampNeg (-1 : Int32)) tol) ++ fr) _ := hP
    have hD : va_D (Ab k) ((leW k a T pit (upd cor x.toNatClampNeg (-1 : Int32)) tol) ++ fr) := hD
    refine vy_ret ?_
    refine W.widen (k := 24) (n := 114) (Nat.le_of_ble_eq_true rfl) (Nat.le_of_ble_eq_true rfl) ?_
    exact W.iret hx hb hr (fun t9 ht9 hW9 => c_retM (w := (leW k a T pit (upd cor x.toNatClampNeg (-1 : Int32)) tol) ++ fr) ⟨r, (vs, pit, upd cor x.toNatClampNeg (-1), tol), a, T, (by cases h9; rfl), rfl, rfl, hvs, hO, rfl⟩ hP hD hS ht9) hS.2.2 dX1_uncorrects_35
