/-! Lecture: corrects (printed by wip/gen/gen_lm12.py) -/
abbrev wsH (y : MethodName) (cc : ByteArray) (n : Nat) (ret : Option FieldType) (hh : List (Nat × Nat × Nat × Nat)) : List Cond := Cond.codeWith y cc n ret hh :: lw_all
def o_cor (L : LV) (x y : Int32) : Option OR :=
  if bi (ib x.toInt64 0 15) = 0 then some (.error (-1000001)) else
  if bi (ib y.toInt64 0 15) = 0 then some (.error (-1000001)) else
  if x = y then some (.error (-1000001)) else
  (m_follow 17 L.2.2.1 y x).bind fun b => match b with
    | true => some (.error (-1000002))
    | false => o_chg L x y
theorem hd_X1_corrects : yX1_corrects.cls ≠ "java/lang/invoke/MethodHandle" ∧ yX1_corrects.cls ≠ "java/lang/invoke/VarHandle" ∧ (parseMethodDescriptor yX1_corrects.desc).map (fun d => d.parameters.length) = some 2 := by decide +kernel
set_option maxHeartbeats 4000000 in
set_option maxRecDepth 100000 in
theorem met_X1_corrects {l : Launch} (htr : l.stackTraces = false) {k : Cx} {a : LA} {T : List TT} {vs : List TV} {pit cor : Nat → Int32} {tol : Int32} {fr : va_W} {x y : Int32} {out : OR} (hvs : T.map Prod.snd = vs) (hO : leOk k a T) (h1k : vs.length ≤ 1000) (hs1 : shOk cor) (hs2 : m_follow 17 cor y x = some false → shOk (upd cor x.toNatClampNeg y)) (h : o_cor (vs, pit, cor, tol) x y = some out) (hD : va_D (Ab k) ((leW k a T pit cor tol) ++ fr)) : vy_Met l yX1_corrects (wsH yX1_corrects cX1_corrects 4 (some .int) [(29, 35, 38, 130)]) ({ frames := 24, cells := 24, slots := 113, locals := 518 } : Room) (gPc [.ref (lL a), .int x, .int y] k ((leW k a T pit cor tol) ++ fr)) (QcM k (oP k (lL a) fr out)) (QxM k (oX k fr out)) 24 113 (Ab k) := by
  refine vy_ofWH (cc := cX1_corrects) (maxL := 4) (ret := (some .int)) (hh := [(29, 35, 38, 130)]) (by decide) rfl ?_
  intro p e s m args below meth c s₁ B hml hv
  obtain ⟨rfl, hP, hG⟩ := hv
  have hx := B.exec
  have hb := B.bytes
  have hr := B.returns
  have hts := atoms_spec (ws := wsH yX1_corrects cX1_corrects 4 (some .int) [(29, 35, 38, 130)]) B.pre
  have hcw9 := hts _ List.mem_cons_self
  have hts : ∀ w ∈ lw_all, w.before _ s = true := fun w h => hts w (List.mem_cons_of_mem _ h)
  have hown : s.vm.findClass RX1 = some m.cls := findClass_of_methodNamed B.named
  have hlocks := B.notSynchronized
  have hl := lv_entry ([.ref (lL a), .int x, .int y]) (n := 4) (Nat.le_of_ble_eq_true rfl)
  rw [lg_entry_eq]
  generalize (lg_sl ([.ref (lL a), .int x, .int y]) ++ List.replicate (4 - (lg_sl ([.ref (lL a), .int x, .int y])).length) Slot.unset).toArray = ls at hl ⊢
  have hl : lv_has ls 4 [(0, .ref (lL a)), (1, .int x), (2, .int y)] := hl
  have hS : va_S (Ab k) s.heap s.heap [] := va_S.rf
  have htab := vx_table (x := yX1_corrects) B hcw9
  refine lv_iload_n hx hb dX1_corrects_0 rfl (lv_at hl 1 rfl) ?_
  refine c_call (va_runSN (As := [.int x]) (rest := []) ⟨hx, hb, hml, hown, hts⟩ (met_X0_isTerm (isTerm_eq _)) ⟨va_cnB 1 hts (lw_meth q540) rfl rfl rfl (nm_LectureTurns_Lecture_84 hG) (hts _ q66) hd_X0_isTerm ⟨Nat.le_of_ble_eq_true rfl, Nat.le_of_ble_eq_true rfl⟩, hts _ q539, trivial⟩ m_preS rfl rfl hl.1 rfl (lv_room (Nat.le_of_ble_eq_true rfl)) dX1_corrects_1 ⟨Nat.le_of_ble_eq_true rfl, Nat.le_of_ble_eq_true rfl⟩) ?_
  refine lv_if_eq (tgt := 23) hx hb dX1_corrects_4 (by decide) (fun c1 => ?_) (fun c1 => ?_)
  · refine lv_iconst (v := 0) hx hb dX1_corrects_23 (by decide) ?_
    refine lv_ldc hx hb hown (hts _ q455) dX1_corrects_24 ?_
    refine d_callM (vy_runSN (As := [.int (0 : Int32), .int (-1000001 : Int32)]) (rest := []) ⟨hx, hb, hml, hown, hts⟩ (met_X0_need htr hD) ⟨va_cnB 2 hts (lw_meth q458) rfl rfl rfl (nm_LectureTurns_Lecture_57 hG) (hts _ q66) hd_X0_need ⟨Nat.le_of_ble_eq_true rfl, Nat.le_of_ble_eq_true rfl⟩, hts _ q457, trivial⟩ (g_preS hG hS hP) rfl rfl hl.1 rfl (lv_room (Nat.le_of_ble_eq_true rfl)) dX1_corrects_26 ⟨Nat.le_of_ble_eq_true rfl, Nat.le_of_ble_eq_true rfl⟩) hS (fun E ce q9 w H locs hp hM hP hD hS h1 h2 h3 => ?_) (fun v w H locs hp hP hD hS => ?_)
    · obtain ⟨n2, rfl, u, sen, rfl⟩ := hp
      exact d_out (fun z hz => by rw [htab] at hz; cases List.mem_singleton.mp hz; rfl) hlocks h1 h2 h3 ⟨(-1000001 : Int32), .null, u, sen, leW k a T pit cor tol, (by have h9 := h; unfold o_cor at h9; dsimp only at h9; rw [if_pos c1] at h9; cases h9; rfl), rfl, rfl⟩ hM hP hD hS (Nat.le_of_ble_eq_true rfl) (Nat.le_of_ble_eq_true rfl)
    · exact absurd rfl hp.1
  · refine lv_iload_n hx hb dX1_corrects_7 rfl (lv_at hl 2 rfl) ?_
    refine c_call (va_runSN (As := [.int y]) (rest := []) ⟨hx, hb, hml, hown, hts⟩ (met_X0_isTerm (isTerm_eq _)) ⟨va_cnB 1 hts (lw_meth q540) rfl rfl rfl (nm_LectureTurns_Lecture_84 hG) (hts _ q66) hd_X0_isTerm ⟨Nat.le_of_ble_eq_true rfl, Nat.le_of_ble_eq_true rfl⟩, hts _ q539, trivial⟩ m_preS rfl rfl hl.1 rfl (lv_room (Nat.le_of_ble_eq_true rfl)) dX1_corrects_8 ⟨Nat.le_of_ble_eq_true rfl, Nat.le_of_ble_eq_true rfl⟩) ?_
    refine lv_if_eq (tgt := 23) hx hb dX1_corrects_11 (by decide) (fun c3 => ?_) (fun c3 => ?_)
    · refine lv_iconst (v := 0) hx hb dX1_corrects_23 (by decide) ?_
      refine lv_ldc hx hb hown (hts _ q455) dX1_corrects_24 ?_
      refine d_callM (vy_runSN (As := [.int (0 : Int32), .int (-1000001 : Int32)]) (rest := []) ⟨hx, hb, hml, hown, hts⟩ (met_X0_need htr hD) ⟨va_cnB 2 hts (lw_meth q458) rfl rfl rfl (nm_LectureTurns_Lecture_57 hG) (hts _ q66) hd_X0_need ⟨Nat.le_of_ble_eq_true rfl, Nat.le_of_ble_eq_true rfl⟩, hts _ q457, trivial⟩ (g_preS hG hS hP) rfl rfl hl.1 rfl (lv_room (Nat.le_of_ble_eq_true rfl)) dX1_corrects_26 ⟨Nat.le_of_ble_eq_true rfl, Nat.le_of_ble_eq_true rfl⟩) hS (fun E ce q9 w H locs hp hM hP hD hS h1 h2 h3 => ?_) (fun v w H locs hp hP hD hS => ?_)
      · obtain ⟨n4, rfl, u, sen, rfl⟩ := hp
        exact d_out (fun z hz => by rw [htab] at hz; cases List.mem_singleton.mp hz; rfl) hlocks h1 h2 h3 ⟨(-1000001 : Int32), .null, u, sen, leW k a T pit cor tol, (by have h9 := h; unfold o_cor at h9; dsimp only at h9; rw [if_neg c1] at h9; rw [if_pos c3] at h9; cases h9; rfl), rfl, rfl⟩ hM hP hD hS (Nat.le_of_ble_eq_true rfl) (Nat.le_of_ble_eq_true rfl)
      · exact absurd rfl hp.1
    · refine lv_iload_n hx hb dX1_corrects_14 rfl (lv_at hl 1 rfl) ?_
      refine lv_iload_n hx hb dX1_corrects_15 rfl (lv_at hl 2 rfl) ?_
      refine lv_icmp_eq (tgt := 23) hx hb dX1_corrects_16 (by decide) (fun c5 => ?_) (fun c5 => ?_)
      · refine lv_iconst (v := 0) hx hb dX1_corrects_23 (by decide) ?_
        refine lv_ldc hx hb hown (hts _ q455) dX1_corrects_24 ?_
        refine d_callM (vy_runSN (As := [.int (0 : Int32), .int (-1000001 : Int32)]) (rest := []) ⟨hx, hb, hml, hown, hts⟩ (met_X0_need htr hD) ⟨va_cnB 2 hts (lw_meth q458) rfl rfl rfl (nm_LectureTurns_Lecture_57 hG) (hts _ q66) hd_X0_need ⟨Nat.le_of_ble_eq_true rfl, Nat.le_of_ble_eq_true rfl⟩, hts _ q457, trivial⟩ (g_preS hG hS hP) rfl rfl hl.1 rfl (lv_room (Nat.le_of_ble_eq_true rfl)) dX1_corrects_26 ⟨Nat.le_of_ble_eq_true rfl, Nat.le_of_ble_eq_true rfl⟩) hS (fun E ce q9 w H locs hp hM hP hD hS h1 h2 h3 => ?_) (fun v w H locs hp hP hD hS => ?_)
        · obtain ⟨n6, rfl, u, sen, rfl⟩ := hp
          exact d_out (fun z hz => by rw [htab] at hz; cases List.mem_singleton.mp hz; rfl) hlocks h1 h2 h3 ⟨(-1000001 : Int32), .null, u, sen, leW k a T pit cor tol, (by have h9 := h; unfold o_cor at h9; dsimp only at h9; rw [if_neg c1] at h9; rw [if_neg c3] at h9; rw [if_pos c5] at h9; cases h9; rfl), rfl, rfl⟩ hM hP hD hS (Nat.le_of_ble_eq_true rfl) (Nat.le_of_ble_eq_true rfl)
        · exact absurd rfl hp.1
      · refine lv_iconst (v := 1) hx hb dX1_corrects_19 (by decide) ?_
        refine lv_goto (tgt := 24) hx hb dX1_corrects_20 (by decide) ?_
        refine lv_ldc hx hb hown (hts _ q455) dX1_corrects_24 ?_
        refine d_callM (vy_runSN (As := [.int (1 : Int32), .int (-1000001 : Int32)]) (rest := []) ⟨hx, hb, hml, hown, hts⟩ (met_X0_need htr hD) ⟨va_cnB 2 hts (lw_meth q458) rfl rfl rfl (nm_LectureTurns_Lecture_57 hG) (hts _ q66) hd_X0_need ⟨Nat.le_of_ble_eq_true rfl, Nat.le_of_ble_eq_true rfl⟩, hts _ q457, trivial⟩ (g_preS hG hS hP) rfl rfl hl.1 rfl (lv_room (Nat.le_of_ble_eq_true rfl)) dX1_corrects_26 ⟨Nat.le_of_ble_eq_true rfl, Nat.le_of_ble_eq_true rfl⟩) hS (fun E ce q9 w H locs hp hM hP hD hS h1 h2 h3 => ?_) (fun v w H locs hp hP hD hS => ?_)
        · exact absurd hp.1 (by decide)
        obtain ⟨n7, rfl, rfl⟩ := hp
        have hP : va_P (kD k) gCl ((leW k a T pit cor tol) ++ fr) _ := hP
        have hD : va_D (Ab k) ((leW k a T pit cor tol) ++ fr) := hD
        refine lv_aload_n hx hb dX1_corrects_29 rfl (lv_at hl 0 rfl) ?_
        refine lv_iload_n hx hb dX1_corrects_30 rfl (lv_at hl 2 rfl) ?_
        refine lv_iload_n hx hb dX1_corrects_31 rfl (lv_at hl 1 rfl) ?_
        have h0 := h
        unfold o_cor at h0
        dsimp only at h0
        rw [if_neg c1] at h0
        rw [if_neg c3] at h0
        rw [if_neg c5] at h0
        obtain ⟨b, hfo, h0⟩ := Option.bind_eq_some_iff.mp h0
        refine d_callM (vy_runV (As := [.int y, .int x]) (rest := []) ⟨hx, hb, hml, hown, hts⟩ (met_X1_follow htr hD hfo) (cwV 2 hts (lw_V q599 q601 qs8 q67 q602) rfl rfl rfl ⟨rfl, hd_X1_follow⟩ ⟨Nat.le_of_ble_eq_true rfl, Nat.le_of_ble_eq_true rfl⟩) (g_preV hG hS hP (va_recv hG.K (le_o hP.left) (ci := 1) (q0 := 0) rfl rfl)) rfl rfl hl.1 rfl (lv_room (Nat.le_of_ble_eq_true rfl)) dX1_corrects_32 ⟨Nat.le_of_ble_eq_true rfl, Nat.le_of_ble_eq_true rfl⟩) hS (fun E ce q9 w H locs hp hM hP hD hS h1 h2 h3 => ?_) (fun v w H locs hp hP hD hS => ?_)
        · obtain ⟨hb8, rfl, u8, sen8, rfl⟩ := hp
          subst hb8
          refine vx_catch (name := RX6) hown [] ⟨29, 35, 38, 130⟩ [] htab (fun z hz => absurd hz List.not_mem_nil) rfl (by decide) (hts _ q598) ((nc_LectureTurns_Circle__LectureTurns_Circle hG).use rfl) h1 h2 h3 ?_
          have hP : va_P (kD k) gCl ((q9, .inr (6, [.ref q9, u8, sen8, .ref (kS k 1), .null, .int 0])) :: ((leW k a T pit cor tol) ++ fr)) _ := hP
          have hD : va_D (Ab k) ((q9, .inr (6, [.ref q9, u8, sen8, .ref (kS k 1), .null, .int 0])) :: ((leW k a T pit cor tol) ++ fr)) := hD
          refine lv_astore_n (lv' := [(3, .ref q9), (0, .ref (lL a)), (1, .int x), (2, .int y)]) hx hb dX1_corrects_38 rfl hl (by decide) rfl (fun ls hl => ?_)
          refine d_new (ci := 5) (fs := [.null, .null, .null, .null, .null, .int 0, .int 0]) (C := RX5) (T := TX5) (N := 7) hx hb hts in_X5 tyX5 tyX5_ok hown (hts _ q623) (hts _ q459) (hts _ q88) hG.K hP hD hS hG.A rfl (fun j hj => by rcases (show j = 0 ∨ j = 1 ∨ j = 2 ∨ j = 3 ∨ j = 4 ∨ j = 5 ∨ j = 6 by omega) with rfl | rfl | rfl | rfl | rfl | rfl | rfl <;> rfl) (Nat.le_of_ble_eq_true rfl) (Nat.le_of_ble_eq_true rfl) dX1_corrects_39 (fun q8 H hM hP hD hS => ?_)
          have hP := hP.rot
          have hD := hD.rot
          have hP : va_P (kD k) gCl ((q8, .inr (5, [.null, .null, .null, .null, .null, .int 0, .int 0])) :: ((q9, .inr (6, [.ref q9, u8, sen8, .ref (kS k 1), .null, .int 0])) :: ((leW k a T pit cor tol) ++ fr))) _ := hP
          have hD : va_D (Ab k) ((q8, .inr (5, [.null, .null, .null, .null, .null, .int 0, .int 0])) :: ((q9, .inr (6, [.ref q9, u8, sen8, .ref (kS k 1), .null, .int 0])) :: ((leW k a T pit cor tol) ++ fr))) := hD
          refine lv_dup hx hb dX1_corrects_42 rfl ?_
          refine lv_ldc hx hb hown (hts _ q624) dX1_corrects_43 ?_
          refine lv_aload_n hx hb dX1_corrects_45 rfl (lv_at hl 0 rfl) ?_
          refine d_callX (va_runI (As := [.int (-1000002 : Int32), .ref q9]) (rest := [.ref q8]) ⟨hx, hb, hml, hown, hts⟩ (met_X5_initR htr hD) (cwI 2 hts (lw_meth q499) rfl rfl rfl (hts _ q88) (hts _ q625) (hts _ q498) rfl hd_X5_init ⟨Nat.le_of_ble_eq_true rfl, Nat.le_of_ble_eq_true rfl⟩) (x_preS hG hS hP hM) rfl rfl hl.1 rfl (lv_room (Nat.le_of_ble_eq_true rfl)) dX1_corrects_46 ⟨Nat.le_of_ble_eq_true rfl, Nat.le_of_ble_eq_true rfl⟩) hS (fun v w H locs hp hM hP hD hS => ?_)
          obtain ⟨u, sen, rfl, rfl⟩ := hp
          have hP : va_P (kD k) gCl ((q8, .inr (5, [.ref q9, u, sen, .ref (kS k 0), .null, .int 0, .int (-1000002 : Int32)])) :: ((q9, .inr (6, [.ref q9, u8, sen8, .ref (kS k 1), .null, .int 0])) :: ((leW k a T pit cor tol) ++ fr))) _ := hP
          have hD : va_D (Ab k) ((q8, .inr (5, [.ref q9, u, sen, .ref (kS k 0), .null, .int 0, .int (-1000002 : Int32)])) :: ((q9, .inr (6, [.ref q9, u8, sen8, .ref (kS k 1), .null, .int 0])) :: ((leW k a T pit cor tol) ++ fr))) := hD
          refine vx_athrow hx hb dX1_corrects_49 ?_
          obtain ⟨ce, h1, h2, h3⟩ := d_obj (ci := 5) (q0 := 0) hG hP rfl rfl
          exact d_out (fun z hz => by rw [htab] at hz; cases List.mem_singleton.mp hz; rfl) hlocks h1 h2 h3 ⟨-1000002, .ref q9, u, sen, ciO k q9 u8 sen8 :: leW k a T pit cor tol, (by cases h0; rfl), rfl, rfl⟩ hM hP hD hS (Nat.le_of_ble_eq_true rfl) (Nat.le_of_ble_eq_true rfl)
        obtain ⟨hb8, rfl, rfl⟩ := hp
        subst hb8
        have h9 : o_chg (vs, pit, cor, tol) x y = some out := h0
        unfold o_chg at h9
        dsimp only at h9
        obtain ⟨r, hpl, h9⟩ := Option.bind_eq_some_iff.mp h9
        have hP : va_P (kD k) gCl ((leW k a T pit cor tol) ++ fr) _ := hP
        have hD : va_D (Ab k) ((leW k a T pit cor tol) ++ fr) := hD
        refine lv_goto (tgt := 50) hx hb dX1_corrects_35 (by decide) ?_
        refine lv_aload_n hx hb dX1_corrects_50 rfl (lv_at hl 0 rfl) ?_
        refine lv_iload_n hx hb dX1_corrects_51 rfl (lv_at hl 1 rfl) ?_
        refine lv_iload_n hx hb dX1_corrects_52 rfl (lv_at hl 2 rfl) ?_
        refine c_callM (va_runV (As := [.int x, .int y]) (rest := []) ⟨hx, hb, hml, hown, hts⟩ (met_X1_changes hvs hO (term_in c1) hs1 (hs2 hfo) hpl hD) (cwV 2 hts (lw_V q626 q628 qs9 q67 q629) rfl rfl rfl ⟨rfl, hd_X1_changes⟩ ⟨Nat.le_of_ble_eq_true rfl, Nat.le_of_ble_eq_true rfl⟩) (g_preV hG hS hP (va_recv hG.K (le_o hP.left) (ci := 1) (q0 := 0) rfl rfl)) rfl rfl hl.1 rfl (lv_room (Nat.le_of_ble_eq_true rfl)) dX1_corrects_53 ⟨Nat.le_of_ble_eq_true rfl, Nat.le_of_ble_eq_true rfl⟩) hS (fun v w H locs hp hP hD hS => ?_)
        obtain ⟨rfl, rfl⟩ := hp
        have hP : va_P (kD k) gCl ((leW k a T pit (upd cor x.toNatClampNeg y) tol) ++ fr) _ := hP
        have hD : va_D (Ab k) ((leW k a T pit (upd cor x.toNatClampNeg y) tol) ++ fr) := hD
        refine vy_ret ?_
        refine W.widen (k := 24) (n := 113) (Nat.le_of_ble_eq_true rfl) (Nat.le_of_ble_eq_true rfl) ?_
        exact W.iret hx hb hr (fun t9 ht9 hW9 => c_retM (w := (leW k a T pit (upd cor x.toNatClampNeg y) tol) ++ fr) ⟨r, (vs, pit, upd cor x.toNatClampNeg y, tol), a, T, (by cases h9; rfl), rfl, rfl, hvs, hO, rfl⟩ hP hD hS ht9) hS.2.2 dX1_corrects_56
