/-! the store: lay, takes (printed by wip/gen/gen_store.py) -/
/-- where a turn that begins at b is laid among the first p -/
def layP (vs : List TV) (b : Int32) : Nat → Nat
  | 0 => 0
  | p + 1 => match vs[p]? with
    | some v => if vB v ≤ b then p + 1 else layP vs b p
    | none => p + 1
theorem layP_le (vs : List TV) (b : Int32) : ∀ p, layP vs b p ≤ p
  | 0 => Nat.le_refl 0
  | p + 1 => by
    unfold layP
    cases vs[p]? with
    | none => exact Nat.le_refl _
    | some v =>
      show (if vB v ≤ b then p + 1 else layP vs b p) ≤ p + 1
      by_cases c : vB v ≤ b
      · rw [if_pos c]; exact Nat.le_refl _
      · rw [if_neg c]; exact Nat.le_succ_of_le (layP_le vs b p)
theorem sto_tus {k : Cx} {fr X : va_W} {T : List TT} {t0 : TT} (hT : ∀ t ∈ T, tuO t ∈ fr) (h0 : tuO t0 ∈ fr) : ∀ y ∈ aT t0.1 :: tads T, Sto k (X ++ fr) y := by
  have h1 : ∀ t : TT, tuO t ∈ fr → Sto k (X ++ fr) (aT t.1) := fun t h => Or.inl ⟨4, _, (RX4, TX4, 5), List.mem_append_right _ h, rfl, List.mem_of_getElem? (i := 13) rfl⟩
  intro y hy
  rcases List.mem_cons.mp hy with rfl | hy
  · exact h1 t0 h0
  · obtain ⟨t, ht, rfl⟩ := List.mem_map.mp hy
    exact h1 t (hT t ht)
theorem ls_sub {k : Cx} {al ar cap : Nat} {md : Int32} {xs : List Nat} {fr : va_W} {q0 : Nat × va_E} : ∀ x ∈ lsW k al ar cap md xs, x ∈ q0 :: (lsO al ar md xs :: (lsA k ar cap xs ++ fr)) := by
  intro x hx
  rcases List.mem_cons.mp hx with h | h
  · rw [h]; exact List.mem_cons_of_mem _ List.mem_cons_self
  · exact List.mem_cons_of_mem _ (List.mem_cons_of_mem _ (List.mem_append_left _ h))
abbrev xBegins : MethodName := ⟨"LectureTurns$Begun", "begins", "()I"⟩
theorem hd_xBegins : xBegins.cls ≠ "java/lang/invoke/MethodHandle" ∧ xBegins.cls ≠ "java/lang/invoke/VarHandle" ∧ (parseMethodDescriptor xBegins.desc).map (fun d => d.parameters.length) = some 0 := by decide +kernel
set_option maxHeartbeats 4000000 in
set_option maxRecDepth 100000 in
theorem lp_X2_lay {p : Program} {l : Launch} {e : Env} {s : State} {m : MethodId} {args : Array Value} {below : List Frame} {meth : Method} {c : Code} {Q : State → Prop} {k : Cx} {st al ar cap : Nat} {md : Int32} {T : List TT} {vs : List TV} {t0 : TT} {fr : va_W} {H : Heap} {locs : List Loc} (hx : p.tables.exec = Jvm.exec) (hb : c.code = cX2_lay) (hml : c.maxLocals = 3) (hown : s.vm.findClass RX2 = some m.cls) (hts : ∀ w ∈ lw_all, w.before args s = true) (hG : GU k s) (hvs : T.map Prod.snd = vs) (hO : lsOk k ar cap (tads T)) (hT : ∀ t ∈ T, tuO t ∈ fr) (h0 : tuO t0 ∈ fr) (hP : va_P (kD k) gCl ((st, .inr (2, [.ref al])) :: ((al, .inr (9, [.int md, .ref ar, .int (nI (tads T).length)])) :: ((lsA k ar cap (tads T)) ++ fr))) H) (hS : va_S (Ab k) s.heap H locs) : ∀ (p1 : Nat) (ls : Array Slot), p1 ≤ T.length → lv_has ls 3 [(2, .int (nI p1)), (0, .ref st), (1, .ref (aT t0.1))] → (∀ (ls : Array Slot), lv_has ls 3 [(2, .int (nI (layP vs (vB t0.2) p1))), (0, .ref st), (1, .ref (aT t0.1))] → W p l e ({ frames := 6, cells := 1, slots := 30, locals := 151 } : Room) s m args below meth c H locs 0 0 Q (F0 m 45 ls [])) → W p l e ({ frames := 6, cells := 1, slots := 30, locals := 151 } : Room) s m args below meth c H locs 0 0 Q (F0 m 8 ls []) := by
  have hfr : ∀ {t : TT}, tuO t ∈ fr → va_P (kD k) gCl [tuO t] H := fun h => hP.one (List.mem_cons_of_mem _ (List.mem_cons_of_mem _ (List.mem_append_right _ h)))
  have hcap : T.length ≤ 1000 := by have := hO.1; have := hO.2.1; rw [List.length_map] at *; omega
  intro p1
  induction p1 with
  | zero =>
    intro ls hp hl K
    refine lv_iload_n hx hb dX2_lay_8 rfl (lv_at hl 0 rfl) ?_
    refine lv_if_le (tgt := 45) hx hb dX2_lay_9 (by decide) (fun c9 => ?_) (fun c9 => absurd (by decide) c9)
    exact K ls hl
  | succ p1 ih =>
    intro ls hp hl K
    obtain ⟨t, ht⟩ : ∃ t, T[p1]? = some t := ⟨T[p1], List.getElem?_eq_getElem (by omega)⟩
    have hv : vs[p1]? = some t.2 := by rw [← hvs, List.getElem?_map, ht]; rfl
    have hq : pAt (tads T) (nI p1) = some (aT t.1) := pAt_of (nI_pos (by omega)) (by rw [nI_clamp (by omega), List.getElem?_map, ht]; rfl)
    have htm := hT t (List.mem_of_getElem? ht)
    refine lv_iload_n hx hb dX2_lay_8 rfl (lv_at hl 0 rfl) ?_
    refine lv_if_le (tgt := 45) hx hb dX2_lay_9 (by decide) (fun c9 => absurd c9 (nI_nle (by omega) (by omega))) (fun c9 => ?_)
    refine lv_aload_n hx hb dX2_lay_12 rfl (lv_at hl 1 rfl) ?_
    refine va_get (ci := 2) (v := .ref al) (C := RX2) (T := TX2) (N := 1) hx hb hts in_X2 hown hG.K hP 0 rfl rfl 0 (by decide) (hts _ q147) (fun _ h9 => h9) rfl dX2_lay_13 ?_
    refine lv_iload_n hx hb dX2_lay_16 rfl (lv_at hl 0 rfl) ?_
    refine lv_iconst (v := 1) hx hb dX2_lay_17 (by decide) ?_
    refine lv_isub hx hb dX2_lay_18 ?_
    rw [nI_pred]
    refine c_call (va_runV (As := [.int (nI p1)]) (rest := []) ⟨hx, hb, hml, hown, hts⟩ (met_J2_get hO hq) (cwV 1 hts (lw_V q257 q258 q259 q71 q260) rfl rfl rfl ⟨rfl, hd_J2_get⟩ ⟨Nat.le_of_ble_eq_true rfl, Nat.le_of_ble_eq_true rfl⟩) (g_preV hG hS (hP.of_mem ls_sub) (va_recv hG.K (hP.of_mem ls_sub) (ci := 9) (q0 := 0) rfl rfl)) rfl rfl hl.1 rfl (lv_room (Nat.le_of_ble_eq_true rfl)) dX2_lay_19 ⟨Nat.le_of_ble_eq_true rfl, Nat.le_of_ble_eq_true rfl⟩) ?_
    refine va_castY hx hb hown (hts _ q271) (nc_LectureTurns_Turn__LectureTurns_Begun hG) (va_recv hG.K (hfr htm) (ci := 4) (q0 := 0) rfl rfl) dX2_lay_22 ?_
    refine c_call5 (va_runF (hG.K.1 4 _ rfl).2 (As := []) (rest := []) ⟨hx, hb, hml, hown, hts⟩ (met_X4_begins (v1 := t.2) rfl) (va_cwF 0 hts (lw_F (x := xBegins) q419 q423 q425 q78 q427) rfl rfl rfl hG.f1 hd_xBegins ⟨Nat.le_of_ble_eq_true rfl, Nat.le_of_ble_eq_true rfl⟩) (g_preV hG hS (hfr htm) (va_recv hG.K (hfr htm) (ci := 4) (q0 := 0) rfl rfl)) rfl rfl hl.1 rfl (lv_room (Nat.le_of_ble_eq_true rfl)) dX2_lay_25 ⟨Nat.le_of_ble_eq_true rfl, Nat.le_of_ble_eq_true rfl⟩) ?_
    refine lv_aload_n hx hb dX2_lay_30 rfl (lv_at hl 2 rfl) ?_
    refine c_call5 (va_runF (hG.K.1 4 _ rfl).2 (As := []) (rest := [.int (vB t.2)]) ⟨hx, hb, hml, hown, hts⟩ (met_X4_begins (v1 := t0.2) rfl) (va_cwF 0 hts (lw_F (x := xBegins) q419 q423 q425 q78 q427) rfl rfl rfl hG.f1 hd_xBegins ⟨Nat.le_of_ble_eq_true rfl, Nat.le_of_ble_eq_true rfl⟩) (g_preV hG hS (hfr h0) (va_recv hG.K (hfr h0) (ci := 4) (q0 := 0) rfl rfl)) rfl rfl hl.1 rfl (lv_room (Nat.le_of_ble_eq_true rfl)) dX2_lay_31 ⟨Nat.le_of_ble_eq_true rfl, Nat.le_of_ble_eq_true rfl⟩) ?_
    have e9 : layP vs (vB t0.2) (p1 + 1) = if vB t.2 ≤ vB t0.2 then p1 + 1 else layP vs (vB t0.2) p1 := by show (match vs[p1]? with | some v => if vB v ≤ vB t0.2 then p1 + 1 else layP vs (vB t0.2) p1 | none => p1 + 1) = _; rw [hv]
    rw [e9] at K
    refine lv_icmp_le (tgt := 45) hx hb dX2_lay_36 (by decide) (fun c9 => ?_) (fun c9 => ?_)
    · rw [if_pos c9] at K
      exact K ls hl
    · rw [if_neg c9] at K
      refine lv_iinc (v := nI p1) (lv' := [(2, .int (nI p1)), (0, .ref st), (1, .ref (aT t0.1))]) hx hb dX2_lay_39 hl (k := 0) rfl (pk_m1 p1) (by decide) rfl (fun ls hl => ?_)
      refine lv_goto (tgt := 8) hx hb dX2_lay_42 (by decide) ?_
      exact ih ls (by omega) hl K
theorem hd_X2_lay : yX2_lay.cls ≠ "java/lang/invoke/MethodHandle" ∧ yX2_lay.cls ≠ "java/lang/invoke/VarHandle" ∧ (parseMethodDescriptor yX2_lay.desc).map (fun d => d.parameters.length) = some 1 := by decide +kernel
set_option maxHeartbeats 4000000 in
set_option maxRecDepth 100000 in
theorem met_X2_lay {l : Launch} {k : Cx} {st al ar cap : Nat} {md : Int32} {T : List TT} {vs : List TV} {t0 : TT} {fr : va_W} (hvs : T.map Prod.snd = vs) (hO : lsOk k ar cap (tads T)) (h2 : T.length ≤ 20) (hT : ∀ t ∈ T, tuO t ∈ fr) (h0 : tuO t0 ∈ fr) (hD : va_D (Ab k) ((st, .inr (2, [.ref al])) :: ((al, .inr (9, [.int md, .ref ar, .int (nI (tads T).length)])) :: ((lsA k ar cap (tads T)) ++ fr)))) : Met l yX2_lay (ws_ yX2_lay cX2_lay 3 (some .int)) ({ frames := 6, cells := 1, slots := 30, locals := 151 } : Room) (gPc [.ref st, .ref (aT t0.1)] k ((st, .inr (2, [.ref al])) :: ((al, .inr (9, [.int md, .ref ar, .int (nI (tads T).length)])) :: ((lsA k ar cap (tads T)) ++ fr)))) (QcM k (fun v w => v = some (.int (nI (layP vs (vB t0.2) T.length))) ∧ ∃ ar2 cap2, lsOk k ar2 cap2 ((tads T).insertIdx (layP vs (vB t0.2) T.length) (aT t0.1)) ∧ w = (st, .inr (2, [.ref al])) :: (lsO al ar2 (md + 1) ((tads T).insertIdx (layP vs (vB t0.2) T.length) (aT t0.1)) :: (lsA k ar2 cap2 ((tads T).insertIdx (layP vs (vB t0.2) T.length) (aT t0.1)) ++ fr)))) 1 30 (Ab k) := by
  refine Met.ofW (cc := cX2_lay) (maxL := 3) (ret := (some .int)) (by decide) rfl ?_
  intro p e s m args below meth c s₁ B hml hv
  obtain ⟨rfl, hP, hG⟩ := hv
  have hx := B.exec
  have hb := B.bytes
  have hr := B.returns
  have hts := atoms_spec (ws := ws_ yX2_lay cX2_lay 3 (some .int)) B.pre
  have hts : ∀ w ∈ lw_all, w.before _ s = true := fun w h => hts w (List.mem_cons_of_mem _ h)
  have hown : s.vm.findClass RX2 = some m.cls := findClass_of_methodNamed B.named
  have hlocks := B.notSynchronized
  have hl := lv_entry ([.ref st, .ref (aT t0.1)]) (n := 3) (Nat.le_of_ble_eq_true rfl)
  rw [lg_entry_eq]
  generalize (lg_sl ([.ref st, .ref (aT t0.1)]) ++ List.replicate (3 - (lg_sl ([.ref st, .ref (aT t0.1)])).length) Slot.unset).toArray = ls at hl ⊢
  have hl : lv_has ls 3 [(0, .ref st), (1, .ref (aT t0.1))] := hl
  have hS : va_S (Ab k) s.heap s.heap [] := va_S.rf
  refine lv_aload_n hx hb dX2_lay_0 rfl (lv_at hl 0 rfl) ?_
  refine va_get (ci := 2) (v := .ref al) (C := RX2) (T := TX2) (N := 1) hx hb hts in_X2 hown hG.K hP 0 rfl rfl 0 (by decide) (hts _ q147) (fun _ h9 => h9) rfl dX2_lay_1 ?_
  refine c_call (va_runV (As := []) (rest := []) ⟨hx, hb, hml, hown, hts⟩ (met_J2_size (n := T.length) (by simp)) (cwV 0 hts (lw_V q247 q248 q249 q71 q250) rfl rfl rfl ⟨rfl, hd_J2_size⟩ ⟨Nat.le_of_ble_eq_true rfl, Nat.le_of_ble_eq_true rfl⟩) (g_preV hG hS (hP.of_mem ls_sub) (va_recv hG.K (hP.of_mem ls_sub) (ci := 9) (q0 := 0) rfl rfl)) rfl rfl hl.1 rfl (lv_room (Nat.le_of_ble_eq_true rfl)) dX2_lay_4 ⟨Nat.le_of_ble_eq_true rfl, Nat.le_of_ble_eq_true rfl⟩) ?_
  refine lv_istore_n (lv' := [(2, .int (nI T.length)), (0, .ref st), (1, .ref (aT t0.1))]) hx hb dX2_lay_7 rfl hl (by decide) rfl (fun ls hl => ?_)
  refine lp_X2_lay hx hb hml hown hts hG hvs hO hT h0 hP hS T.length ls (Nat.le_refl _) (lv_sub hl [0, 1, 2] rfl) (fun ls hl => ?_)
  have hle := layP_le vs (vB t0.2) T.length
  refine lv_aload_n hx hb dX2_lay_45 rfl (lv_at hl 1 rfl) ?_
  refine va_get (ci := 2) (v := .ref al) (C := RX2) (T := TX2) (N := 1) hx hb hts in_X2 hown hG.K hP 0 rfl rfl 0 (by decide) (hts _ q147) (fun _ h9 => h9) rfl dX2_lay_46 ?_
  refine lv_iload_n hx hb dX2_lay_49 rfl (lv_at hl 0 rfl) ?_
  refine lv_aload_n hx hb dX2_lay_50 rfl (lv_at hl 2 rfl) ?_
  have hpm := cat_pick [[(st, .inr (2, [.ref al]))], [(al, .inr (9, [.int md, .ref ar, .int (nI (tads T).length)]))], lsA k ar cap (tads T)] (fr) [1, 2, 0] 3 rfl (by decide)
  have hP : va_P (kD k) gCl ((al, .inr (9, [.int md, .ref ar, .int (nI (tads T).length)])) :: ((lsA k ar cap (tads T)) ++ ((st, .inr (2, [.ref al])) :: fr))) _ := hP.perm hpm
  have hD : va_D (Ab k) ((al, .inr (9, [.int md, .ref ar, .int (nI (tads T).length)])) :: ((lsA k ar cap (tads T)) ++ ((st, .inr (2, [.ref al])) :: fr))) := hD.perm hpm
  refine c_callM (va_runV (As := [.int (nI (layP vs (vB t0.2) T.length)), .ref (aT t0.1)]) (rest := []) ⟨hx, hb, hml, hown, hts⟩ (met_J2_add_3 hO (by rw [List.length_map]; exact h2) (by rw [List.length_map]; exact hle) (sto_tus (X := [(st, .inr (2, [.ref al]))]) hT h0) hD) (cwV 2 hts (lw_V q428 q429 q430 q71 q431) rfl rfl rfl ⟨rfl, hd_J2_add_3⟩ ⟨Nat.le_of_ble_eq_true rfl, Nat.le_of_ble_eq_true rfl⟩) (g_preV hG hS hP (va_recv hG.K hP (ci := 9) (q0 := 0) rfl rfl)) rfl rfl hl.1 rfl (lv_room (Nat.le_of_ble_eq_true rfl)) dX2_lay_51 ⟨Nat.le_of_ble_eq_true rfl, Nat.le_of_ble_eq_true rfl⟩) hS (fun v w H locs hp hP hD hS => ?_)
  obtain ⟨ar2, cap2, rfl, hO2, rfl⟩ := hp
  have hP : va_P (kD k) gCl ((al, .inr (9, [.int (md + 1), .ref ar2, .int (nI ((tads T).insertIdx (layP vs (vB t0.2) T.length) (aT t0.1)).length)])) :: ((lsA k ar2 cap2 ((tads T).insertIdx (layP vs (vB t0.2) T.length) (aT t0.1))) ++ ((st, .inr (2, [.ref al])) :: fr))) H := hP
  have hD : va_D (Ab k) ((al, .inr (9, [.int (md + 1), .ref ar2, .int (nI ((tads T).insertIdx (layP vs (vB t0.2) T.length) (aT t0.1)).length)])) :: ((lsA k ar2 cap2 ((tads T).insertIdx (layP vs (vB t0.2) T.length) (aT t0.1))) ++ ((st, .inr (2, [.ref al])) :: fr))) := hD
  refine lv_iload_n hx hb dX2_lay_54 rfl (lv_at hl 0 rfl) ?_
  have hpm := cat_pick [[(al, .inr (9, [.int (md + 1), .ref ar2, .int (nI ((tads T).insertIdx (layP vs (vB t0.2) T.length) (aT t0.1)).length)]))], lsA k ar2 cap2 ((tads T).insertIdx (layP vs (vB t0.2) T.length) (aT t0.1)), [(st, .inr (2, [.ref al]))]] (fr) [2, 0, 1] 3 rfl (by decide)
  have hP : va_P (kD k) gCl ((st, .inr (2, [.ref al])) :: ((al, .inr (9, [.int (md + 1), .ref ar2, .int (nI ((tads T).insertIdx (layP vs (vB t0.2) T.length) (aT t0.1)).length)])) :: ((lsA k ar2 cap2 ((tads T).insertIdx (layP vs (vB t0.2) T.length) (aT t0.1))) ++ fr))) _ := hP.perm hpm
  have hD : va_D (Ab k) ((st, .inr (2, [.ref al])) :: ((al, .inr (9, [.int (md + 1), .ref ar2, .int (nI ((tads T).insertIdx (layP vs (vB t0.2) T.length) (aT t0.1)).length)])) :: ((lsA k ar2 cap2 ((tads T).insertIdx (layP vs (vB t0.2) T.length) (aT t0.1))) ++ fr))) := hD.perm hpm
  refine W.widen (k := 1) (n := 30) (Nat.le_of_ble_eq_true rfl) (Nat.le_of_ble_eq_true rfl) ?_
  exact W.iret hx hb hr (fun t ht hW => c_retM (w := (st, .inr (2, [.ref al])) :: ((al, .inr (9, [.int (md + 1), .ref ar2, .int (nI ((tads T).insertIdx (layP vs (vB t0.2) T.length) (aT t0.1)).length)])) :: ((lsA k ar2 cap2 ((tads T).insertIdx (layP vs (vB t0.2) T.length) (aT t0.1))) ++ fr))) ⟨rfl, ar2, cap2, hO2, rfl⟩ hP hD hS ht) hS.2.2 dX2_lay_55
theorem hd_X2_takes : yX2_takes.cls ≠ "java/lang/invoke/MethodHandle" ∧ yX2_takes.cls ≠ "java/lang/invoke/VarHandle" ∧ (parseMethodDescriptor yX2_takes.desc).map (fun d => d.parameters.length) = some 1 := by decide +kernel
set_option maxHeartbeats 4000000 in
set_option maxRecDepth 100000 in
theorem met_X2_takes {l : Launch} {k : Cx} {st al ar cap i : Nat} {md : Int32} {T : List TT} {t : TT} {fr : va_W} (hO : lsOk k ar cap (tads T)) (ht : T[i]? = some t) (hT : ∀ t ∈ T, tuO t ∈ fr) (hD : va_D (Ab k) ((st, .inr (2, [.ref al])) :: ((al, .inr (9, [.int md, .ref ar, .int (nI (tads T).length)])) :: ((ar, .inl (kO k, cap, .inr (.inr (.inr (.inr (fun j => (tads T)[j]?)))))) :: fr)))) : Met l yX2_takes (ws_ yX2_takes cX2_takes 2 (Option.some (Jvm.ClassFile.FieldType.object "LectureTurns$Begun"))) ({ frames := 4, cells := 0, slots := 0, locals := 106 } : Room) (gPc [.ref st, .int (nI i)] k ((st, .inr (2, [.ref al])) :: ((al, .inr (9, [.int md, .ref ar, .int (nI (tads T).length)])) :: ((ar, .inl (kO k, cap, .inr (.inr (.inr (.inr (fun j => (tads T)[j]?)))))) :: fr)))) (QcM k (fun v w => v = some (.ref (aT t.1)) ∧ w = (st, .inr (2, [.ref al])) :: lsO al ar (md + 1) ((tads T).eraseIdx i) :: rA k ar cap ((tads T).eraseIdx i) :: fr)) 0 0 (Ab k) := by
  refine Met.ofW (cc := cX2_takes) (maxL := 2) (ret := (Option.some (Jvm.ClassFile.FieldType.object "LectureTurns$Begun"))) (by decide) rfl ?_
  intro p e s m args below meth c s₁ B hml hv
  obtain ⟨rfl, hP, hG⟩ := hv
  have hx := B.exec
  have hb := B.bytes
  have hr := B.returns
  have hts := atoms_spec (ws := ws_ yX2_takes cX2_takes 2 (Option.some (Jvm.ClassFile.FieldType.object "LectureTurns$Begun"))) B.pre
  have hts : ∀ w ∈ lw_all, w.before _ s = true := fun w h => hts w (List.mem_cons_of_mem _ h)
  have hown : s.vm.findClass RX2 = some m.cls := findClass_of_methodNamed B.named
  have hlocks := B.notSynchronized
  have hl := lv_entry ([.ref st, .int (nI i)]) (n := 2) (Nat.le_of_ble_eq_true rfl)
  rw [lg_entry_eq]
  generalize (lg_sl ([.ref st, .int (nI i)]) ++ List.replicate (2 - (lg_sl ([.ref st, .int (nI i)])).length) Slot.unset).toArray = ls at hl ⊢
  have hl : lv_has ls 2 [(0, .ref st), (1, .int (nI i))] := hl
  have hS : va_S (Ab k) s.heap s.heap [] := va_S.rf
  refine lv_aload_n hx hb dX2_takes_0 rfl (lv_at hl 0 rfl) ?_
  refine va_get (ci := 2) (v := .ref al) (C := RX2) (T := TX2) (N := 1) hx hb hts in_X2 hown hG.K hP 0 rfl rfl 0 (by decide) (hts _ q147) (fun _ h9 => h9) rfl dX2_takes_1 ?_
  refine lv_iload_n hx hb dX2_takes_4 rfl (lv_at hl 1 rfl) ?_
  have hpm := cat_pick [[(st, .inr (2, [.ref al]))], [(al, .inr (9, [.int md, .ref ar, .int (nI (tads T).length)]))], [(ar, .inl (kO k, cap, .inr (.inr (.inr (.inr (fun j => (tads T)[j]?))))))]] (fr) [1, 2, 0] 3 rfl (by decide)
  have hP : va_P (kD k) gCl ((al, .inr (9, [.int md, .ref ar, .int (nI (tads T).length)])) :: ((ar, .inl (kO k, cap, .inr (.inr (.inr (.inr (fun j => (tads T)[j]?)))))) :: ((st, .inr (2, [.ref al])) :: fr))) _ := hP.perm hpm
  have hD : va_D (Ab k) ((al, .inr (9, [.int md, .ref ar, .int (nI (tads T).length)])) :: ((ar, .inl (kO k, cap, .inr (.inr (.inr (.inr (fun j => (tads T)[j]?)))))) :: ((st, .inr (2, [.ref al])) :: fr))) := hD.perm hpm
  refine c_callM (va_runV (As := [.int (nI i)]) (rest := []) ⟨hx, hb, hml, hown, hts⟩ (met_J2_remove hO (by rw [List.getElem?_map, ht]; rfl) (fun y hy => sto_tus (X := [(st, .inr (2, [.ref al]))]) hT (hT t (List.mem_of_getElem? ht)) y (List.mem_cons_of_mem _ hy)) hD) (cwV 1 hts (lw_V q593 q577 q578 q71 q579) rfl rfl rfl ⟨rfl, hd_J2_remove⟩ ⟨Nat.le_of_ble_eq_true rfl, Nat.le_of_ble_eq_true rfl⟩) (g_preV hG hS hP (va_recv hG.K hP (ci := 9) (q0 := 0) rfl rfl)) rfl rfl hl.1 rfl (lv_room (Nat.le_of_ble_eq_true rfl)) dX2_takes_5 ⟨Nat.le_of_ble_eq_true rfl, Nat.le_of_ble_eq_true rfl⟩) hS (fun v w H locs hp hP hD hS => ?_)
  obtain ⟨rfl, rfl⟩ := hp
  have hP : va_P (kD k) gCl ((al, .inr (9, [.int (md + 1), .ref ar, .int (nI ((tads T).eraseIdx i).length)])) :: ((ar, .inl (kO k, cap, .inr (.inr (.inr (.inr (fun j => ((tads T).eraseIdx i)[j]?)))))) :: ((st, .inr (2, [.ref al])) :: fr))) H := hP
  have hD : va_D (Ab k) ((al, .inr (9, [.int (md + 1), .ref ar, .int (nI ((tads T).eraseIdx i).length)])) :: ((ar, .inl (kO k, cap, .inr (.inr (.inr (.inr (fun j => ((tads T).eraseIdx i)[j]?)))))) :: ((st, .inr (2, [.ref al])) :: fr))) := hD
  refine va_castY hx hb hown (hts _ q271) (nc_LectureTurns_Turn__LectureTurns_Begun hG) (va_recv hG.K (hP.one (List.mem_cons_of_mem _ (List.mem_cons_of_mem _ (List.mem_cons_of_mem _ (hT t (List.mem_of_getElem? ht)))))) (ci := 4) (q0 := 0) rfl rfl) dX2_takes_8 ?_
  have hpm := cat_pick [[(al, .inr (9, [.int (md + 1), .ref ar, .int (nI ((tads T).eraseIdx i).length)]))], [(ar, .inl (kO k, cap, .inr (.inr (.inr (.inr (fun j => ((tads T).eraseIdx i)[j]?))))))], [(st, .inr (2, [.ref al]))]] (fr) [2, 0, 1] 3 rfl (by decide)
  have hP : va_P (kD k) gCl ((st, .inr (2, [.ref al])) :: ((al, .inr (9, [.int (md + 1), .ref ar, .int (nI ((tads T).eraseIdx i).length)])) :: ((ar, .inl (kO k, cap, .inr (.inr (.inr (.inr (fun j => ((tads T).eraseIdx i)[j]?)))))) :: fr))) _ := hP.perm hpm
  have hD : va_D (Ab k) ((st, .inr (2, [.ref al])) :: ((al, .inr (9, [.int (md + 1), .ref ar, .int (nI ((tads T).eraseIdx i).length)])) :: ((ar, .inl (kO k, cap, .inr (.inr (.inr (.inr (fun j => ((tads T).eraseIdx i)[j]?)))))) :: fr))) := hD.perm hpm
  exact W.aret hx hb hr (Or.inl ⟨_, rfl⟩) (Or.inr ⟨_, rfl⟩) (fun t ht hW => c_retM (w := (st, .inr (2, [.ref al])) :: ((al, .inr (9, [.int (md + 1), .ref ar, .int (nI ((tads T).eraseIdx i).length)])) :: ((ar, .inl (kO k, cap, .inr (.inr (.inr (.inr (fun j => ((tads T).eraseIdx i)[j]?)))))) :: fr))) ⟨rfl, rfl⟩ hP hD hS ht) hS.2.2 dX2_takes_11
