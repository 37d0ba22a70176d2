/-! a lecture is made, and copied (printed by wip/gen/gen_lec.py) -/
theorem tusW_app {k : Cx} {T : List TT} {t : TT} : tusW k (T ++ [t]) = tusW k T ++ tuW k t := by
  unfold tusW
  rw [List.flatMap_append, List.flatMap_cons, List.flatMap_nil, List.append_nil]
theorem tusW_at {k : Cx} {T : List TT} {i : Nat} {t : TT} (h : T[i]? = some t) : ∃ R, (tusW k T).Perm (tuW k t ++ R) := by
  obtain ⟨A, B, rfl⟩ := List.append_of_mem (List.mem_of_getElem? h)
  refine ⟨tusW k A ++ tusW k B, ?_⟩
  unfold tusW
  rw [List.flatMap_append, List.flatMap_cons]
  exact psw _ _ _
theorem tuO_in {k : Cx} {T : List TT} {t : TT} (h : t ∈ T) : tuO t ∈ tusW k T := List.mem_flatMap.mpr ⟨t, h, List.mem_cons_self⟩
theorem arrV_congr {cA : ClassId} {n : Nat} {F G : Nat → Value} (h : ∀ j, j < n → F j = G j) : arrV cA n F = arrV cA n G := by
  unfold arrV
  have e : (fun j : Fin n => F j.val) = (fun j : Fin n => G j.val) := funext (fun j => h j.val j.isLt)
  rw [e]
theorem va_P.int {D : va_G} {cl : List vw_C} {ws : va_W} {H : Heap} {q n : Nat} {cA : ClassId} {f g : Nat → Int32} (h : va_P D cl ((q, .inl (cA, n, .inl f)) :: ws) H) (e : ∀ j, j < n → f j = g j) : va_P D cl ((q, .inl (cA, n, .inl g)) :: ws) H := by
  refine va_P.cons ?_ h.tl
  intro i x hi
  cases i with
  | zero =>
    cases hi
    have h0 := h 0 _ rfl
    show H[q]? = some (vp_cell cA (n, .inl g))
    have h1 : H[q]? = some (vp_cell cA (n, .inl f)) := h0
    rw [h1]
    congr 1
    show arrV cA n (fun j => .int (f j)) = arrV cA n (fun j => .int (g j))
    exact arrV_congr (fun j hj => by rw [e j hj])
  | succ i => simp at hi
/-- a turn's copy in any world that holds the turn -/
theorem met_turnCopy {l : Launch} {k : Cx} {q : Nat} {a1 : TA} {v1 : TV} {w : va_W} (hw : ∃ R, w.Perm (tuW k (a1, v1) ++ R)) (hT : tuOk k (a1, v1)) (hlen : (vT v1).length ≤ 8) (hD : va_D (Ab k) ((q, .inr (4, [.int 0, .int 0, .int 0, .int 0, .null])) :: w)) : Met l yX4_init (ws_ yX4_init cX4_init 4 none) ({ frames := 7, cells := 10, slots := 247, locals := 171 } : Room) (gPc [.ref q, .ref (aT a1)] k ((q, .inr (4, [.int 0, .int 0, .int 0, .int 0, .null])) :: w)) (QcM k (fun v w2 => ∃ al ar cap md, v = none ∧ tuOk k ((q, al, ar, cap, md), v1) ∧ w2 = tuW k ((q, al, ar, cap, md), v1) ++ w)) 10 247 (Ab k) := by
  obtain ⟨R, hR⟩ := hw
  refine (met_X4_init (fr := R) hT hlen (hD.perm (hR.cons _))).conseq (gPc_perm (hR.cons _)) (fun a s o t _ h => QcM_perm (fun v w2 h => ?_) h)
  obtain ⟨al, ar, cap, md, h1, h2, rfl⟩ := h
  exact ⟨_, hR.symm.append_left _, al, ar, cap, md, h1, h2, rfl⟩
theorem upd_lt {g : Nat → Int32} {i : Nat} {x y : Int32} (h : ∀ j, j < i → g j = x) (e : y = x) : ∀ j, j < i + 1 → upd g i y j = x := by
  intro j hj
  unfold upd
  by_cases c : j = i
  · rw [if_pos c, e]
  · rw [if_neg c]; exact h j (by omega)
set_option maxHeartbeats 4000000 in
set_option maxRecDepth 100000 in
theorem lp_X1_init {p : Program} {l : Launch} {e : Env} {s : State} {m : MethodId} {args : Array Value} {below : List Frame} {meth : Method} {c : Code} {Q : State → Prop} {k : Cx} {fr : va_W} {q st al P C cells slots : Nat} (hx : p.tables.exec = Jvm.exec) (hb : c.code = cX1_init) (hml : c.maxLocals = 2) (hown : s.vm.findClass RX1 = some m.cls) (hts : ∀ w ∈ lw_all, w.before args s = true) (hG : GU k s) : ∀ (n i : Nat) (g : Nat → Int32) (H : Heap) (locs : List Loc) (ls : Array Slot), i + n = 16 → (∀ j, j < i → g j = -1) → va_P (kD k) gCl ((C, .inl (kA k, 16, .inl g)) :: ((q, .inr (1, [.ref st, .ref P, .ref C, .int (30 : Int32)])) :: ((P, .inl (kA k, 6, .inl (fun _ => 0))) :: ((st, .inr (2, [.ref al])) :: ((al, .inr (9, [.int 0, .ref (ke k), .int (nI ([] : List Nat).length)])) :: fr))))) H → va_D (Ab k) ((C, .inl (kA k, 16, .inl g)) :: ((q, .inr (1, [.ref st, .ref P, .ref C, .int (30 : Int32)])) :: ((P, .inl (kA k, 6, .inl (fun _ => 0))) :: ((st, .inr (2, [.ref al])) :: ((al, .inr (9, [.int 0, .ref (ke k), .int (nI ([] : List Nat).length)])) :: fr))))) → va_S (Ab k) s.heap H locs → lv_has ls 2 [(1, .int (nI i)), (0, .ref q)] → (∀ (H : Heap) (locs : List Loc) (ls : Array Slot), va_P (kD k) gCl ((C, .inl (kA k, 16, .inl (fun _ => (-1)))) :: ((q, .inr (1, [.ref st, .ref P, .ref C, .int (30 : Int32)])) :: ((P, .inl (kA k, 6, .inl (fun _ => 0))) :: ((st, .inr (2, [.ref al])) :: ((al, .inr (9, [.int 0, .ref (ke k), .int (nI ([] : List Nat).length)])) :: fr))))) H → va_D (Ab k) ((C, .inl (kA k, 16, .inl (fun _ => (-1)))) :: ((q, .inr (1, [.ref st, .ref P, .ref C, .int (30 : Int32)])) :: ((P, .inl (kA k, 6, .inl (fun _ => 0))) :: ((st, .inr (2, [.ref al])) :: ((al, .inr (9, [.int 0, .ref (ke k), .int (nI ([] : List Nat).length)])) :: fr))))) → va_S (Ab k) s.heap H locs → W p l e ({ frames := 5, cells := 5, slots := 100, locals := 104 } : Room) s m args below meth c H locs cells slots Q (F0 m 58 ls [])) → W p l e ({ frames := 5, cells := 5, slots := 100, locals := 104 } : Room) s m args below meth c H locs cells slots Q (F0 m 39 ls []) := by
  intro n
  induction n with
  | zero =>
    intro i g H locs ls hi hg hP hD hS hl K
    refine lv_iload_n hx hb dX1_init_39 rfl (lv_at hl 0 rfl) ?_
    refine lv_bipush (v := 16) hx hb dX1_init_40 (by decide) ?_
    refine lv_icmp_ge (tgt := 58) hx hb dX1_init_42 (by decide) (fun c9 => ?_) (fun c9 => absurd (nI_le (a := 16) (b := i) (by omega) (by omega)) c9)
    exact K H locs ls (hP.int (fun j hj => hg j (by omega))) (hD.addr rfl) hS
  | succ n ih =>
    intro i g H locs ls hi hg hP hD hS hl K
    refine lv_iload_n hx hb dX1_init_39 rfl (lv_at hl 0 rfl) ?_
    refine lv_bipush (v := 16) hx hb dX1_init_40 (by decide) ?_
    refine lv_icmp_ge (tgt := 58) hx hb dX1_init_42 (by decide) (fun c9 => absurd c9 (nI_ge (a := i) (b := 16) (by omega) (by omega))) (fun c9 => ?_)
    refine lv_aload_n hx hb dX1_init_45 rfl (lv_at hl 1 rfl) ?_
    refine va_get (ci := 1) (v := .ref C) (C := RX1) (T := TX1) (N := 4) hx hb hts in_X1 hown hG.K hP 1 rfl rfl 2 (by decide) (hts _ q155) (fun _ h9 => h9) rfl dX1_init_46 ?_
    refine lv_iload_n hx hb dX1_init_49 rfl (lv_at hl 0 rfl) ?_
    refine lv_iconst (v := -1) hx hb dX1_init_50 (by decide) ?_
    refine va_iast hx hb hG.K hP hD hS 0 0 rfl rfl (vp_in_nI (by omega) (by omega)) dX1_init_51 (fun H locs hP hD hS => ?_)
    have hP : va_P (kD k) gCl ((C, .inl (kA k, 16, .inl (upd g (nI i).toNatClampNeg (-1 : Int32)))) :: ((q, .inr (1, [.ref st, .ref P, .ref C, .int (30 : Int32)])) :: ((P, .inl (kA k, 6, .inl (fun _ => 0))) :: ((st, .inr (2, [.ref al])) :: ((al, .inr (9, [.int 0, .ref (ke k), .int (nI ([] : List Nat).length)])) :: fr))))) H := hP
    have hD : va_D (Ab k) ((C, .inl (kA k, 16, .inl (upd g (nI i).toNatClampNeg (-1 : Int32)))) :: ((q, .inr (1, [.ref st, .ref P, .ref C, .int (30 : Int32)])) :: ((P, .inl (kA k, 6, .inl (fun _ => 0))) :: ((st, .inr (2, [.ref al])) :: ((al, .inr (9, [.int 0, .ref (ke k), .int (nI ([] : List Nat).length)])) :: fr))))) := hD
    refine lv_iinc (v := nI (i + 1)) (lv' := [(1, .int (nI (i + 1))), (0, .ref q)]) hx hb dX1_init_52 hl (k := 0) rfl (nI_succ i).symm (by decide) rfl (fun ls hl => ?_)
    refine lv_goto (tgt := 39) hx hb dX1_init_55 (by decide) ?_
    rw [nI_clamp (show i < 2 ^ 31 by omega)] at hP hD
    exact ih (i + 1) _ H locs ls (by omega) (fun j hj => upd_lt hg rfl j hj) hP hD hS hl K
theorem hd_X1_init : yX1_init.cls ≠ "java/lang/invoke/MethodHandle" ∧ yX1_init.cls ≠ "java/lang/invoke/VarHandle" ∧ (parseMethodDescriptor yX1_init.desc).map (fun d => d.parameters.length) = some 0 := by decide +kernel
set_option maxHeartbeats 4000000 in
set_option maxRecDepth 100000 in
theorem met_X1_init {l : Launch} {k : Cx} {q : Nat} {fr : va_W} (hD : va_D (Ab k) ((q, .inr (1, [.null, .null, .null, .int 0])) :: fr)) : Met l yX1_init (ws_ yX1_init cX1_init 2 none) ({ frames := 5, cells := 5, slots := 100, locals := 104 } : Room) (gPc [.ref q] k ((q, .inr (1, [.null, .null, .null, .int 0])) :: fr)) (QcM k (fun v w => ∃ st al P C, v = none ∧ w = leW k (q, st, al, ke k, 0, P, C, 0) [] (fun _ => 0) (fun _ => -1) 30 ++ fr)) 5 100 (Ab k) := by
  refine Met.ofW (cc := cX1_init) (maxL := 2) (ret := none) (by decide) rfl ?_
  intro p e s m args below meth c s₁ B hml hv
  obtain ⟨rfl, hP, hG⟩ := hv
  have hx := B.exec
  have hb := B.bytes
  have hr := B.returns
  have hts := atoms_spec (ws := ws_ yX1_init cX1_init 2 none) B.pre
  have hts : ∀ w ∈ lw_all, w.before _ s = true := fun w h => hts w (List.mem_cons_of_mem _ h)
  have hown : s.vm.findClass RX1 = some m.cls := findClass_of_methodNamed B.named
  have hlocks := B.notSynchronized
  have hl := lv_entry ([.ref q]) (n := 2) (Nat.le_of_ble_eq_true rfl)
  rw [lg_entry_eq]
  generalize (lg_sl ([.ref q]) ++ List.replicate (2 - (lg_sl ([.ref q])).length) Slot.unset).toArray = ls at hl ⊢
  have hl : lv_has ls 2 [(0, .ref q)] := hl
  have hS : va_S (Ab k) s.heap s.heap [] := va_S.rf
  have hin : meth.name = "<init>" := (name_of_methodNamed B.named B.method).1
  refine lv_aload_n hx hb dX1_init_0 rfl (lv_at hl 0 rfl) ?_
  refine W.objInit hx hb hown (hts _ q111) (hts _ q104) (hts _ q105) rfl (by rw [hml]; exact hl.1) rfl dX1_init_1 (Nat.le_of_ble_eq_true rfl) (Nat.le_of_ble_eq_true rfl) ?_
  refine W.eq (g2 := F0 m 4 ls []) rfl ?_
  refine lv_aload_n hx hb dX1_init_4 rfl (lv_at hl 0 rfl) ?_
  refine va_new (ci := 2) (fs := [.null]) (C := RX2) (T := TX2) (N := 1) hx hb hts in_X2 tyX2 tyX2_ok hown (hts _ q112) (hts _ q113) (hts _ q68) hG.K hP hD hS hG.A rfl (fun j hj => by rcases (show j = 0 by omega) with rfl <;> rfl) (Nat.le_of_ble_eq_true rfl) (Nat.le_of_ble_eq_true rfl) dX1_init_5 (fun q1 H hP hD hS => ?_)
  have hP := hP.rot
  have hD := hD.rot
  have hP : va_P (kD k) gCl ((q1, .inr (2, [.null])) :: ((q, .inr (1, [.null, .null, .null, .int 0])) :: fr)) H := hP
  have hD : va_D (Ab k) ((q1, .inr (2, [.null])) :: ((q, .inr (1, [.null, .null, .null, .int 0])) :: fr)) := hD
  refine lv_dup hx hb dX1_init_8 rfl ?_
  refine c_callM (va_runIN (As := []) (rest := [.ref q1, .ref q]) ⟨hx, hb, hml, hown, hts⟩ (met_X2_init hD) ⟨va_cnB 0 hts (lw_meth q116) rfl rfl rfl (nm_LectureTurns_Lecture_11 hG) (hts _ q68) hd_X2_init ⟨Nat.le_of_ble_eq_true rfl, Nat.le_of_ble_eq_true rfl⟩, rfl, hts _ q115⟩ (g_preS hG hS hP) rfl rfl hl.1 rfl (lv_room (Nat.le_of_ble_eq_true rfl)) dX1_init_9 ⟨Nat.le_of_ble_eq_true rfl, Nat.le_of_ble_eq_true rfl⟩) hS (fun v w H locs hp hP hD hS => ?_)
  obtain ⟨al, rfl, rfl⟩ := hp
  have hP : va_P (kD k) gCl ((q1, .inr (2, [.ref al])) :: ((al, .inr (9, [.int 0, .ref (ke k), .int (nI ([] : List Nat).length)])) :: ((q, .inr (1, [.null, .null, .null, .int 0])) :: fr))) H := hP
  have hD : va_D (Ab k) ((q1, .inr (2, [.ref al])) :: ((al, .inr (9, [.int 0, .ref (ke k), .int (nI ([] : List Nat).length)])) :: ((q, .inr (1, [.null, .null, .null, .int 0])) :: fr))) := hD
  refine va_putF (ci := 1) (v := .ref q1) (ty := (tyX1 0)) (C := RX1) (T := TX1) (N := 4) hx hb hts in_X1 tyX1 tyX1_ok nmX1 hown hG.K hP hD hS 2 rfl rfl 0 (by decide) (hts _ q151) (fun _ h9 => h9) rfl hin rfl (by decide +kernel) rfl rfl (Nat.le_of_ble_eq_true rfl) dX1_init_12 (fun H locs hP hD hS => ?_)
  have hP : va_P (kD k) gCl ((q1, .inr (2, [.ref al])) :: ((al, .inr (9, [.int 0, .ref (ke k), .int (nI ([] : List Nat).length)])) :: ((q, .inr (1, [.ref q1, .null, .null, .int 0])) :: fr))) H := hP
  have hD : va_D (Ab k) ((q1, .inr (2, [.ref al])) :: ((al, .inr (9, [.int 0, .ref (ke k), .int (nI ([] : List Nat).length)])) :: ((q, .inr (1, [.ref q1, .null, .null, .int 0])) :: fr))) := hD
  refine lv_aload_n hx hb dX1_init_15 rfl (lv_at hl 0 rfl) ?_
  refine lv_bipush (v := 6) hx hb dX1_init_16 (by decide) ?_
  refine va_newa (atype := .int) (ty := .int) (n := 6) (N' := 6) (a0 := (6, .inl (fun _ => 0))) hx hb (hts _ q168) rfl hG.K hP hD hS hG.A (fun _ => rfl) (by decide) (by decide) (Nat.le_of_ble_eq_true rfl) (Nat.le_of_ble_eq_true rfl) (Nat.le_of_ble_eq_true rfl) dX1_init_18 (fun q2 cA H hK1 hP hD hS => ?_)
  have eA := kA_eq hG hK1
  subst eA
  have hP := hP.rot
  have hD := hD.rot
  have hP : va_P (kD k) gCl ((q2, .inl (kA k, 6, .inl (fun _ => 0))) :: ((q1, .inr (2, [.ref al])) :: ((al, .inr (9, [.int 0, .ref (ke k), .int (nI ([] : List Nat).length)])) :: ((q, .inr (1, [.ref q1, .null, .null, .int 0])) :: fr)))) H := hP
  have hD : va_D (Ab k) ((q2, .inl (kA k, 6, .inl (fun _ => 0))) :: ((q1, .inr (2, [.ref al])) :: ((al, .inr (9, [.int 0, .ref (ke k), .int (nI ([] : List Nat).length)])) :: ((q, .inr (1, [.ref q1, .null, .null, .int 0])) :: fr)))) := hD
  refine va_putF (ci := 1) (v := .ref q2) (ty := (tyX1 1)) (C := RX1) (T := TX1) (N := 4) hx hb hts in_X1 tyX1 tyX1_ok nmX1 hown hG.K hP hD hS 3 rfl rfl 1 (by decide) (hts _ q153) (fun _ h9 => h9) rfl hin rfl (by decide +kernel) rfl rfl (Nat.le_of_ble_eq_true rfl) dX1_init_20 (fun H locs hP hD hS => ?_)
  have hP : va_P (kD k) gCl ((q2, .inl (kA k, 6, .inl (fun _ => 0))) :: ((q1, .inr (2, [.ref al])) :: ((al, .inr (9, [.int 0, .ref (ke k), .int (nI ([] : List Nat).length)])) :: ((q, .inr (1, [.ref q1, .ref q2, .null, .int 0])) :: fr)))) H := hP
  have hD : va_D (Ab k) ((q2, .inl (kA k, 6, .inl (fun _ => 0))) :: ((q1, .inr (2, [.ref al])) :: ((al, .inr (9, [.int 0, .ref (ke k), .int (nI ([] : List Nat).length)])) :: ((q, .inr (1, [.ref q1, .ref q2, .null, .int 0])) :: fr)))) := hD
  refine lv_aload_n hx hb dX1_init_23 rfl (lv_at hl 0 rfl) ?_
  refine lv_bipush (v := 16) hx hb dX1_init_24 (by decide) ?_
  refine va_newa (atype := .int) (ty := .int) (n := 16) (N' := 16) (a0 := (16, .inl (fun _ => 0))) hx hb (hts _ q168) rfl hG.K hP hD hS hG.A (fun _ => rfl) (by decide) (by decide) (Nat.le_of_ble_eq_true rfl) (Nat.le_of_ble_eq_true rfl) (Nat.le_of_ble_eq_true rfl) dX1_init_26 (fun q3 cA H hK1 hP hD hS => ?_)
  have eA := kA_eq hG hK1
  subst eA
  have hP := hP.rot
  have hD := hD.rot
  have hP : va_P (kD k) gCl ((q3, .inl (kA k, 16, .inl (fun _ => 0))) :: ((q2, .inl (kA k, 6, .inl (fun _ => 0))) :: ((q1, .inr (2, [.ref al])) :: ((al, .inr (9, [.int 0, .ref (ke k), .int (nI ([] : List Nat).length)])) :: ((q, .inr (1, [.ref q1, .ref q2, .null, .int 0])) :: fr))))) H := hP
  have hD : va_D (Ab k) ((q3, .inl (kA k, 16, .inl (fun _ => 0))) :: ((q2, .inl (kA k, 6, .inl (fun _ => 0))) :: ((q1, .inr (2, [.ref al])) :: ((al, .inr (9, [.int 0, .ref (ke k), .int (nI ([] : List Nat).length)])) :: ((q, .inr (1, [.ref q1, .ref q2, .null, .int 0])) :: fr))))) := hD
  refine va_putF (ci := 1) (v := .ref q3) (ty := (tyX1 2)) (C := RX1) (T := TX1) (N := 4) hx hb hts in_X1 tyX1 tyX1_ok nmX1 hown hG.K hP hD hS 4 rfl rfl 2 (by decide) (hts _ q155) (fun _ h9 => h9) rfl hin rfl (by decide +kernel) rfl rfl (Nat.le_of_ble_eq_true rfl) dX1_init_28 (fun H locs hP hD hS => ?_)
  have hP : va_P (kD k) gCl ((q3, .inl (kA k, 16, .inl (fun _ => 0))) :: ((q2, .inl (kA k, 6, .inl (fun _ => 0))) :: ((q1, .inr (2, [.ref al])) :: ((al, .inr (9, [.int 0, .ref (ke k), .int (nI ([] : List Nat).length)])) :: ((q, .inr (1, [.ref q1, .ref q2, .ref q3, .int 0])) :: fr))))) H := hP
  have hD : va_D (Ab k) ((q3, .inl (kA k, 16, .inl (fun _ => 0))) :: ((q2, .inl (kA k, 6, .inl (fun _ => 0))) :: ((q1, .inr (2, [.ref al])) :: ((al, .inr (9, [.int 0, .ref (ke k), .int (nI ([] : List Nat).length)])) :: ((q, .inr (1, [.ref q1, .ref q2, .ref q3, .int 0])) :: fr))))) := hD
  refine lv_aload_n hx hb dX1_init_31 rfl (lv_at hl 0 rfl) ?_
  refine lv_bipush (v := 30) hx hb dX1_init_32 (by decide) ?_
  refine va_put (ci := 1) (v := .int (30 : Int32)) (ty := .int) (C := RX1) (T := TX1) (N := 4) hx hb hts in_X1 tyX1 tyX1_ok nmX1 hown hG.K hP hD hS 4 rfl rfl 3 (by decide) (hts _ q157) (fun _ h9 => h9) rfl (by decide +kernel) rfl rfl (Nat.le_of_ble_eq_true rfl) dX1_init_34 (fun H locs hP hD hS => ?_)
  have hP : va_P (kD k) gCl ((q3, .inl (kA k, 16, .inl (fun _ => 0))) :: ((q2, .inl (kA k, 6, .inl (fun _ => 0))) :: ((q1, .inr (2, [.ref al])) :: ((al, .inr (9, [.int 0, .ref (ke k), .int (nI ([] : List Nat).length)])) :: ((q, .inr (1, [.ref q1, .ref q2, .ref q3, .int (30 : Int32)])) :: fr))))) H := hP
  have hD : va_D (Ab k) ((q3, .inl (kA k, 16, .inl (fun _ => 0))) :: ((q2, .inl (kA k, 6, .inl (fun _ => 0))) :: ((q1, .inr (2, [.ref al])) :: ((al, .inr (9, [.int 0, .ref (ke k), .int (nI ([] : List Nat).length)])) :: ((q, .inr (1, [.ref q1, .ref q2, .ref q3, .int (30 : Int32)])) :: fr))))) := hD
  refine lv_iconst (v := 0) hx hb dX1_init_37 (by decide) ?_
  refine lv_istore_n (lv' := [(1, .int (0 : Int32)), (0, .ref q)]) hx hb dX1_init_38 rfl hl (by decide) rfl (fun ls hl => ?_)
  have hpm := cat_pick [[(q3, .inl (kA k, 16, .inl (fun _ => 0)))], [(q2, .inl (kA k, 6, .inl (fun _ => 0)))], [(q1, .inr (2, [.ref al]))], [(al, .inr (9, [.int 0, .ref (ke k), .int (nI ([] : List Nat).length)]))], [(q, .inr (1, [.ref q1, .ref q2, .ref q3, .int (30 : Int32)]))]] (fr) [0, 4, 1, 2, 3] 5 rfl (by decide)
  have hP : va_P (kD k) gCl ((q3, .inl (kA k, 16, .inl (fun _ => 0))) :: ((q, .inr (1, [.ref q1, .ref q2, .ref q3, .int (30 : Int32)])) :: ((q2, .inl (kA k, 6, .inl (fun _ => 0))) :: ((q1, .inr (2, [.ref al])) :: ((al, .inr (9, [.int 0, .ref (ke k), .int (nI ([] : List Nat).length)])) :: fr))))) _ := hP.perm hpm
  have hD : va_D (Ab k) ((q3, .inl (kA k, 16, .inl (fun _ => 0))) :: ((q, .inr (1, [.ref q1, .ref q2, .ref q3, .int (30 : Int32)])) :: ((q2, .inl (kA k, 6, .inl (fun _ => 0))) :: ((q1, .inr (2, [.ref al])) :: ((al, .inr (9, [.int 0, .ref (ke k), .int (nI ([] : List Nat).length)])) :: fr))))) := hD.perm hpm
  refine lp_X1_init hx hb hml hown hts hG 16 0 _ H locs ls rfl (fun j hj => absurd hj (Nat.not_lt_zero j)) hP hD hS (lv_sub hl [0, 1] rfl) (fun H locs ls hP hD hS => ?_)
  refine W.widen (k := 5) (n := 100) (Nat.le_of_ble_eq_true rfl) (Nat.le_of_ble_eq_true rfl) ?_
  have hpm := cat_pick [[(q3, .inl (kA k, 16, .inl (fun _ => (-1))))], [(q, .inr (1, [.ref q1, .ref q2, .ref q3, .int (30 : Int32)]))], [(q2, .inl (kA k, 6, .inl (fun _ => 0)))], [(q1, .inr (2, [.ref al]))]] ((al, .inr (9, [.int 0, .ref (ke k), .int (nI ([] : List Nat).length)])) :: fr) [1, 3, 2, 0] 4 rfl (by decide)
  have hP : va_P (kD k) gCl ((q, .inr (1, [.ref q1, .ref q2, .ref q3, .int (30 : Int32)])) :: ((q1, .inr (2, [.ref al])) :: ((q2, .inl (kA k, 6, .inl (fun _ => 0))) :: ((q3, .inl (kA k, 16, .inl (fun _ => (-1)))) :: ((al, .inr (9, [.int 0, .ref (ke k), .int (nI ([] : List Nat).length)])) :: fr))))) _ := hP.perm hpm
  have hD : va_D (Ab k) ((q, .inr (1, [.ref q1, .ref q2, .ref q3, .int (30 : Int32)])) :: ((q1, .inr (2, [.ref al])) :: ((q2, .inl (kA k, 6, .inl (fun _ => 0))) :: ((q3, .inl (kA k, 16, .inl (fun _ => (-1)))) :: ((al, .inr (9, [.int 0, .ref (ke k), .int (nI ([] : List Nat).length)])) :: fr))))) := hD.perm hpm
  exact W.vret hx hb hr (fun t ht hW => c_retM (w := leW k (q, q1, al, ke k, 0, q2, q3, 0) [] (fun _ => 0) (fun _ => -1) 30 ++ fr) ⟨_, _, _, _, rfl, rfl⟩ hP hD hS ht) hS.2.2 dX1_init_58
