/-! what is thrown is made (printed by wip/gen/gen_thr.py) -/
abbrev gPx (av : List Value) (k : Cx) (q : Nat) (w : va_W) : Array Value → State → Prop := va_Pc av (fun U => va_P (kD k) gCl w U.heap ∧ GU k U ∧ Mf U.heap q)
theorem x_blind {av : List Value} {k : Cx} {q : Nat} {w : va_W} : FrameBlind (gPx av k q w) := fun _ _ _ _ h => ⟨h.1, h.2.1, h.2.2.1.blind, h.2.2.2⟩
theorem x_preS {s : State} {H : Heap} {locs : List Loc} {As : List Value} {k : Cx} {q : Nat} {w : va_W} (hG : GU k s) (hS : va_S (Ab k) s.heap H locs) (hP : va_P (kD k) gCl w H) (hM : Mf H q) : PreS s H (gPx As k q w) As :=
  ⟨x_blind, fun _ hU hW => ⟨rfl, by rw [hU]; exact hP, hG.call hS hU hW, by rw [hU]; exact hM⟩⟩
theorem zq_ref {C n d : String} {A : Nat → Prop} {U : State} {H : Heap} (h : va_Zq C n d A U H) : ∃ u : RefV, va_Z C n d u.v A U H := by
  rcases h with h | ⟨t, h⟩
  · exact ⟨⟨.null, rfl⟩, h⟩
  · exact ⟨⟨.ref t, rfl⟩, h⟩
theorem nar_ref (t : FieldType) (u : RefV) : narrow t u.v = u.v := by
  obtain ⟨v, hv⟩ := u
  cases v <;> simp [Value.isRef] at hv <;> cases t <;> rfl
theorem th_atoms {args : Array Value} {s : State} {k : Cx} (hts : ∀ w ∈ lw_all, w.before args s = true) (hG : GU k s) : ∀ w ∈ Bundle.throwableAtoms, w.before args s = true :=
  vx_c (hts _ q86) (vx_c (hts _ q478) (vx_c (hts _ q487) (vx_c (hts _ q491) (vx_c (hts _ q494) (vx_c (hts _ q496) (vx_c (hts _ q479) (vx_c (hts _ q480) (vx_c (hts _ q104) (vx_c (hts _ q105) (vx_c (hts _ q481) (vx_c (hts _ q486) (vx_c (hts _ q492)
    (vx_c (hts _ q512) (vx_c (hts _ q468) (vx_c (hts _ q513) (vx_c (hts _ q470) (vx_c (hts _ q514) (vx_c (hts _ q472) (vx_c (hts _ q482) (vx_c hG.us.2.word (vx_c (hts _ q484) (vx_c hG.ss.2.word (vx_c (hts _ q474) vx_n)))))))))))))))))))))))
section XW
variable {p : Program} {l : Launch} {e : Env} {R : Room} {s : State} {m : MethodId} {args : Array Value} {below : List Frame} {meth : Method} {c : Code} {H : Heap} {locs : List Loc} {cells slots : Nat} {Q : State → Prop}
variable {pc : Nat} {ls : Array Slot} {rest : List Value} {k : Cx}
theorem d_fillW {cc : ByteArray} {q ci N : Nat} {C : String} {T : u_T} {fs : List Value} {fr : va_W} {u0 : RefV} (hx : p.tables.exec = Jvm.exec) (hb : c.code = cc) (hl : l.stackTraces = false) (hsz : ls.size = c.maxLocals) (hts : ∀ w ∈ lw_all, w.before args s = true) (hown : s.vm.findClass Bundle.tN = some m.cls)
    (hG : GU k s) (hP : va_P (kD k) gCl ((q, .inr (ci, fs)) :: fr) H) (hD : va_D (Ab k) ((q, .inr (ci, fs)) :: fr)) (hS : va_S (Ab k) s.heap H locs) (hM : Mf H q) (hc : gCl[ci]? = some (C, T, N)) (hN : 5 ≤ N)
    (e1 : T 1 = (Bundle.tN, "stackTrace", Bundle.steD, false)) (e4 : T 4 = (Bundle.tN, "backtrace", "Ljava/lang/Object;", false)) (f1 : vp_V fs 1 = u0.v) (f4 : vp_V fs 4 = .null)
    (hlst : (Cond.lays C Bundle.tN "stackTrace" Bundle.steD).before args s = true) (hsel : (Cond.selects C Bundle.tFill Bundle.tFill).before args s = true) (hsel0 : (Cond.selects C Bundle.tFill0 Bundle.tFill0).before args s = true)
    (hZ : va_Z Bundle.tN "UNASSIGNED_STACK" Bundle.steD u0.v (Ab k) s s.heap) (hfr : 1 < R.frames) (hlo : (rest.map fun v => v.category).sum + 41 ≤ R.locals)
    (hdg : decode cc pc = .ok (.invokevirtual 27, 3)) (kk : W p l e R s m args below meth c H locs cells slots Q (F0 m (pc + 3) ls (.ref q :: rest))) : W p l e R s m args below meth c H locs cells slots Q (F0 m pc ls (.ref q :: rest)) := by
  obtain ⟨r', h1, cell, q1, q2, q3, q4⟩ := hP 0 _ rfl
  have hr : r' = (C, T, N) := Option.some.inj (h1.symm.trans hc)
  subst hr
  obtain ⟨cell', m1, m2, m3⟩ := hM
  cases Option.some.inj (q1.symm.trans m1)
  obtain ⟨hSl, hfc, kC, hkC, hkind⟩ := hG.K.1 ci _ hc
  have sl : ∀ (j : Nat) (o n d : String) (b : Bool), j < N → T j = (o, n, d, b) → ∀ x, s.fieldFound? o n d = some x → cell.slots[x.2.2.2.slot]? = some (vp_V fs j) := by
    intro j o n d b hj hT x hx9
    obtain ⟨cf, kf, fi, f, hi, hsl⟩ := hSl j hj
    have hi : s.fieldFound? (T j).1 (T j).2.1 (T j).2.2.1 = some (cf, kf, fi, f) := hi
    rw [hT] at hi
    cases Option.some.inj (hx9.symm.trans hi)
    rw [hsl]
    exact q4 j hj
  refine d_fill (C := C) (cell := cell) (u0 := u0) (A := Ab k) hx hb hl hsz (th_atoms hts hG) hown (hts _ q477) (hts _ q476) hlst hsel hsel0 ⟨kC, by rw [q2]; exact hkC, hkind⟩ (by rw [q2]; exact hfc) q1 q3 m2 m3
    (fun x hx9 => by rw [sl 1 _ _ _ _ (by omega) e1 x hx9, f1]) (fun x hx9 => by rw [sl 4 _ _ _ _ (by omega) e4 x hx9, f4]) (hZ.kept (fun a h1 h2 => hS.2.1 a h1 h2)) (hD.2 0 _ rfl) hfr hlo hdg kk
end XW
theorem hd_J14_init_2 : yJ14_init_2.cls ≠ "java/lang/invoke/MethodHandle" ∧ yJ14_init_2.cls ≠ "java/lang/invoke/VarHandle" ∧ (parseMethodDescriptor yJ14_init_2.desc).map (fun d => d.parameters.length) = some 2 := by decide +kernel
set_option maxHeartbeats 4000000 in
set_option maxRecDepth 100000 in
theorem met_J14_init_2_X5N {l : Launch} (htr : l.stackTraces = false) {k : Cx} {q msg : Nat} {fr : va_W} (hD : va_D (Ab k) ((q, .inr (5, [.null, .null, .null, .null, .null, .int 0, .int 0])) :: fr)) : Met l yJ14_init_2 (ws_ yJ14_init_2 cJ14_init_2 3 none) ({ frames := 3, cells := 0, slots := 0, locals := 60 } : Room) (gPx [.ref q, .ref msg, .null] k q ((q, .inr (5, [.null, .null, .null, .null, .null, .int 0, .int 0])) :: fr)) (QcX k q (fun v w => ∃ u sen : Value, v = none ∧ w = (q, .inr (5, [.null, u, sen, .ref msg, .null, .int 0, .int 0])) :: fr)) 0 0 (Ab k) := by
  refine va_MetF (cc := cJ14_init_2) (maxL := 3) (ret := none) (by decide +kernel) rfl ?_
  intro p e s m args below meth c s₁ B hml hv
  obtain ⟨rfl, hP, hG, hM⟩ := hv
  have hx := B.exec
  have hb := B.bytes
  have hr := B.returns
  have hts := atoms_spec (ws := ws_ yJ14_init_2 cJ14_init_2 3 none) B.pre
  have hts : ∀ w ∈ lw_all, w.before _ s = true := fun w h => hts w (List.mem_cons_of_mem _ h)
  have hown : s.vm.findClass RJ14 = some m.cls := findClass_of_methodNamed B.named
  have hlocks := B.notSynchronized
  have hl := lv_entry ([.ref q, .ref msg, .null]) (n := 3) (Nat.le_of_ble_eq_true rfl)
  rw [lg_entry_eq]
  generalize (lg_sl ([.ref q, .ref msg, .null]) ++ List.replicate (3 - (lg_sl ([.ref q, .ref msg, .null])).length) Slot.unset).toArray = ls at hl ⊢
  have hl : lv_has ls 3 [(0, .ref q), (1, .ref msg), (2, .null)] := hl
  have hS : va_S (Ab k) s.heap s.heap [] := va_S.rf
  have hin : meth.name = "<init>" := (name_of_methodNamed B.named B.method).1
  obtain ⟨uu, hZu⟩ := zq_ref hG.us.1
  obtain ⟨us, hZs⟩ := zq_ref hG.ss.1
  refine lv_aload_n hx hb dJ14_init_2_0 rfl (lv_at hl 0 rfl) ?_
  refine W.objInit hx hb hown (hts _ q481) (hts _ q104) (hts _ q105) rfl (by rw [hml]; exact hl.1) rfl dJ14_init_2_1 (Nat.le_of_ble_eq_true rfl) (Nat.le_of_ble_eq_true rfl) ?_
  refine W.eq (g2 := F0 m 4 ls []) rfl ?_
  refine lv_aload_n hx hb dJ14_init_2_4 rfl (lv_at hl 0 rfl) ?_
  refine lv_aload_n hx hb dJ14_init_2_5 rfl (lv_at hl 0 rfl) ?_
  refine va_put (ci := 5) (v := .ref q) (ty := (tyX5 0)) (C := RX5) (T := TX5) (N := 7) hx hb hts in_X5 tyX5 tyX5_ok nmX5 hown hG.K hP hD hS 0 rfl rfl 0 (by decide) (hts _ q512) (fun _ h9 => h9) rfl (by decide +kernel) rfl rfl (Nat.le_of_ble_eq_true rfl) dJ14_init_2_6 (fun H locs hP hD hS => ?_)
  have hP : va_P (kD k) gCl ((q, .inr (5, [.ref q, .null, .null, .null, .null, .int 0, .int 0])) :: fr) H := hP
  have hD : va_D (Ab k) ((q, .inr (5, [.ref q, .null, .null, .null, .null, .int 0, .int 0])) :: fr) := hD
  refine lv_aload_n hx hb dJ14_init_2_9 rfl (lv_at hl 0 rfl) ?_
  refine va_gets hx hb hZu hS hown (hts _ q482) (fun _ h9 => h9) dJ14_init_2_10 ?_
  refine va_put (ci := 5) (v := uu.v) (ty := (tyX5 1)) (C := RX5) (T := TX5) (N := 7) hx hb hts in_X5 tyX5 tyX5_ok nmX5 hown hG.K hP hD hS 0 rfl rfl 1 (by decide) (hts _ q513) (fun _ h9 => h9) rfl (by decide +kernel) (nar_ref _ uu) (fits_refV_array _ uu) (Nat.le_of_ble_eq_true rfl) dJ14_init_2_13 (fun H locs hP hD hS => ?_)
  have hP : va_P (kD k) gCl ((q, .inr (5, [.ref q, uu.v, .null, .null, .null, .int 0, .int 0])) :: fr) H := hP
  have hD : va_D (Ab k) ((q, .inr (5, [.ref q, uu.v, .null, .null, .null, .int 0, .int 0])) :: fr) := hD
  refine lv_aload_n hx hb dJ14_init_2_16 rfl (lv_at hl 0 rfl) ?_
  refine va_gets hx hb hZs hS hown (hts _ q484) (fun _ h9 => h9) dJ14_init_2_17 ?_
  refine va_put (ci := 5) (v := us.v) (ty := (tyX5 2)) (C := RX5) (T := TX5) (N := 7) hx hb hts in_X5 tyX5 tyX5_ok nmX5 hown hG.K hP hD hS 0 rfl rfl 2 (by decide) (hts _ q514) (fun _ h9 => h9) rfl (by decide +kernel) (nar_ref _ us) (fits_refV_object _ us) (Nat.le_of_ble_eq_true rfl) dJ14_init_2_20 (fun H locs hP hD hS => ?_)
  have hP : va_P (kD k) gCl ((q, .inr (5, [.ref q, uu.v, us.v, .null, .null, .int 0, .int 0])) :: fr) H := hP
  have hD : va_D (Ab k) ((q, .inr (5, [.ref q, uu.v, us.v, .null, .null, .int 0, .int 0])) :: fr) := hD
  refine lv_aload_n hx hb dJ14_init_2_23 rfl (lv_at hl 0 rfl) ?_
  refine W.mon hM (fun hM9 => ?_)
  refine d_fillW (C := RX5) (T := TX5) (N := 7) (ci := 5) (u0 := uu) hx hb htr (by rw [hml]; exact hl.1) hts hown hG hP hD hS hM9 rfl (by decide) rfl rfl rfl rfl (hts _ q469) (hts _ q466) (hts _ q465) hZu (Nat.le_of_ble_eq_true rfl) (Nat.le_of_ble_eq_true rfl) dJ14_init_2_24 ?_
  refine lv_pop hx hb dJ14_init_2_27 rfl ?_
  refine lv_aload_n hx hb dJ14_init_2_28 rfl (lv_at hl 0 rfl) ?_
  refine lv_aload_n hx hb dJ14_init_2_29 rfl (lv_at hl 1 rfl) ?_
  refine va_put (ci := 5) (v := .ref msg) (ty := (tyX5 3)) (C := RX5) (T := TX5) (N := 7) hx hb hts in_X5 tyX5 tyX5_ok nmX5 hown hG.K hP hD hS 0 rfl rfl 3 (by decide) (hts _ q511) (fun _ h9 => h9) rfl (by decide +kernel) rfl rfl (Nat.le_of_ble_eq_true rfl) dJ14_init_2_30 (fun H locs hP hD hS => ?_)
  have hP : va_P (kD k) gCl ((q, .inr (5, [.ref q, uu.v, us.v, .ref msg, .null, .int 0, .int 0])) :: fr) H := hP
  have hD : va_D (Ab k) ((q, .inr (5, [.ref q, uu.v, us.v, .ref msg, .null, .int 0, .int 0])) :: fr) := hD
  refine lv_aload_n hx hb dJ14_init_2_33 rfl (lv_at hl 0 rfl) ?_
  refine lv_aload_nN hx hb dJ14_init_2_34 rfl (lv_at hl 2 rfl) ?_
  refine va_put (ci := 5) (v := .null) (ty := (tyX5 0)) (C := RX5) (T := TX5) (N := 7) hx hb hts in_X5 tyX5 tyX5_ok nmX5 hown hG.K hP hD hS 0 rfl rfl 0 (by decide) (hts _ q512) (fun _ h9 => h9) rfl (by decide +kernel) rfl rfl (Nat.le_of_ble_eq_true rfl) dJ14_init_2_35 (fun H locs hP hD hS => ?_)
  have hP : va_P (kD k) gCl ((q, .inr (5, [.null, uu.v, us.v, .ref msg, .null, .int 0, .int 0])) :: fr) H := hP
  have hD : va_D (Ab k) ((q, .inr (5, [.null, uu.v, us.v, .ref msg, .null, .int 0, .int 0])) :: fr) := hD
  refine W.mon hM (fun hM9 => ?_)
  exact W.vret hx hb hr (fun t ht hW => d_retX (w := (q, .inr (5, [.null, uu.v, us.v, .ref msg, .null, .int 0, .int 0])) :: fr) ⟨uu.v, us.v, rfl, rfl⟩ hM9 hP hD hS ht) hS.2.2 dJ14_init_2_38
theorem hd_J15_init : yJ15_init.cls ≠ "java/lang/invoke/MethodHandle" ∧ yJ15_init.cls ≠ "java/lang/invoke/VarHandle" ∧ (parseMethodDescriptor yJ15_init.desc).map (fun d => d.parameters.length) = some 2 := by decide +kernel
set_option maxHeartbeats 4000000 in
set_option maxRecDepth 100000 in
theorem met_J15_init_X5N {l : Launch} (htr : l.stackTraces = false) {k : Cx} {q msg : Nat} {fr : va_W} (hD : va_D (Ab k) ((q, .inr (5, [.null, .null, .null, .null, .null, .int 0, .int 0])) :: fr)) : Met l yJ15_init (ws_ yJ15_init cJ15_init 3 none) ({ frames := 4, cells := 0, slots := 0, locals := 82 } : Room) (gPx [.ref q, .ref msg, .null] k q ((q, .inr (5, [.null, .null, .null, .null, .null, .int 0, .int 0])) :: fr)) (QcX k q (fun v w => ∃ u sen : Value, v = none ∧ w = (q, .inr (5, [.null, u, sen, .ref msg, .null, .int 0, .int 0])) :: fr)) 0 0 (Ab k) := by
  refine va_MetF (cc := cJ15_init) (maxL := 3) (ret := none) (by decide +kernel) rfl ?_
  intro p e s m args below meth c s₁ B hml hv
  obtain ⟨rfl, hP, hG, hM⟩ := hv
  have hx := B.exec
  have hb := B.bytes
  have hr := B.returns
  have hts := atoms_spec (ws := ws_ yJ15_init cJ15_init 3 none) B.pre
  have hts : ∀ w ∈ lw_all, w.before _ s = true := fun w h => hts w (List.mem_cons_of_mem _ h)
  have hown : s.vm.findClass RJ15 = some m.cls := findClass_of_methodNamed B.named
  have hlocks := B.notSynchronized
  have hl := lv_entry ([.ref q, .ref msg, .null]) (n := 3) (Nat.le_of_ble_eq_true rfl)
  rw [lg_entry_eq]
  generalize (lg_sl ([.ref q, .ref msg, .null]) ++ List.replicate (3 - (lg_sl ([.ref q, .ref msg, .null])).length) Slot.unset).toArray = ls at hl ⊢
  have hl : lv_has ls 3 [(0, .ref q), (1, .ref msg), (2, .null)] := hl
  have hS : va_S (Ab k) s.heap s.heap [] := va_S.rf
  have hin : meth.name = "<init>" := (name_of_methodNamed B.named B.method).1
  refine lv_aload_n hx hb dJ15_init_0 rfl (lv_at hl 0 rfl) ?_
  refine lv_aload_n hx hb dJ15_init_1 rfl (lv_at hl 1 rfl) ?_
  refine lv_aload_nN hx hb dJ15_init_2 rfl (lv_at hl 2 rfl) ?_
  refine W.mon hM (fun hM9 => ?_)
  refine d_callX (va_runI (As := [.ref msg, .null]) (rest := []) ⟨hx, hb, hml, hown, hts⟩ (met_J14_init_2_X5N htr hD) (cwI 2 hts (lw_meth q506) rfl rfl rfl (hts _ q86) (hts _ q504) (hts _ q505) rfl hd_J14_init_2 ⟨Nat.le_of_ble_eq_true rfl, Nat.le_of_ble_eq_true rfl⟩) (x_preS hG hS hP hM9) rfl rfl hl.1 rfl (lv_room (Nat.le_of_ble_eq_true rfl)) dJ15_init_3 ⟨Nat.le_of_ble_eq_true rfl, Nat.le_of_ble_eq_true rfl⟩) hS (fun v w H locs hp hM9 hP hD hS => ?_)
  obtain ⟨u, sen, rfl, rfl⟩ := hp
  have hP : va_P (kD k) gCl ((q, .inr (5, [.null, u, sen, .ref msg, .null, .int 0, .int 0])) :: fr) H := hP
  have hD : va_D (Ab k) ((q, .inr (5, [.null, u, sen, .ref msg, .null, .int 0, .int 0])) :: fr) := hD
  refine W.mon hM (fun hM9 => ?_)
  exact W.vret hx hb hr (fun t ht hW => d_retX (w := (q, .inr (5, [.null, u, sen, .ref msg, .null, .int 0, .int 0])) :: fr) ⟨u, sen, rfl, rfl⟩ hM9 hP hD hS ht) hS.2.2 dJ15_init_6
theorem hd_X5_init : yX5_init.cls ≠ "java/lang/invoke/MethodHandle" ∧ yX5_init.cls ≠ "java/lang/invoke/VarHandle" ∧ (parseMethodDescriptor yX5_init.desc).map (fun d => d.parameters.length) = some 2 := by decide +kernel
set_option maxHeartbeats 4000000 in
set_option maxRecDepth 100000 in
theorem met_X5_initN {l : Launch} (htr : l.stackTraces = false) {k : Cx} {q : Nat} {cd : Int32} {fr : va_W} (hD : va_D (Ab k) ((q, .inr (5, [.null, .null, .null, .null, .null, .int 0, .int 0])) :: fr)) : Met l yX5_init (ws_ yX5_init cX5_init 3 none) ({ frames := 5, cells := 0, slots := 0, locals := 104 } : Room) (gPx [.ref q, .int cd, .null] k q ((q, .inr (5, [.null, .null, .null, .null, .null, .int 0, .int 0])) :: fr)) (QcX k q (fun v w => ∃ u sen : Value, v = none ∧ w = (q, .inr (5, [.null, u, sen, .ref (kS k 0), .null, .int 0, .int cd])) :: fr)) 0 0 (Ab k) := by
  refine Met.ofW (cc := cX5_init) (maxL := 3) (ret := none) (by decide) rfl ?_
  intro p e s m args below meth c s₁ B hml hv
  obtain ⟨rfl, hP, hG, hM⟩ := hv
  have hx := B.exec
  have hb := B.bytes
  have hr := B.returns
  have hts := atoms_spec (ws := ws_ yX5_init cX5_init 3 none) B.pre
  have hts : ∀ w ∈ lw_all, w.before _ s = true := fun w h => hts w (List.mem_cons_of_mem _ h)
  have hown : s.vm.findClass RX5 = some m.cls := findClass_of_methodNamed B.named
  have hlocks := B.notSynchronized
  have hl := lv_entry ([.ref q, .int cd, .null]) (n := 3) (Nat.le_of_ble_eq_true rfl)
  rw [lg_entry_eq]
  generalize (lg_sl ([.ref q, .int cd, .null]) ++ List.replicate (3 - (lg_sl ([.ref q, .int cd, .null])).length) Slot.unset).toArray = ls at hl ⊢
  have hl : lv_has ls 3 [(0, .ref q), (1, .int cd), (2, .null)] := hl
  have hS : va_S (Ab k) s.heap s.heap [] := va_S.rf
  have hin : meth.name = "<init>" := (name_of_methodNamed B.named B.method).1
  refine lv_aload_n hx hb dX5_init_0 rfl (lv_at hl 0 rfl) ?_
  refine va_ldcS hx hb hown hG.r0 dX5_init_1 ?_
  refine lv_aload_nN hx hb dX5_init_3 rfl (lv_at hl 2 rfl) ?_
  refine W.mon hM (fun hM9 => ?_)
  refine d_callX (va_runI (As := [.ref (kS k 0), .null]) (rest := []) ⟨hx, hb, hml, hown, hts⟩ (met_J15_init_X5N htr hD) (cwI 2 hts (lw_meth q503) rfl rfl rfl (hts _ q87) (hts _ q501) (hts _ q502) rfl hd_J15_init ⟨Nat.le_of_ble_eq_true rfl, Nat.le_of_ble_eq_true rfl⟩) (x_preS hG hS hP hM9) rfl rfl hl.1 rfl (lv_room (Nat.le_of_ble_eq_true rfl)) dX5_init_4 ⟨Nat.le_of_ble_eq_true rfl, Nat.le_of_ble_eq_true rfl⟩) hS (fun v w H locs hp hM9 hP hD hS => ?_)
  obtain ⟨u, sen, rfl, rfl⟩ := hp
  have hP : va_P (kD k) gCl ((q, .inr (5, [.null, u, sen, .ref (kS k 0), .null, .int 0, .int 0])) :: fr) H := hP
  have hD : va_D (Ab k) ((q, .inr (5, [.null, u, sen, .ref (kS k 0), .null, .int 0, .int 0])) :: fr) := hD
  refine lv_aload_n hx hb dX5_init_7 rfl (lv_at hl 0 rfl) ?_
  refine lv_iload_n hx hb dX5_init_8 rfl (lv_at hl 1 rfl) ?_
  refine va_putF (ci := 5) (v := .int cd) (ty := .int) (C := RX5) (T := TX5) (N := 7) hx hb hts in_X5 tyX5 tyX5_ok nmX5 hown hG.K hP hD hS 0 rfl rfl 6 (by decide) (hts _ q507) (fun _ h9 => h9) rfl hin rfl (by decide +kernel) rfl rfl (Nat.le_of_ble_eq_true rfl) dX5_init_9 (fun H locs hP hD hS => ?_)
  have hP : va_P (kD k) gCl ((q, .inr (5, [.null, u, sen, .ref (kS k 0), .null, .int 0, .int cd])) :: fr) H := hP
  have hD : va_D (Ab k) ((q, .inr (5, [.null, u, sen, .ref (kS k 0), .null, .int 0, .int cd])) :: fr) := hD
  refine W.mon hM (fun hM9 => ?_)
  exact W.vret hx hb hr (fun t ht hW => d_retX (w := (q, .inr (5, [.null, u, sen, .ref (kS k 0), .null, .int 0, .int cd])) :: fr) ⟨u, sen, rfl, rfl⟩ hM9 hP hD hS ht) hS.2.2 dX5_init_12
set_option maxHeartbeats 4000000 in
set_option maxRecDepth 100000 in
theorem met_J14_init_2_X8N {l : Launch} (htr : l.stackTraces = false) {k : Cx} {q msg : Nat} {fr : va_W} (hD : va_D (Ab k) ((q, .inr (8, [.null, .null, .null, .null, .null, .int 0, .int 0, .int 0])) :: fr)) : Met l yJ14_init_2 (ws_ yJ14_init_2 cJ14_init_2 3 none) ({ frames := 3, cells := 0, slots := 0, locals := 60 } : Room) (gPx [.ref q, .ref msg, .null] k q ((q, .inr (8, [.null, .null, .null, .null, .null, .int 0, .int 0, .int 0])) :: fr)) (QcX k q (fun v w => ∃ u sen : Value, v = none ∧ w = (q, .inr (8, [.null, u, sen, .ref msg, .null, .int 0, .int 0, .int 0])) :: fr)) 0 0 (Ab k) := by
  refine va_MetF (cc := cJ14_init_2) (maxL := 3) (ret := none) (by decide +kernel) rfl ?_
  intro p e s m args below meth c s₁ B hml hv
  obtain ⟨rfl, hP, hG, hM⟩ := hv
  have hx := B.exec
  have hb := B.bytes
  have hr := B.returns
  have hts := atoms_spec (ws := ws_ yJ14_init_2 cJ14_init_2 3 none) B.pre
  have hts : ∀ w ∈ lw_all, w.before _ s = true := fun w h => hts w (List.mem_cons_of_mem _ h)
  have hown : s.vm.findClass RJ14 = some m.cls := findClass_of_methodNamed B.named
  have hlocks := B.notSynchronized
  have hl := lv_entry ([.ref q, .ref msg, .null]) (n := 3) (Nat.le_of_ble_eq_true rfl)
  rw [lg_entry_eq]
  generalize (lg_sl ([.ref q, .ref msg, .null]) ++ List.replicate (3 - (lg_sl ([.ref q, .ref msg, .null])).length) Slot.unset).toArray = ls at hl ⊢
  have hl : lv_has ls 3 [(0, .ref q), (1, .ref msg), (2, .null)] := hl
  have hS : va_S (Ab k) s.heap s.heap [] := va_S.rf
  have hin : meth.name = "<init>" := (name_of_methodNamed B.named B.method).1
  obtain ⟨uu, hZu⟩ := zq_ref hG.us.1
  obtain ⟨us, hZs⟩ := zq_ref hG.ss.1
  refine lv_aload_n hx hb dJ14_init_2_0 rfl (lv_at hl 0 rfl) ?_
  refine W.objInit hx hb hown (hts _ q481) (hts _ q104) (hts _ q105) rfl (by rw [hml]; exact hl.1) rfl dJ14_init_2_1 (Nat.le_of_ble_eq_true rfl) (Nat.le_of_ble_eq_true rfl) ?_
  refine W.eq (g2 := F0 m 4 ls []) rfl ?_
  refine lv_aload_n hx hb dJ14_init_2_4 rfl (lv_at hl 0 rfl) ?_
  refine lv_aload_n hx hb dJ14_init_2_5 rfl (lv_at hl 0 rfl) ?_
  refine va_put (ci := 8) (v := .ref q) (ty := (tyX8 0)) (C := RX8) (T := TX8) (N := 8) hx hb hts in_X8 tyX8 tyX8_ok nmX8 hown hG.K hP hD hS 0 rfl rfl 0 (by decide) (hts _ q512) (fun _ h9 => h9) rfl (by decide +kernel) rfl rfl (Nat.le_of_ble_eq_true rfl) dJ14_init_2_6 (fun H locs hP hD hS => ?_)
  have hP : va_P (kD k) gCl ((q, .inr (8, [.ref q, .null, .null, .null, .null, .int 0, .int 0, .int 0])) :: fr) H := hP
  have hD : va_D (Ab k) ((q, .inr (8, [.ref q, .null, .null, .null, .null, .int 0, .int 0, .int 0])) :: fr) := hD
  refine lv_aload_n hx hb dJ14_init_2_9 rfl (lv_at hl 0 rfl) ?_
  refine va_gets hx hb hZu hS hown (hts _ q482) (fun _ h9 => h9) dJ14_init_2_10 ?_
  refine va_put (ci := 8) (v := uu.v) (ty := (tyX8 1)) (C := RX8) (T := TX8) (N := 8) hx hb hts in_X8 tyX8 tyX8_ok nmX8 hown hG.K hP hD hS 0 rfl rfl 1 (by decide) (hts _ q513) (fun _ h9 => h9) rfl (by decide +kernel) (nar_ref _ uu) (fits_refV_array _ uu) (Nat.le_of_ble_eq_true rfl) dJ14_init_2_13 (fun H locs hP hD hS => ?_)
  have hP : va_P (kD k) gCl ((q, .inr (8, [.ref q, uu.v, .null, .null, .null, .int 0, .int 0, .int 0])) :: fr) H := hP
  have hD : va_D (Ab k) ((q, .inr (8, [.ref q, uu.v, .null, .null, .null, .int 0, .int 0, .int 0])) :: fr) := hD
  refine lv_aload_n hx hb dJ14_init_2_16 rfl (lv_at hl 0 rfl) ?_
  refine va_gets hx hb hZs hS hown (hts _ q484) (fun _ h9 => h9) dJ14_init_2_17 ?_
  refine va_put (ci := 8) (v := us.v) (ty := (tyX8 2)) (C := RX8) (T := TX8) (N := 8) hx hb hts in_X8 tyX8 tyX8_ok nmX8 hown hG.K hP hD hS 0 rfl rfl 2 (by decide) (hts _ q514) (fun _ h9 => h9) rfl (by decide +kernel) (nar_ref _ us) (fits_refV_object _ us) (Nat.le_of_ble_eq_true rfl) dJ14_init_2_20 (fun H locs hP hD hS => ?_)
  have hP : va_P (kD k) gCl ((q, .inr (8, [.ref q, uu.v, us.v, .null, .null, .int 0, .int 0, .int 0])) :: fr) H := hP
  have hD : va_D (Ab k) ((q, .inr (8, [.ref q, uu.v, us.v, .null, .null, .int 0, .int 0, .int 0])) :: fr) := hD
  refine lv_aload_n hx hb dJ14_init_2_23 rfl (lv_at hl 0 rfl) ?_
  refine W.mon hM (fun hM9 => ?_)
  refine d_fillW (C := RX8) (T := TX8) (N := 8) (ci := 8) (u0 := uu) hx hb htr (by rw [hml]; exact hl.1) hts hown hG hP hD hS hM9 rfl (by decide) rfl rfl rfl rfl (hts _ q1234) (hts _ q490) (hts _ q1232) hZu (Nat.le_of_ble_eq_true rfl) (Nat.le_of_ble_eq_true rfl) dJ14_init_2_24 ?_
  refine lv_pop hx hb dJ14_init_2_27 rfl ?_
  refine lv_aload_n hx hb dJ14_init_2_28 rfl (lv_at hl 0 rfl) ?_
  refine lv_aload_n hx hb dJ14_init_2_29 rfl (lv_at hl 1 rfl) ?_
  refine va_put (ci := 8) (v := .ref msg) (ty := (tyX8 3)) (C := RX8) (T := TX8) (N := 8) hx hb hts in_X8 tyX8 tyX8_ok nmX8 hown hG.K hP hD hS 0 rfl rfl 3 (by decide) (hts _ q511) (fun _ h9 => h9) rfl (by decide +kernel) rfl rfl (Nat.le_of_ble_eq_true rfl) dJ14_init_2_30 (fun H locs hP hD hS => ?_)
  have hP : va_P (kD k) gCl ((q, .inr (8, [.ref q, uu.v, us.v, .ref msg, .null, .int 0, .int 0, .int 0])) :: fr) H := hP
  have hD : va_D (Ab k) ((q, .inr (8, [.ref q, uu.v, us.v, .ref msg, .null, .int 0, .int 0, .int 0])) :: fr) := hD
  refine lv_aload_n hx hb dJ14_init_2_33 rfl (lv_at hl 0 rfl) ?_
  refine lv_aload_nN hx hb dJ14_init_2_34 rfl (lv_at hl 2 rfl) ?_
  refine va_put (ci := 8) (v := .null) (ty := (tyX8 0)) (C := RX8) (T := TX8) (N := 8) hx hb hts in_X8 tyX8 tyX8_ok nmX8 hown hG.K hP hD hS 0 rfl rfl 0 (by decide) (hts _ q512) (fun _ h9 => h9) rfl (by decide +kernel) rfl rfl (Nat.le_of_ble_eq_true rfl) dJ14_init_2_35 (fun H locs hP hD hS => ?_)
  have hP : va_P (kD k) gCl ((q, .inr (8, [.null, uu.v, us.v, .ref msg, .null, .int 0, .int 0, .int 0])) :: fr) H := hP
  have hD : va_D (Ab k) ((q, .inr (8, [.null, uu.v, us.v, .ref msg, .null, .int 0, .int 0, .int 0])) :: fr) := hD
  refine W.mon hM (fun hM9 => ?_)
  exact W.vret hx hb hr (fun t ht hW => d_retX (w := (q, .inr (8, [.null, uu.v, us.v, .ref msg, .null, .int 0, .int 0, .int 0])) :: fr) ⟨uu.v, us.v, rfl, rfl⟩ hM9 hP hD hS ht) hS.2.2 dJ14_init_2_38
set_option maxHeartbeats 4000000 in
set_option maxRecDepth 100000 in
theorem met_J15_init_X8N {l : Launch} (htr : l.stackTraces = false) {k : Cx} {q msg : Nat} {fr : va_W} (hD : va_D (Ab k) ((q, .inr (8, [.null, .null, .null, .null, .null, .int 0, .int 0, .int 0])) :: fr)) : Met l yJ15_init (ws_ yJ15_init cJ15_init 3 none) ({ frames := 4, cells := 0, slots := 0, locals := 82 } : Room) (gPx [.ref q, .ref msg, .null] k q ((q, .inr (8, [.null, .null, .null, .null, .null, .int 0, .int 0, .int 0])) :: fr)) (QcX k q (fun v w => ∃ u sen : Value, v = none ∧ w = (q, .inr (8, [.null, u, sen, .ref msg, .null, .int 0, .int 0, .int 0])) :: fr)) 0 0 (Ab k) := by
  refine va_MetF (cc := cJ15_init) (maxL := 3) (ret := none) (by decide +kernel) rfl ?_
  intro p e s m args below meth c s₁ B hml hv
  obtain ⟨rfl, hP, hG, hM⟩ := hv
  have hx := B.exec
  have hb := B.bytes
  have hr := B.returns
  have hts := atoms_spec (ws := ws_ yJ15_init cJ15_init 3 none) B.pre
  have hts : ∀ w ∈ lw_all, w.before _ s = true := fun w h => hts w (List.mem_cons_of_mem _ h)
  have hown : s.vm.findClass RJ15 = some m.cls := findClass_of_methodNamed B.named
  have hlocks := B.notSynchronized
  have hl := lv_entry ([.ref q, .ref msg, .null]) (n := 3) (Nat.le_of_ble_eq_true rfl)
  rw [lg_entry_eq]
  generalize (lg_sl ([.ref q, .ref msg, .null]) ++ List.replicate (3 - (lg_sl ([.ref q, .ref msg, .null])).length) Slot.unset).toArray = ls at hl ⊢
  have hl : lv_has ls 3 [(0, .ref q), (1, .ref msg), (2, .null)] := hl
  have hS : va_S (Ab k) s.heap s.heap [] := va_S.rf
  have hin : meth.name = "<init>" := (name_of_methodNamed B.named B.method).1
  refine lv_aload_n hx hb dJ15_init_0 rfl (lv_at hl 0 rfl) ?_
  refine lv_aload_n hx hb dJ15_init_1 rfl (lv_at hl 1 rfl) ?_
  refine lv_aload_nN hx hb dJ15_init_2 rfl (lv_at hl 2 rfl) ?_
  refine W.mon hM (fun hM9 => ?_)
  refine d_callX (va_runI (As := [.ref msg, .null]) (rest := []) ⟨hx, hb, hml, hown, hts⟩ (met_J14_init_2_X8N htr hD) (cwI 2 hts (lw_meth q506) rfl rfl rfl (hts _ q86) (hts _ q504) (hts _ q505) rfl hd_J14_init_2 ⟨Nat.le_of_ble_eq_true rfl, Nat.le_of_ble_eq_true rfl⟩) (x_preS hG hS hP hM9) rfl rfl hl.1 rfl (lv_room (Nat.le_of_ble_eq_true rfl)) dJ15_init_3 ⟨Nat.le_of_ble_eq_true rfl, Nat.le_of_ble_eq_true rfl⟩) hS (fun v w H locs hp hM9 hP hD hS => ?_)
  obtain ⟨u, sen, rfl, rfl⟩ := hp
  have hP : va_P (kD k) gCl ((q, .inr (8, [.null, u, sen, .ref msg, .null, .int 0, .int 0, .int 0])) :: fr) H := hP
  have hD : va_D (Ab k) ((q, .inr (8, [.null, u, sen, .ref msg, .null, .int 0, .int 0, .int 0])) :: fr) := hD
  refine W.mon hM (fun hM9 => ?_)
  exact W.vret hx hb hr (fun t ht hW => d_retX (w := (q, .inr (8, [.null, u, sen, .ref msg, .null, .int 0, .int 0, .int 0])) :: fr) ⟨u, sen, rfl, rfl⟩ hM9 hP hD hS ht) hS.2.2 dJ15_init_6
theorem hd_X8_init : yX8_init.cls ≠ "java/lang/invoke/MethodHandle" ∧ yX8_init.cls ≠ "java/lang/invoke/VarHandle" ∧ (parseMethodDescriptor yX8_init.desc).map (fun d => d.parameters.length) = some 3 := by decide +kernel
set_option maxHeartbeats 4000000 in
set_option maxRecDepth 100000 in
theorem met_X8_initN {l : Launch} (htr : l.stackTraces = false) {k : Cx} {q : Nat} {bg bk : Int32} {fr : va_W} (hD : va_D (Ab k) ((q, .inr (8, [.null, .null, .null, .null, .null, .int 0, .int 0, .int 0])) :: fr)) : Met l yX8_init (ws_ yX8_init cX8_init 4 none) ({ frames := 5, cells := 0, slots := 0, locals := 104 } : Room) (gPx [.ref q, .int bg, .int bk, .null] k q ((q, .inr (8, [.null, .null, .null, .null, .null, .int 0, .int 0, .int 0])) :: fr)) (QcX k q (fun v w => ∃ u sen : Value, v = none ∧ w = (q, .inr (8, [.null, u, sen, .ref (kS k 3), .null, .int 0, .int bg, .int bk])) :: fr)) 0 0 (Ab k) := by
  refine Met.ofW (cc := cX8_init) (maxL := 4) (ret := none) (by decide) rfl ?_
  intro p e s m args below meth c s₁ B hml hv
  obtain ⟨rfl, hP, hG, hM⟩ := hv
  have hx := B.exec
  have hb := B.bytes
  have hr := B.returns
  have hts := atoms_spec (ws := ws_ yX8_init cX8_init 4 none) B.pre
  have hts : ∀ w ∈ lw_all, w.before _ s = true := fun w h => hts w (List.mem_cons_of_mem _ h)
  have hown : s.vm.findClass RX8 = some m.cls := findClass_of_methodNamed B.named
  have hlocks := B.notSynchronized
  have hl := lv_entry ([.ref q, .int bg, .int bk, .null]) (n := 4) (Nat.le_of_ble_eq_true rfl)
  rw [lg_entry_eq]
  generalize (lg_sl ([.ref q, .int bg, .int bk, .null]) ++ List.replicate (4 - (lg_sl ([.ref q, .int bg, .int bk, .null])).length) Slot.unset).toArray = ls at hl ⊢
  have hl : lv_has ls 4 [(0, .ref q), (1, .int bg), (2, .int bk), (3, .null)] := hl
  have hS : va_S (Ab k) s.heap s.heap [] := va_S.rf
  have hin : meth.name = "<init>" := (name_of_methodNamed B.named B.method).1
  refine lv_aload_n hx hb dX8_init_0 rfl (lv_at hl 0 rfl) ?_
  refine va_ldcS hx hb hown hG.r3 dX8_init_1 ?_
  refine lv_aload_nN hx hb dX8_init_3 rfl (lv_at hl 3 rfl) ?_
  refine W.mon hM (fun hM9 => ?_)
  refine d_callX (va_runI (As := [.ref (kS k 3), .null]) (rest := []) ⟨hx, hb, hml, hown, hts⟩ (met_J15_init_X8N htr hD) (cwI 2 hts (lw_meth q503) rfl rfl rfl (hts _ q87) (hts _ q1242) (hts _ q502) rfl hd_J15_init ⟨Nat.le_of_ble_eq_true rfl, Nat.le_of_ble_eq_true rfl⟩) (x_preS hG hS hP hM9) rfl rfl hl.1 rfl (lv_room (Nat.le_of_ble_eq_true rfl)) dX8_init_4 ⟨Nat.le_of_ble_eq_true rfl, Nat.le_of_ble_eq_true rfl⟩) hS (fun v w H locs hp hM9 hP hD hS => ?_)
  obtain ⟨u, sen, rfl, rfl⟩ := hp
  have hP : va_P (kD k) gCl ((q, .inr (8, [.null, u, sen, .ref (kS k 3), .null, .int 0, .int 0, .int 0])) :: fr) H := hP
  have hD : va_D (Ab k) ((q, .inr (8, [.null, u, sen, .ref (kS k 3), .null, .int 0, .int 0, .int 0])) :: fr) := hD
  refine lv_aload_n hx hb dX8_init_7 rfl (lv_at hl 0 rfl) ?_
  refine lv_iload_n hx hb dX8_init_8 rfl (lv_at hl 1 rfl) ?_
  refine va_putF (ci := 8) (v := .int bg) (ty := .int) (C := RX8) (T := TX8) (N := 8) hx hb hts in_X8 tyX8 tyX8_ok nmX8 hown hG.K hP hD hS 0 rfl rfl 6 (by decide) (hts _ q1243) (fun _ h9 => h9) rfl hin rfl (by decide +kernel) rfl rfl (Nat.le_of_ble_eq_true rfl) dX8_init_9 (fun H locs hP hD hS => ?_)
  have hP : va_P (kD k) gCl ((q, .inr (8, [.null, u, sen, .ref (kS k 3), .null, .int 0, .int bg, .int 0])) :: fr) H := hP
  have hD : va_D (Ab k) ((q, .inr (8, [.null, u, sen, .ref (kS k 3), .null, .int 0, .int bg, .int 0])) :: fr) := hD
  refine lv_aload_n hx hb dX8_init_12 rfl (lv_at hl 0 rfl) ?_
  refine lv_iload_n hx hb dX8_init_13 rfl (lv_at hl 2 rfl) ?_
  refine va_putF (ci := 8) (v := .int bk) (ty := .int) (C := RX8) (T := TX8) (N := 8) hx hb hts in_X8 tyX8 tyX8_ok nmX8 hown hG.K hP hD hS 0 rfl rfl 7 (by decide) (hts _ q1244) (fun _ h9 => h9) rfl hin rfl (by decide +kernel) rfl rfl (Nat.le_of_ble_eq_true rfl) dX8_init_14 (fun H locs hP hD hS => ?_)
  have hP : va_P (kD k) gCl ((q, .inr (8, [.null, u, sen, .ref (kS k 3), .null, .int 0, .int bg, .int bk])) :: fr) H := hP
  have hD : va_D (Ab k) ((q, .inr (8, [.null, u, sen, .ref (kS k 3), .null, .int 0, .int bg, .int bk])) :: fr) := hD
  refine W.mon hM (fun hM9 => ?_)
  exact W.vret hx hb hr (fun t ht hW => d_retX (w := (q, .inr (8, [.null, u, sen, .ref (kS k 3), .null, .int 0, .int bg, .int bk])) :: fr) ⟨u, sen, rfl, rfl⟩ hM9 hP hD hS ht) hS.2.2 dX8_init_17
set_option maxHeartbeats 4000000 in
set_option maxRecDepth 100000 in
theorem met_J14_init_2_X5R {l : Launch} (htr : l.stackTraces = false) {k : Cx} {q msg ca : Nat} {fr : va_W} (hD : va_D (Ab k) ((q, .inr (5, [.null, .null, .null, .null, .null, .int 0, .int 0])) :: fr)) : Met l yJ14_init_2 (ws_ yJ14_init_2 cJ14_init_2 3 none) ({ frames := 3, cells := 0, slots := 0, locals := 60 } : Room) (gPx [.ref q, .ref msg, .ref ca] k q ((q, .inr (5, [.null, .null, .null, .null, .null, .int 0, .int 0])) :: fr)) (QcX k q (fun v w => ∃ u sen : Value, v = none ∧ w = (q, .inr (5, [.ref ca, u, sen, .ref msg, .null, .int 0, .int 0])) :: fr)) 0 0 (Ab k) := by
  refine va_MetF (cc := cJ14_init_2) (maxL := 3) (ret := none) (by decide +kernel) rfl ?_
  intro p e s m args below meth c s₁ B hml hv
  obtain ⟨rfl, hP, hG, hM⟩ := hv
  have hx := B.exec
  have hb := B.bytes
  have hr := B.returns
  have hts := atoms_spec (ws := ws_ yJ14_init_2 cJ14_init_2 3 none) B.pre
  have hts : ∀ w ∈ lw_all, w.before _ s = true := fun w h => hts w (List.mem_cons_of_mem _ h)
  have hown : s.vm.findClass RJ14 = some m.cls := findClass_of_methodNamed B.named
  have hlocks := B.notSynchronized
  have hl := lv_entry ([.ref q, .ref msg, .ref ca]) (n := 3) (Nat.le_of_ble_eq_true rfl)
  rw [lg_entry_eq]
  generalize (lg_sl ([.ref q, .ref msg, .ref ca]) ++ List.replicate (3 - (lg_sl ([.ref q, .ref msg, .ref ca])).length) Slot.unset).toArray = ls at hl ⊢
  have hl : lv_has ls 3 [(0, .ref q), (1, .ref msg), (2, .ref ca)] := hl
  have hS : va_S (Ab k) s.heap s.heap [] := va_S.rf
  have hin : meth.name = "<init>" := (name_of_methodNamed B.named B.method).1
  obtain ⟨uu, hZu⟩ := zq_ref hG.us.1
  obtain ⟨us, hZs⟩ := zq_ref hG.ss.1
  refine lv_aload_n hx hb dJ14_init_2_0 rfl (lv_at hl 0 rfl) ?_
  refine W.objInit hx hb hown (hts _ q481) (hts _ q104) (hts _ q105) rfl (by rw [hml]; exact hl.1) rfl dJ14_init_2_1 (Nat.le_of_ble_eq_true rfl) (Nat.le_of_ble_eq_true rfl) ?_
  refine W.eq (g2 := F0 m 4 ls []) rfl ?_
  refine lv_aload_n hx hb dJ14_init_2_4 rfl (lv_at hl 0 rfl) ?_
  refine lv_aload_n hx hb dJ14_init_2_5 rfl (lv_at hl 0 rfl) ?_
  refine va_put (ci := 5) (v := .ref q) (ty := (tyX5 0)) (C := RX5) (T := TX5) (N := 7) hx hb hts in_X5 tyX5 tyX5_ok nmX5 hown hG.K hP hD hS 0 rfl rfl 0 (by decide) (hts _ q512) (fun _ h9 => h9) rfl (by decide +kernel) rfl rfl (Nat.le_of_ble_eq_true rfl) dJ14_init_2_6 (fun H locs hP hD hS => ?_)
  have hP : va_P (kD k) gCl ((q, .inr (5, [.ref q, .null, .null, .null, .null, .int 0, .int 0])) :: fr) H := hP
  have hD : va_D (Ab k) ((q, .inr (5, [.ref q, .null, .null, .null, .null, .int 0, .int 0])) :: fr) := hD
  refine lv_aload_n hx hb dJ14_init_2_9 rfl (lv_at hl 0 rfl) ?_
  refine va_gets hx hb hZu hS hown (hts _ q482) (fun _ h9 => h9) dJ14_init_2_10 ?_
  refine va_put (ci := 5) (v := uu.v) (ty := (tyX5 1)) (C := RX5) (T := TX5) (N := 7) hx hb hts in_X5 tyX5 tyX5_ok nmX5 hown hG.K hP hD hS 0 rfl rfl 1 (by decide) (hts _ q513) (fun _ h9 => h9) rfl (by decide +kernel) (nar_ref _ uu) (fits_refV_array _ uu) (Nat.le_of_ble_eq_true rfl) dJ14_init_2_13 (fun H locs hP hD hS => ?_)
  have hP : va_P (kD k) gCl ((q, .inr (5, [.ref q, uu.v, .null, .null, .null, .int 0, .int 0])) :: fr) H := hP
  have hD : va_D (Ab k) ((q, .inr (5, [.ref q, uu.v, .null, .null, .null, .int 0, .int 0])) :: fr) := hD
  refine lv_aload_n hx hb dJ14_init_2_16 rfl (lv_at hl 0 rfl) ?_
  refine va_gets hx hb hZs hS hown (hts _ q484) (fun _ h9 => h9) dJ14_init_2_17 ?_
  refine va_put (ci := 5) (v := us.v) (ty := (tyX5 2)) (C := RX5) (T := TX5) (N := 7) hx hb hts in_X5 tyX5 tyX5_ok nmX5 hown hG.K hP hD hS 0 rfl rfl 2 (by decide) (hts _ q514) (fun _ h9 => h9) rfl (by decide +kernel) (nar_ref _ us) (fits_refV_object _ us) (Nat.le_of_ble_eq_true rfl) dJ14_init_2_20 (fun H locs hP hD hS => ?_)
  have hP : va_P (kD k) gCl ((q, .inr (5, [.ref q, uu.v, us.v, .null, .null, .int 0, .int 0])) :: fr) H := hP
  have hD : va_D (Ab k) ((q, .inr (5, [.ref q, uu.v, us.v, .null, .null, .int 0, .int 0])) :: fr) := hD
  refine lv_aload_n hx hb dJ14_init_2_23 rfl (lv_at hl 0 rfl) ?_
  refine W.mon hM (fun hM9 => ?_)
  refine d_fillW (C := RX5) (T := TX5) (N := 7) (ci := 5) (u0 := uu) hx hb htr (by rw [hml]; exact hl.1) hts hown hG hP hD hS hM9 rfl (by decide) rfl rfl rfl rfl (hts _ q469) (hts _ q466) (hts _ q465) hZu (Nat.le_of_ble_eq_true rfl) (Nat.le_of_ble_eq_true rfl) dJ14_init_2_24 ?_
  refine lv_pop hx hb dJ14_init_2_27 rfl ?_
  refine lv_aload_n hx hb dJ14_init_2_28 rfl (lv_at hl 0 rfl) ?_
  refine lv_aload_n hx hb dJ14_init_2_29 rfl (lv_at hl 1 rfl) ?_
  refine va_put (ci := 5) (v := .ref msg) (ty := (tyX5 3)) (C := RX5) (T := TX5) (N := 7) hx hb hts in_X5 tyX5 tyX5_ok nmX5 hown hG.K hP hD hS 0 rfl rfl 3 (by decide) (hts _ q511) (fun _ h9 => h9) rfl (by decide +kernel) rfl rfl (Nat.le_of_ble_eq_true rfl) dJ14_init_2_30 (fun H locs hP hD hS => ?_)
  have hP : va_P (kD k) gCl ((q, .inr (5, [.ref q, uu.v, us.v, .ref msg, .null, .int 0, .int 0])) :: fr) H := hP
  have hD : va_D (Ab k) ((q, .inr (5, [.ref q, uu.v, us.v, .ref msg, .null, .int 0, .int 0])) :: fr) := hD
  refine lv_aload_n hx hb dJ14_init_2_33 rfl (lv_at hl 0 rfl) ?_
  refine lv_aload_n hx hb dJ14_init_2_34 rfl (lv_at hl 2 rfl) ?_
  refine va_put (ci := 5) (v := .ref ca) (ty := (tyX5 0)) (C := RX5) (T := TX5) (N := 7) hx hb hts in_X5 tyX5 tyX5_ok nmX5 hown hG.K hP hD hS 0 rfl rfl 0 (by decide) (hts _ q512) (fun _ h9 => h9) rfl (by decide +kernel) rfl rfl (Nat.le_of_ble_eq_true rfl) dJ14_init_2_35 (fun H locs hP hD hS => ?_)
  have hP : va_P (kD k) gCl ((q, .inr (5, [.ref ca, uu.v, us.v, .ref msg, .null, .int 0, .int 0])) :: fr) H := hP
  have hD : va_D (Ab k) ((q, .inr (5, [.ref ca, uu.v, us.v, .ref msg, .null, .int 0, .int 0])) :: fr) := hD
  refine W.mon hM (fun hM9 => ?_)
  exact W.vret hx hb hr (fun t ht hW => d_retX (w := (q, .inr (5, [.ref ca, uu.v, us.v, .ref msg, .null, .int 0, .int 0])) :: fr) ⟨uu.v, us.v, rfl, rfl⟩ hM9 hP hD hS ht) hS.2.2 dJ14_init_2_38
set_option maxHeartbeats 4000000 in
set_option maxRecDepth 100000 in
theorem met_J15_init_X5R {l : Launch} (htr : l.stackTraces = false) {k : Cx} {q msg ca : Nat} {fr : va_W} (hD : va_D (Ab k) ((q, .inr (5, [.null, .null, .null, .null, .null, .int 0, .int 0])) :: fr)) : Met l yJ15_init (ws_ yJ15_init cJ15_init 3 none) ({ frames := 4, cells := 0, slots := 0, locals := 82 } : Room) (gPx [.ref q, .ref msg, .ref ca] k q ((q, .inr (5, [.null, .null, .null, .null, .null, .int 0, .int 0])) :: fr)) (QcX k q (fun v w => ∃ u sen : Value, v = none ∧ w = (q, .inr (5, [.ref ca, u, sen, .ref msg, .null, .int 0, .int 0])) :: fr)) 0 0 (Ab k) := by
  refine va_MetF (cc := cJ15_init) (maxL := 3) (ret := none) (by decide +kernel) rfl ?_
  intro p e s m args below meth c s₁ B hml hv
  obtain ⟨rfl, hP, hG, hM⟩ := hv
  have hx := B.exec
  have hb := B.bytes
  have hr := B.returns
  have hts := atoms_spec (ws := ws_ yJ15_init cJ15_init 3 none) B.pre
  have hts : ∀ w ∈ lw_all, w.before _ s = true := fun w h => hts w (List.mem_cons_of_mem _ h)
  have hown : s.vm.findClass RJ15 = some m.cls := findClass_of_methodNamed B.named
  have hlocks := B.notSynchronized
  have hl := lv_entry ([.ref q, .ref msg, .ref ca]) (n := 3) (Nat.le_of_ble_eq_true rfl)
  rw [lg_entry_eq]
  generalize (lg_sl ([.ref q, .ref msg, .ref ca]) ++ List.replicate (3 - (lg_sl ([.ref q, .ref msg, .ref ca])).length) Slot.unset).toArray = ls at hl ⊢
  have hl : lv_has ls 3 [(0, .ref q), (1, .ref msg), (2, .ref ca)] := hl
  have hS : va_S (Ab k) s.heap s.heap [] := va_S.rf
  have hin : meth.name = "<init>" := (name_of_methodNamed B.named B.method).1
  refine lv_aload_n hx hb dJ15_init_0 rfl (lv_at hl 0 rfl) ?_
  refine lv_aload_n hx hb dJ15_init_1 rfl (lv_at hl 1 rfl) ?_
  refine lv_aload_n hx hb dJ15_init_2 rfl (lv_at hl 2 rfl) ?_
  refine W.mon hM (fun hM9 => ?_)
  refine d_callX (va_runI (As := [.ref msg, .ref ca]) (rest := []) ⟨hx, hb, hml, hown, hts⟩ (met_J14_init_2_X5R htr hD) (cwI 2 hts (lw_meth q506) rfl rfl rfl (hts _ q86) (hts _ q504) (hts _ q505) rfl hd_J14_init_2 ⟨Nat.le_of_ble_eq_true rfl, Nat.le_of_ble_eq_true rfl⟩) (x_preS hG hS hP hM9) rfl rfl hl.1 rfl (lv_room (Nat.le_of_ble_eq_true rfl)) dJ15_init_3 ⟨Nat.le_of_ble_eq_true rfl, Nat.le_of_ble_eq_true rfl⟩) hS (fun v w H locs hp hM9 hP hD hS => ?_)
  obtain ⟨u, sen, rfl, rfl⟩ := hp
  have hP : va_P (kD k) gCl ((q, .inr (5, [.ref ca, u, sen, .ref msg, .null, .int 0, .int 0])) :: fr) H := hP
  have hD : va_D (Ab k) ((q, .inr (5, [.ref ca, u, sen, .ref msg, .null, .int 0, .int 0])) :: fr) := hD
  refine W.mon hM (fun hM9 => ?_)
  exact W.vret hx hb hr (fun t ht hW => d_retX (w := (q, .inr (5, [.ref ca, u, sen, .ref msg, .null, .int 0, .int 0])) :: fr) ⟨u, sen, rfl, rfl⟩ hM9 hP hD hS ht) hS.2.2 dJ15_init_6
set_option maxHeartbeats 4000000 in
set_option maxRecDepth 100000 in
theorem met_X5_initR {l : Launch} (htr : l.stackTraces = false) {k : Cx} {q ca : Nat} {cd : Int32} {fr : va_W} (hD : va_D (Ab k) ((q, .inr (5, [.null, .null, .null, .null, .null, .int 0, .int 0])) :: fr)) : Met l yX5_init (ws_ yX5_init cX5_init 3 none) ({ frames := 5, cells := 0, slots := 0, locals := 104 } : Room) (gPx [.ref q, .int cd, .ref ca] k q ((q, .inr (5, [.null, .null, .null, .null, .null, .int 0, .int 0])) :: fr)) (QcX k q (fun v w => ∃ u sen : Value, v = none ∧ w = (q, .inr (5, [.ref ca, u, sen, .ref (kS k 0), .null, .int 0, .int cd])) :: fr)) 0 0 (Ab k) := by
  refine Met.ofW (cc := cX5_init) (maxL := 3) (ret := none) (by decide) rfl ?_
  intro p e s m args below meth c s₁ B hml hv
  obtain ⟨rfl, hP, hG, hM⟩ := hv
  have hx := B.exec
  have hb := B.bytes
  have hr := B.returns
  have hts := atoms_spec (ws := ws_ yX5_init cX5_init 3 none) B.pre
  have hts : ∀ w ∈ lw_all, w.before _ s = true := fun w h => hts w (List.mem_cons_of_mem _ h)
  have hown : s.vm.findClass RX5 = some m.cls := findClass_of_methodNamed B.named
  have hlocks := B.notSynchronized
  have hl := lv_entry ([.ref q, .int cd, .ref ca]) (n := 3) (Nat.le_of_ble_eq_true rfl)
  rw [lg_entry_eq]
  generalize (lg_sl ([.ref q, .int cd, .ref ca]) ++ List.replicate (3 - (lg_sl ([.ref q, .int cd, .ref ca])).length) Slot.unset).toArray = ls at hl ⊢
  have hl : lv_has ls 3 [(0, .ref q), (1, .int cd), (2, .ref ca)] := hl
  have hS : va_S (Ab k) s.heap s.heap [] := va_S.rf
  have hin : meth.name = "<init>" := (name_of_methodNamed B.named B.method).1
  refine lv_aload_n hx hb dX5_init_0 rfl (lv_at hl 0 rfl) ?_
  refine va_ldcS hx hb hown hG.r0 dX5_init_1 ?_
  refine lv_aload_n hx hb dX5_init_3 rfl (lv_at hl 2 rfl) ?_
  refine W.mon hM (fun hM9 => ?_)
  refine d_callX (va_runI (As := [.ref (kS k 0), .ref ca]) (rest := []) ⟨hx, hb, hml, hown, hts⟩ (met_J15_init_X5R htr hD) (cwI 2 hts (lw_meth q503) rfl rfl rfl (hts _ q87) (hts _ q501) (hts _ q502) rfl hd_J15_init ⟨Nat.le_of_ble_eq_true rfl, Nat.le_of_ble_eq_true rfl⟩) (x_preS hG hS hP hM9) rfl rfl hl.1 rfl (lv_room (Nat.le_of_ble_eq_true rfl)) dX5_init_4 ⟨Nat.le_of_ble_eq_true rfl, Nat.le_of_ble_eq_true rfl⟩) hS (fun v w H locs hp hM9 hP hD hS => ?_)
  obtain ⟨u, sen, rfl, rfl⟩ := hp
  have hP : va_P (kD k) gCl ((q, .inr (5, [.ref ca, u, sen, .ref (kS k 0), .null, .int 0, .int 0])) :: fr) H := hP
  have hD : va_D (Ab k) ((q, .inr (5, [.ref ca, u, sen, .ref (kS k 0), .null, .int 0, .int 0])) :: fr) := hD
  refine lv_aload_n hx hb dX5_init_7 rfl (lv_at hl 0 rfl) ?_
  refine lv_iload_n hx hb dX5_init_8 rfl (lv_at hl 1 rfl) ?_
  refine va_putF (ci := 5) (v := .int cd) (ty := .int) (C := RX5) (T := TX5) (N := 7) hx hb hts in_X5 tyX5 tyX5_ok nmX5 hown hG.K hP hD hS 0 rfl rfl 6 (by decide) (hts _ q507) (fun _ h9 => h9) rfl hin rfl (by decide +kernel) rfl rfl (Nat.le_of_ble_eq_true rfl) dX5_init_9 (fun H locs hP hD hS => ?_)
  have hP : va_P (kD k) gCl ((q, .inr (5, [.ref ca, u, sen, .ref (kS k 0), .null, .int 0, .int cd])) :: fr) H := hP
  have hD : va_D (Ab k) ((q, .inr (5, [.ref ca, u, sen, .ref (kS k 0), .null, .int 0, .int cd])) :: fr) := hD
  refine W.mon hM (fun hM9 => ?_)
  exact W.vret hx hb hr (fun t ht hW => d_retX (w := (q, .inr (5, [.ref ca, u, sen, .ref (kS k 0), .null, .int 0, .int cd])) :: fr) ⟨u, sen, rfl, rfl⟩ hM9 hP hD hS ht) hS.2.2 dX5_init_12
set_option maxHeartbeats 4000000 in
set_option maxRecDepth 100000 in
theorem met_J14_init_2_X8R {l : Launch} (htr : l.stackTraces = false) {k : Cx} {q msg ca : Nat} {fr : va_W} (hD : va_D (Ab k) ((q, .inr (8, [.null, .null, .null, .null, .null, .int 0, .int 0, .int 0])) :: fr)) : Met l yJ14_init_2 (ws_ yJ14_init_2 cJ14_init_2 3 none) ({ frames := 3, cells := 0, slots := 0, locals := 60 } : Room) (gPx [.ref q, .ref msg, .ref ca] k q ((q, .inr (8, [.null, .null, .null, .null, .null, .int 0, .int 0, .int 0])) :: fr)) (QcX k q (fun v w => ∃ u sen : Value, v = none ∧ w = (q, .inr (8, [.ref ca, u, sen, .ref msg, .null, .int 0, .int 0, .int 0])) :: fr)) 0 0 (Ab k) := by
  refine va_MetF (cc := cJ14_init_2) (maxL := 3) (ret := none) (by decide +kernel) rfl ?_
  intro p e s m args below meth c s₁ B hml hv
  obtain ⟨rfl, hP, hG, hM⟩ := hv
  have hx := B.exec
  have hb := B.bytes
  have hr := B.returns
  have hts := atoms_spec (ws := ws_ yJ14_init_2 cJ14_init_2 3 none) B.pre
  have hts : ∀ w ∈ lw_all, w.before _ s = true := fun w h => hts w (List.mem_cons_of_mem _ h)
  have hown : s.vm.findClass RJ14 = some m.cls := findClass_of_methodNamed B.named
  have hlocks := B.notSynchronized
  have hl := lv_entry ([.ref q, .ref msg, .ref ca]) (n := 3) (Nat.le_of_ble_eq_true rfl)
  rw [lg_entry_eq]
  generalize (lg_sl ([.ref q, .ref msg, .ref ca]) ++ List.replicate (3 - (lg_sl ([.ref q, .ref msg, .ref ca])).length) Slot.unset).toArray = ls at hl ⊢
  have hl : lv_has ls 3 [(0, .ref q), (1, .ref msg), (2, .ref ca)] := hl
  have hS : va_S (Ab k) s.heap s.heap [] := va_S.rf
  have hin : meth.name = "<init>" := (name_of_methodNamed B.named B.method).1
  obtain ⟨uu, hZu⟩ := zq_ref hG.us.1
  obtain ⟨us, hZs⟩ := zq_ref hG.ss.1
  refine lv_aload_n hx hb dJ14_init_2_0 rfl (lv_at hl 0 rfl) ?_
  refine W.objInit hx hb hown (hts _ q481) (hts _ q104) (hts _ q105) rfl (by rw [hml]; exact hl.1) rfl dJ14_init_2_1 (Nat.le_of_ble_eq_true rfl) (Nat.le_of_ble_eq_true rfl) ?_
  refine W.eq (g2 := F0 m 4 ls []) rfl ?_
  refine lv_aload_n hx hb dJ14_init_2_4 rfl (lv_at hl 0 rfl) ?_
  refine lv_aload_n hx hb dJ14_init_2_5 rfl (lv_at hl 0 rfl) ?_
  refine va_put (ci := 8) (v := .ref q) (ty := (tyX8 0)) (C := RX8) (T := TX8) (N := 8) hx hb hts in_X8 tyX8 tyX8_ok nmX8 hown hG.K hP hD hS 0 rfl rfl 0 (by decide) (hts _ q512) (fun _ h9 => h9) rfl (by decide +kernel) rfl rfl (Nat.le_of_ble_eq_true rfl) dJ14_init_2_6 (fun H locs hP hD hS => ?_)
  have hP : va_P (kD k) gCl ((q, .inr (8, [.ref q, .null, .null, .null, .null, .int 0, .int 0, .int 0])) :: fr) H := hP
  have hD : va_D (Ab k) ((q, .inr (8, [.ref q, .null, .null, .null, .null, .int 0, .int 0, .int 0])) :: fr) := hD
  refine lv_aload_n hx hb dJ14_init_2_9 rfl (lv_at hl 0 rfl) ?_
  refine va_gets hx hb hZu hS hown (hts _ q482) (fun _ h9 => h9) dJ14_init_2_10 ?_
  refine va_put (ci := 8) (v := uu.v) (ty := (tyX8 1)) (C := RX8) (T := TX8) (N := 8) hx hb hts in_X8 tyX8 tyX8_ok nmX8 hown hG.K hP hD hS 0 rfl rfl 1 (by decide) (hts _ q513) (fun _ h9 => h9) rfl (by decide +kernel) (nar_ref _ uu) (fits_refV_array _ uu) (Nat.le_of_ble_eq_true rfl) dJ14_init_2_13 (fun H locs hP hD hS => ?_)
  have hP : va_P (kD k) gCl ((q, .inr (8, [.ref q, uu.v, .null, .null, .null, .int 0, .int 0, .int 0])) :: fr) H := hP
  have hD : va_D (Ab k) ((q, .inr (8, [.ref q, uu.v, .null, .null, .null, .int 0, .int 0, .int 0])) :: fr) := hD
  refine lv_aload_n hx hb dJ14_init_2_16 rfl (lv_at hl 0 rfl) ?_
  refine va_gets hx hb hZs hS hown (hts _ q484) (fun _ h9 => h9) dJ14_init_2_17 ?_
  refine va_put (ci := 8) (v := us.v) (ty := (tyX8 2)) (C := RX8) (T := TX8) (N := 8) hx hb hts in_X8 tyX8 tyX8_ok nmX8 hown hG.K hP hD hS 0 rfl rfl 2 (by decide) (hts _ q514) (fun _ h9 => h9) rfl (by decide +kernel) (nar_ref _ us) (fits_refV_object _ us) (Nat.le_of_ble_eq_true rfl) dJ14_init_2_20 (fun H locs hP hD hS => ?_)
  have hP : va_P (kD k) gCl ((q, .inr (8, [.ref q, uu.v, us.v, .null, .null, .int 0, .int 0, .int 0])) :: fr) H := hP
  have hD : va_D (Ab k) ((q, .inr (8, [.ref q, uu.v, us.v, .null, .null, .int 0, .int 0, .int 0])) :: fr) := hD
  refine lv_aload_n hx hb dJ14_init_2_23 rfl (lv_at hl 0 rfl) ?_
  refine W.mon hM (fun hM9 => ?_)
  refine d_fillW (C := RX8) (T := TX8) (N := 8) (ci := 8) (u0 := uu) hx hb htr (by rw [hml]; exact hl.1) hts hown hG hP hD hS hM9 rfl (by decide) rfl rfl rfl rfl (hts _ q1234) (hts _ q490) (hts _ q1232) hZu (Nat.le_of_ble_eq_true rfl) (Nat.le_of_ble_eq_true rfl) dJ14_init_2_24 ?_
  refine lv_pop hx hb dJ14_init_2_27 rfl ?_
  refine lv_aload_n hx hb dJ14_init_2_28 rfl (lv_at hl 0 rfl) ?_
  refine lv_aload_n hx hb dJ14_init_2_29 rfl (lv_at hl 1 rfl) ?_
  refine va_put (ci := 8) (v := .ref msg) (ty := (tyX8 3)) (C := RX8) (T := TX8) (N := 8) hx hb hts in_X8 tyX8 tyX8_ok nmX8 hown hG.K hP hD hS 0 rfl rfl 3 (by decide) (hts _ q511) (fun _ h9 => h9) rfl (by decide +kernel) rfl rfl (Nat.le_of_ble_eq_true rfl) dJ14_init_2_30 (fun H locs hP hD hS => ?_)
  have hP : va_P (kD k) gCl ((q, .inr (8, [.ref q, uu.v, us.v, .ref msg, .null, .int 0, .int 0, .int 0])) :: fr) H := hP
  have hD : va_D (Ab k) ((q, .inr (8, [.ref q, uu.v, us.v, .ref msg, .null, .int 0, .int 0, .int 0])) :: fr) := hD
  refine lv_aload_n hx hb dJ14_init_2_33 rfl (lv_at hl 0 rfl) ?_
  refine lv_aload_n hx hb dJ14_init_2_34 rfl (lv_at hl 2 rfl) ?_
  refine va_put (ci := 8) (v := .ref ca) (ty := (tyX8 0)) (C := RX8) (T := TX8) (N := 8) hx hb hts in_X8 tyX8 tyX8_ok nmX8 hown hG.K hP hD hS 0 rfl rfl 0 (by decide) (hts _ q512) (fun _ h9 => h9) rfl (by decide +kernel) rfl rfl (Nat.le_of_ble_eq_true rfl) dJ14_init_2_35 (fun H locs hP hD hS => ?_)
  have hP : va_P (kD k) gCl ((q, .inr (8, [.ref ca, uu.v, us.v, .ref msg, .null, .int 0, .int 0, .int 0])) :: fr) H := hP
  have hD : va_D (Ab k) ((q, .inr (8, [.ref ca, uu.v, us.v, .ref msg, .null, .int 0, .int 0, .int 0])) :: fr) := hD
  refine W.mon hM (fun hM9 => ?_)
  exact W.vret hx hb hr (fun t ht hW => d_retX (w := (q, .inr (8, [.ref ca, uu.v, us.v, .ref msg, .null, .int 0, .int 0, .int 0])) :: fr) ⟨uu.v, us.v, rfl, rfl⟩ hM9 hP hD hS ht) hS.2.2 dJ14_init_2_38
set_option maxHeartbeats 4000000 in
set_option maxRecDepth 100000 in
theorem met_J15_init_X8R {l : Launch} (htr : l.stackTraces = false) {k : Cx} {q msg ca : Nat} {fr : va_W} (hD : va_D (Ab k) ((q, .inr (8, [.null, .null, .null, .null, .null, .int 0, .int 0, .int 0])) :: fr)) : Met l yJ15_init (ws_ yJ15_init cJ15_init 3 none) ({ frames := 4, cells := 0, slots := 0, locals := 82 } : Room) (gPx [.ref q, .ref msg, .ref ca] k q ((q, .inr (8, [.null, .null, .null, .null, .null, .int 0, .int 0, .int 0])) :: fr)) (QcX k q (fun v w => ∃ u sen : Value, v = none ∧ w = (q, .inr (8, [.ref ca, u, sen, .ref msg, .null, .int 0, .int 0, .int 0])) :: fr)) 0 0 (Ab k) := by
  refine va_MetF (cc := cJ15_init) (maxL := 3) (ret := none) (by decide +kernel) rfl ?_
  intro p e s m args below meth c s₁ B hml hv
  obtain ⟨rfl, hP, hG, hM⟩ := hv
  have hx := B.exec
  have hb := B.bytes
  have hr := B.returns
  have hts := atoms_spec (ws := ws_ yJ15_init cJ15_init 3 none) B.pre
  have hts : ∀ w ∈ lw_all, w.before _ s = true := fun w h => hts w (List.mem_cons_of_mem _ h)
  have hown : s.vm.findClass RJ15 = some m.cls := findClass_of_methodNamed B.named
  have hlocks := B.notSynchronized
  have hl := lv_entry ([.ref q, .ref msg, .ref ca]) (n := 3) (Nat.le_of_ble_eq_true rfl)
  rw [lg_entry_eq]
  generalize (lg_sl ([.ref q, .ref msg, .ref ca]) ++ List.replicate (3 - (lg_sl ([.ref q, .ref msg, .ref ca])).length) Slot.unset).toArray = ls at hl ⊢
  have hl : lv_has ls 3 [(0, .ref q), (1, .ref msg), (2, .ref ca)] := hl
  have hS : va_S (Ab k) s.heap s.heap [] := va_S.rf
  have hin : meth.name = "<init>" := (name_of_methodNamed B.named B.method).1
  refine lv_aload_n hx hb dJ15_init_0 rfl (lv_at hl 0 rfl) ?_
  refine lv_aload_n hx hb dJ15_init_1 rfl (lv_at hl 1 rfl) ?_
  refine lv_aload_n hx hb dJ15_init_2 rfl (lv_at hl 2 rfl) ?_
  refine W.mon hM (fun hM9 => ?_)
  refine d_callX (va_runI (As := [.ref msg, .ref ca]) (rest := []) ⟨hx, hb, hml, hown, hts⟩ (met_J14_init_2_X8R htr hD) (cwI 2 hts (lw_meth q506) rfl rfl rfl (hts _ q86) (hts _ q504) (hts _ q505) rfl hd_J14_init_2 ⟨Nat.le_of_ble_eq_true rfl, Nat.le_of_ble_eq_true rfl⟩) (x_preS hG hS hP hM9) rfl rfl hl.1 rfl (lv_room (Nat.le_of_ble_eq_true rfl)) dJ15_init_3 ⟨Nat.le_of_ble_eq_true rfl, Nat.le_of_ble_eq_true rfl⟩) hS (fun v w H locs hp hM9 hP hD hS => ?_)
  obtain ⟨u, sen, rfl, rfl⟩ := hp
  have hP : va_P (kD k) gCl ((q, .inr (8, [.ref ca, u, sen, .ref msg, .null, .int 0, .int 0, .int 0])) :: fr) H := hP
  have hD : va_D (Ab k) ((q, .inr (8, [.ref ca, u, sen, .ref msg, .null, .int 0, .int 0, .int 0])) :: fr) := hD
  refine W.mon hM (fun hM9 => ?_)
  exact W.vret hx hb hr (fun t ht hW => d_retX (w := (q, .inr (8, [.ref ca, u, sen, .ref msg, .null, .int 0, .int 0, .int 0])) :: fr) ⟨u, sen, rfl, rfl⟩ hM9 hP hD hS ht) hS.2.2 dJ15_init_6
set_option maxHeartbeats 4000000 in
set_option maxRecDepth 100000 in
theorem met_X8_initR {l : Launch} (htr : l.stackTraces = false) {k : Cx} {q ca : Nat} {bg bk : Int32} {fr : va_W} (hD : va_D (Ab k) ((q, .inr (8, [.null, .null, .null, .null, .null, .int 0, .int 0, .int 0])) :: fr)) : Met l yX8_init (ws_ yX8_init cX8_init 4 none) ({ frames := 5, cells := 0, slots := 0, locals := 104 } : Room) (gPx [.ref q, .int bg, .int bk, .ref ca] k q ((q, .inr (8, [.null, .null, .null, .null, .null, .int 0, .int 0, .int 0])) :: fr)) (QcX k q (fun v w => ∃ u sen : Value, v = none ∧ w = (q, .inr (8, [.ref ca, u, sen, .ref (kS k 3), .null, .int 0, .int bg, .int bk])) :: fr)) 0 0 (Ab k) := by
  refine Met.ofW (cc := cX8_init) (maxL := 4) (ret := none) (by decide) rfl ?_
  intro p e s m args below meth c s₁ B hml hv
  obtain ⟨rfl, hP, hG, hM⟩ := hv
  have hx := B.exec
  have hb := B.bytes
  have hr := B.returns
  have hts := atoms_spec (ws := ws_ yX8_init cX8_init 4 none) B.pre
  have hts : ∀ w ∈ lw_all, w.before _ s = true := fun w h => hts w (List.mem_cons_of_mem _ h)
  have hown : s.vm.findClass RX8 = some m.cls := findClass_of_methodNamed B.named
  have hlocks := B.notSynchronized
  have hl := lv_entry ([.ref q, .int bg, .int bk, .ref ca]) (n := 4) (Nat.le_of_ble_eq_true rfl)
  rw [lg_entry_eq]
  generalize (lg_sl ([.ref q, .int bg, .int bk, .ref ca]) ++ List.replicate (4 - (lg_sl ([.ref q, .int bg, .int bk, .ref ca])).length) Slot.unset).toArray = ls at hl ⊢
  have hl : lv_has ls 4 [(0, .ref q), (1, .int bg), (2, .int bk), (3, .ref ca)] := hl
  have hS : va_S (Ab k) s.heap s.heap [] := va_S.rf
  have hin : meth.name = "<init>" := (name_of_methodNamed B.named B.method).1
  refine lv_aload_n hx hb dX8_init_0 rfl (lv_at hl 0 rfl) ?_
  refine va_ldcS hx hb hown hG.r3 dX8_init_1 ?_
  refine lv_aload_n hx hb dX8_init_3 rfl (lv_at hl 3 rfl) ?_
  refine W.mon hM (fun hM9 => ?_)
  refine d_callX (va_runI (As := [.ref (kS k 3), .ref ca]) (rest := []) ⟨hx, hb, hml, hown, hts⟩ (met_J15_init_X8R htr hD) (cwI 2 hts (lw_meth q503) rfl rfl rfl (hts _ q87) (hts _ q1242) (hts _ q502) rfl hd_J15_init ⟨Nat.le_of_ble_eq_true rfl, Nat.le_of_ble_eq_true rfl⟩) (x_preS hG hS hP hM9) rfl rfl hl.1 rfl (lv_room (Nat.le_of_ble_eq_true rfl)) dX8_init_4 ⟨Nat.le_of_ble_eq_true rfl, Nat.le_of_ble_eq_true rfl⟩) hS (fun v w H locs hp hM9 hP hD hS => ?_)
  obtain ⟨u, sen, rfl, rfl⟩ := hp
  have hP : va_P (kD k) gCl ((q, .inr (8, [.ref ca, u, sen, .ref (kS k 3), .null, .int 0, .int 0, .int 0])) :: fr) H := hP
  have hD : va_D (Ab k) ((q, .inr (8, [.ref ca, u, sen, .ref (kS k 3), .null, .int 0, .int 0, .int 0])) :: fr) := hD
  refine lv_aload_n hx hb dX8_init_7 rfl (lv_at hl 0 rfl) ?_
  refine lv_iload_n hx hb dX8_init_8 rfl (lv_at hl 1 rfl) ?_
  refine va_putF (ci := 8) (v := .int bg) (ty := .int) (C := RX8) (T := TX8) (N := 8) hx hb hts in_X8 tyX8 tyX8_ok nmX8 hown hG.K hP hD hS 0 rfl rfl 6 (by decide) (hts _ q1243) (fun _ h9 => h9) rfl hin rfl (by decide +kernel) rfl rfl (Nat.le_of_ble_eq_true rfl) dX8_init_9 (fun H locs hP hD hS => ?_)
  have hP : va_P (kD k) gCl ((q, .inr (8, [.ref ca, u, sen, .ref (kS k 3), .null, .int 0, .int bg, .int 0])) :: fr) H := hP
  have hD : va_D (Ab k) ((q, .inr (8, [.ref ca, u, sen, .ref (kS k 3), .null, .int 0, .int bg, .int 0])) :: fr) := hD
  refine lv_aload_n hx hb dX8_init_12 rfl (lv_at hl 0 rfl) ?_
  refine lv_iload_n hx hb dX8_init_13 rfl (lv_at hl 2 rfl) ?_
  refine va_putF (ci := 8) (v := .int bk) (ty := .int) (C := RX8) (T := TX8) (N := 8) hx hb hts in_X8 tyX8 tyX8_ok nmX8 hown hG.K hP hD hS 0 rfl rfl 7 (by decide) (hts _ q1244) (fun _ h9 => h9) rfl hin rfl (by decide +kernel) rfl rfl (Nat.le_of_ble_eq_true rfl) dX8_init_14 (fun H locs hP hD hS => ?_)
  have hP : va_P (kD k) gCl ((q, .inr (8, [.ref ca, u, sen, .ref (kS k 3), .null, .int 0, .int bg, .int bk])) :: fr) H := hP
  have hD : va_D (Ab k) ((q, .inr (8, [.ref ca, u, sen, .ref (kS k 3), .null, .int 0, .int bg, .int bk])) :: fr) := hD
  refine W.mon hM (fun hM9 => ?_)
  exact W.vret hx hb hr (fun t ht hW => d_retX (w := (q, .inr (8, [.ref ca, u, sen, .ref (kS k 3), .null, .int 0, .int bg, .int bk])) :: fr) ⟨u, sen, rfl, rfl⟩ hM9 hP hD hS ht) hS.2.2 dX8_init_17
theorem hd_J14_init_3 : yJ14_init_3.cls ≠ "java/lang/invoke/MethodHandle" ∧ yJ14_init_3.cls ≠ "java/lang/invoke/VarHandle" ∧ (parseMethodDescriptor yJ14_init_3.desc).map (fun d => d.parameters.length) = some 1 := by decide +kernel
set_option maxHeartbeats 4000000 in
set_option maxRecDepth 100000 in
theorem met_J14_init_3_X6N {l : Launch} (htr : l.stackTraces = false) {k : Cx} {q msg : Nat} {fr : va_W} (hD : va_D (Ab k) ((q, .inr (6, [.null, .null, .null, .null, .null, .int 0])) :: fr)) : Met l yJ14_init_3 (ws_ yJ14_init_3 cJ14_init_3 2 none) ({ frames := 3, cells := 0, slots := 0, locals := 60 } : Room) (gPx [.ref q, .ref msg] k q ((q, .inr (6, [.null, .null, .null, .null, .null, .int 0])) :: fr)) (QcX k q (fun v w => ∃ u sen : Value, v = none ∧ w = (q, .inr (6, [.ref q, u, sen, .ref msg, .null, .int 0])) :: fr)) 0 0 (Ab k) := by
  refine va_MetF (cc := cJ14_init_3) (maxL := 2) (ret := none) (by decide +kernel) rfl ?_
  intro p e s m args below meth c s₁ B hml hv
  obtain ⟨rfl, hP, hG, hM⟩ := hv
  have hx := B.exec
  have hb := B.bytes
  have hr := B.returns
  have hts := atoms_spec (ws := ws_ yJ14_init_3 cJ14_init_3 2 none) B.pre
  have hts : ∀ w ∈ lw_all, w.before _ s = true := fun w h => hts w (List.mem_cons_of_mem _ h)
  have hown : s.vm.findClass RJ14 = some m.cls := findClass_of_methodNamed B.named
  have hlocks := B.notSynchronized
  have hl := lv_entry ([.ref q, .ref msg]) (n := 2) (Nat.le_of_ble_eq_true rfl)
  rw [lg_entry_eq]
  generalize (lg_sl ([.ref q, .ref msg]) ++ List.replicate (2 - (lg_sl ([.ref q, .ref msg])).length) Slot.unset).toArray = ls at hl ⊢
  have hl : lv_has ls 2 [(0, .ref q), (1, .ref msg)] := hl
  have hS : va_S (Ab k) s.heap s.heap [] := va_S.rf
  have hin : meth.name = "<init>" := (name_of_methodNamed B.named B.method).1
  obtain ⟨uu, hZu⟩ := zq_ref hG.us.1
  obtain ⟨us, hZs⟩ := zq_ref hG.ss.1
  refine lv_aload_n hx hb dJ14_init_3_0 rfl (lv_at hl 0 rfl) ?_
  refine W.objInit hx hb hown (hts _ q481) (hts _ q104) (hts _ q105) rfl (by rw [hml]; exact hl.1) rfl dJ14_init_3_1 (Nat.le_of_ble_eq_true rfl) (Nat.le_of_ble_eq_true rfl) ?_
  refine W.eq (g2 := F0 m 4 ls []) rfl ?_
  refine lv_aload_n hx hb dJ14_init_3_4 rfl (lv_at hl 0 rfl) ?_
  refine lv_aload_n hx hb dJ14_init_3_5 rfl (lv_at hl 0 rfl) ?_
  refine va_put (ci := 6) (v := .ref q) (ty := (tyX6 0)) (C := RX6) (T := TX6) (N := 6) hx hb hts in_X6 tyX6 tyX6_ok nmX6 hown hG.K hP hD hS 0 rfl rfl 0 (by decide) (hts _ q512) (fun _ h9 => h9) rfl (by decide +kernel) rfl rfl (Nat.le_of_ble_eq_true rfl) dJ14_init_3_6 (fun H locs hP hD hS => ?_)
  have hP : va_P (kD k) gCl ((q, .inr (6, [.ref q, .null, .null, .null, .null, .int 0])) :: fr) H := hP
  have hD : va_D (Ab k) ((q, .inr (6, [.ref q, .null, .null, .null, .null, .int 0])) :: fr) := hD
  refine lv_aload_n hx hb dJ14_init_3_9 rfl (lv_at hl 0 rfl) ?_
  refine va_gets hx hb hZu hS hown (hts _ q482) (fun _ h9 => h9) dJ14_init_3_10 ?_
  refine va_put (ci := 6) (v := uu.v) (ty := (tyX6 1)) (C := RX6) (T := TX6) (N := 6) hx hb hts in_X6 tyX6 tyX6_ok nmX6 hown hG.K hP hD hS 0 rfl rfl 1 (by decide) (hts _ q513) (fun _ h9 => h9) rfl (by decide +kernel) (nar_ref _ uu) (fits_refV_array _ uu) (Nat.le_of_ble_eq_true rfl) dJ14_init_3_13 (fun H locs hP hD hS => ?_)
  have hP : va_P (kD k) gCl ((q, .inr (6, [.ref q, uu.v, .null, .null, .null, .int 0])) :: fr) H := hP
  have hD : va_D (Ab k) ((q, .inr (6, [.ref q, uu.v, .null, .null, .null, .int 0])) :: fr) := hD
  refine lv_aload_n hx hb dJ14_init_3_16 rfl (lv_at hl 0 rfl) ?_
  refine va_gets hx hb hZs hS hown (hts _ q484) (fun _ h9 => h9) dJ14_init_3_17 ?_
  refine va_put (ci := 6) (v := us.v) (ty := (tyX6 2)) (C := RX6) (T := TX6) (N := 6) hx hb hts in_X6 tyX6 tyX6_ok nmX6 hown hG.K hP hD hS 0 rfl rfl 2 (by decide) (hts _ q514) (fun _ h9 => h9) rfl (by decide +kernel) (nar_ref _ us) (fits_refV_object _ us) (Nat.le_of_ble_eq_true rfl) dJ14_init_3_20 (fun H locs hP hD hS => ?_)
  have hP : va_P (kD k) gCl ((q, .inr (6, [.ref q, uu.v, us.v, .null, .null, .int 0])) :: fr) H := hP
  have hD : va_D (Ab k) ((q, .inr (6, [.ref q, uu.v, us.v, .null, .null, .int 0])) :: fr) := hD
  refine lv_aload_n hx hb dJ14_init_3_23 rfl (lv_at hl 0 rfl) ?_
  refine W.mon hM (fun hM9 => ?_)
  refine d_fillW (C := RX6) (T := TX6) (N := 6) (ci := 6) (u0 := uu) hx hb htr (by rw [hml]; exact hl.1) hts hown hG hP hD hS hM9 rfl (by decide) rfl rfl rfl rfl (hts _ q607) (hts _ q489) (hts _ q605) hZu (Nat.le_of_ble_eq_true rfl) (Nat.le_of_ble_eq_true rfl) dJ14_init_3_24 ?_
  refine lv_pop hx hb dJ14_init_3_27 rfl ?_
  refine lv_aload_n hx hb dJ14_init_3_28 rfl (lv_at hl 0 rfl) ?_
  refine lv_aload_n hx hb dJ14_init_3_29 rfl (lv_at hl 1 rfl) ?_
  refine va_put (ci := 6) (v := .ref msg) (ty := (tyX6 3)) (C := RX6) (T := TX6) (N := 6) hx hb hts in_X6 tyX6 tyX6_ok nmX6 hown hG.K hP hD hS 0 rfl rfl 3 (by decide) (hts _ q511) (fun _ h9 => h9) rfl (by decide +kernel) rfl rfl (Nat.le_of_ble_eq_true rfl) dJ14_init_3_30 (fun H locs hP hD hS => ?_)
  have hP : va_P (kD k) gCl ((q, .inr (6, [.ref q, uu.v, us.v, .ref msg, .null, .int 0])) :: fr) H := hP
  have hD : va_D (Ab k) ((q, .inr (6, [.ref q, uu.v, us.v, .ref msg, .null, .int 0])) :: fr) := hD
  refine W.mon hM (fun hM9 => ?_)
  exact W.vret hx hb hr (fun t ht hW => d_retX (w := (q, .inr (6, [.ref q, uu.v, us.v, .ref msg, .null, .int 0])) :: fr) ⟨uu.v, us.v, rfl, rfl⟩ hM9 hP hD hS ht) hS.2.2 dJ14_init_3_33
theorem hd_J15_init_2 : yJ15_init_2.cls ≠ "java/lang/invoke/MethodHandle" ∧ yJ15_init_2.cls ≠ "java/lang/invoke/VarHandle" ∧ (parseMethodDescriptor yJ15_init_2.desc).map (fun d => d.parameters.length) = some 1 := by decide +kernel
set_option maxHeartbeats 4000000 in
set_option maxRecDepth 100000 in
theorem met_J15_init_2_X6N {l : Launch} (htr : l.stackTraces = false) {k : Cx} {q msg : Nat} {fr : va_W} (hD : va_D (Ab k) ((q, .inr (6, [.null, .null, .null, .null, .null, .int 0])) :: fr)) : Met l yJ15_init_2 (ws_ yJ15_init_2 cJ15_init_2 2 none) ({ frames := 4, cells := 0, slots := 0, locals := 81 } : Room) (gPx [.ref q, .ref msg] k q ((q, .inr (6, [.null, .null, .null, .null, .null, .int 0])) :: fr)) (QcX k q (fun v w => ∃ u sen : Value, v = none ∧ w = (q, .inr (6, [.ref q, u, sen, .ref msg, .null, .int 0])) :: fr)) 0 0 (Ab k) := by
  refine va_MetF (cc := cJ15_init_2) (maxL := 2) (ret := none) (by decide +kernel) rfl ?_
  intro p e s m args below meth c s₁ B hml hv
  obtain ⟨rfl, hP, hG, hM⟩ := hv
  have hx := B.exec
  have hb := B.bytes
  have hr := B.returns
  have hts := atoms_spec (ws := ws_ yJ15_init_2 cJ15_init_2 2 none) B.pre
  have hts : ∀ w ∈ lw_all, w.before _ s = true := fun w h => hts w (List.mem_cons_of_mem _ h)
  have hown : s.vm.findClass RJ15 = some m.cls := findClass_of_methodNamed B.named
  have hlocks := B.notSynchronized
  have hl := lv_entry ([.ref q, .ref msg]) (n := 2) (Nat.le_of_ble_eq_true rfl)
  rw [lg_entry_eq]
  generalize (lg_sl ([.ref q, .ref msg]) ++ List.replicate (2 - (lg_sl ([.ref q, .ref msg])).length) Slot.unset).toArray = ls at hl ⊢
  have hl : lv_has ls 2 [(0, .ref q), (1, .ref msg)] := hl
  have hS : va_S (Ab k) s.heap s.heap [] := va_S.rf
  have hin : meth.name = "<init>" := (name_of_methodNamed B.named B.method).1
  refine lv_aload_n hx hb dJ15_init_2_0 rfl (lv_at hl 0 rfl) ?_
  refine lv_aload_n hx hb dJ15_init_2_1 rfl (lv_at hl 1 rfl) ?_
  refine W.mon hM (fun hM9 => ?_)
  refine d_callX (va_runI (As := [.ref msg]) (rest := []) ⟨hx, hb, hml, hown, hts⟩ (met_J14_init_3_X6N htr hD) (cwI 1 hts (lw_meth q620) rfl rfl rfl (hts _ q86) (hts _ q618) (hts _ q619) rfl hd_J14_init_3 ⟨Nat.le_of_ble_eq_true rfl, Nat.le_of_ble_eq_true rfl⟩) (x_preS hG hS hP hM9) rfl rfl hl.1 rfl (lv_room (Nat.le_of_ble_eq_true rfl)) dJ15_init_2_2 ⟨Nat.le_of_ble_eq_true rfl, Nat.le_of_ble_eq_true rfl⟩) hS (fun v w H locs hp hM9 hP hD hS => ?_)
  obtain ⟨u, sen, rfl, rfl⟩ := hp
  have hP : va_P (kD k) gCl ((q, .inr (6, [.ref q, u, sen, .ref msg, .null, .int 0])) :: fr) H := hP
  have hD : va_D (Ab k) ((q, .inr (6, [.ref q, u, sen, .ref msg, .null, .int 0])) :: fr) := hD
  refine W.mon hM (fun hM9 => ?_)
  exact W.vret hx hb hr (fun t ht hW => d_retX (w := (q, .inr (6, [.ref q, u, sen, .ref msg, .null, .int 0])) :: fr) ⟨u, sen, rfl, rfl⟩ hM9 hP hD hS ht) hS.2.2 dJ15_init_2_5
theorem hd_X6_init : yX6_init.cls ≠ "java/lang/invoke/MethodHandle" ∧ yX6_init.cls ≠ "java/lang/invoke/VarHandle" ∧ (parseMethodDescriptor yX6_init.desc).map (fun d => d.parameters.length) = some 0 := by decide +kernel
set_option maxHeartbeats 4000000 in
set_option maxRecDepth 100000 in
theorem met_X6_init {l : Launch} (htr : l.stackTraces = false) {k : Cx} {q : Nat} {fr : va_W} (hD : va_D (Ab k) ((q, .inr (6, [.null, .null, .null, .null, .null, .int 0])) :: fr)) : Met l yX6_init (ws_ yX6_init cX6_init 1 none) ({ frames := 5, cells := 0, slots := 0, locals := 102 } : Room) (gPx [.ref q] k q ((q, .inr (6, [.null, .null, .null, .null, .null, .int 0])) :: fr)) (QcX k q (fun v w => ∃ u sen : Value, v = none ∧ w = (q, .inr (6, [.ref q, u, sen, .ref (kS k 1), .null, .int 0])) :: fr)) 0 0 (Ab k) := by
  refine Met.ofW (cc := cX6_init) (maxL := 1) (ret := none) (by decide) rfl ?_
  intro p e s m args below meth c s₁ B hml hv
  obtain ⟨rfl, hP, hG, hM⟩ := hv
  have hx := B.exec
  have hb := B.bytes
  have hr := B.returns
  have hts := atoms_spec (ws := ws_ yX6_init cX6_init 1 none) B.pre
  have hts : ∀ w ∈ lw_all, w.before _ s = true := fun w h => hts w (List.mem_cons_of_mem _ h)
  have hown : s.vm.findClass RX6 = some m.cls := findClass_of_methodNamed B.named
  have hlocks := B.notSynchronized
  have hl := lv_entry ([.ref q]) (n := 1) (Nat.le_of_ble_eq_true rfl)
  rw [lg_entry_eq]
  generalize (lg_sl ([.ref q]) ++ List.replicate (1 - (lg_sl ([.ref q])).length) Slot.unset).toArray = ls at hl ⊢
  have hl : lv_has ls 1 [(0, .ref q)] := hl
  have hS : va_S (Ab k) s.heap s.heap [] := va_S.rf
  have hin : meth.name = "<init>" := (name_of_methodNamed B.named B.method).1
  refine lv_aload_n hx hb dX6_init_0 rfl (lv_at hl 0 rfl) ?_
  refine va_ldcS hx hb hown hG.r1 dX6_init_1 ?_
  refine W.mon hM (fun hM9 => ?_)
  refine d_callX (va_runI (As := [.ref (kS k 1)]) (rest := []) ⟨hx, hb, hml, hown, hts⟩ (met_J15_init_2_X6N htr hD) (cwI 1 hts (lw_meth q617) rfl rfl rfl (hts _ q87) (hts _ q615) (hts _ q616) rfl hd_J15_init_2 ⟨Nat.le_of_ble_eq_true rfl, Nat.le_of_ble_eq_true rfl⟩) (x_preS hG hS hP hM9) rfl rfl hl.1 rfl (lv_room (Nat.le_of_ble_eq_true rfl)) dX6_init_3 ⟨Nat.le_of_ble_eq_true rfl, Nat.le_of_ble_eq_true rfl⟩) hS (fun v w H locs hp hM9 hP hD hS => ?_)
  obtain ⟨u, sen, rfl, rfl⟩ := hp
  have hP : va_P (kD k) gCl ((q, .inr (6, [.ref q, u, sen, .ref (kS k 1), .null, .int 0])) :: fr) H := hP
  have hD : va_D (Ab k) ((q, .inr (6, [.ref q, u, sen, .ref (kS k 1), .null, .int 0])) :: fr) := hD
  refine W.mon hM (fun hM9 => ?_)
  exact W.vret hx hb hr (fun t ht hW => d_retX (w := (q, .inr (6, [.ref q, u, sen, .ref (kS k 1), .null, .int 0])) :: fr) ⟨u, sen, rfl, rfl⟩ hM9 hP hD hS ht) hS.2.2 dX6_init_6
