/-! LectureTurnsModel: walks, 3 (printed by wip/gen/gen_model.py) -/
theorem hd_ones : yX3_ones.cls ≠ "java/lang/invoke/MethodHandle" ∧ yX3_ones.cls ≠ "java/lang/invoke/VarHandle" ∧ (parseMethodDescriptor yX3_ones.desc).map (fun d => d.parameters.length) = some 1 := by decide +kernel
set_option maxHeartbeats 4000000 in
set_option maxRecDepth 100000 in
theorem lp_ones_1 {p : Program} {l : Launch} {e : Env} {s : State} {m : MethodId} {args : Array Value} {below : List Frame} {meth : Method} {c : Code} {Q : State → Prop} (hx : p.tables.exec = Jvm.exec) (hb : c.code = cX3_ones) (hml : c.maxLocals = 3) (hown : s.vm.findClass RX3 = some m.cls) (hts : ∀ w ∈ lw_all, w.before args s = true) {H : Heap} {locs : List Loc}  (nf : Nat) : ∀ (n : Nat) (y2 : Int32) (y1 : Int32) (z : Int32), m_ones_L1 nf  n y2 y1 = some z → ∀ ls : Array Slot, lv_has ls 3 [(2, .int y2), (1, .int y1)] → (∀ ls : Array Slot, lv_has ls 3 [(1, .int z)] → W p l e ({ frames := 1, cells := 0, slots := 0, locals := 12 } : Room) s m args below meth c H locs 0 0 Q (F0 m 20 ls [])) → W p l e ({ frames := 1, cells := 0, slots := 0, locals := 12 } : Room) s m args below meth c H locs 0 0 Q (F0 m 4 ls []) := by
  intro n
  induction n with
  | zero => intro y2 y1 z h ls hl K; exact absurd h (by simp [m_ones_L1])
  | succ n ih =>
    intro y2 y1 z h ls hl K
    unfold m_ones_L1 at h
    refine lv_iload_n hx hb dX3_ones_4 rfl (lv_at hl 0 rfl) ?_
    refine lv_if_eq (tgt := 20) hx hb dX3_ones_5 (by decide) (fun c1 => ?_) (fun c1 => ?_)
    · have h := pi_t c1 h
      cases h
      exact K ls (lv_sub hl [1] rfl)
    · have h := pi_f c1 h
      refine lv_iinc (v := (y1 + (1 : Int32))) (lv' := [(1, .int (y1 + (1 : Int32))), (2, .int y2)]) hx hb dX3_ones_8 hl (k := 1) rfl (by rfl) (by decide) rfl (fun ls hl => ?_)
      refine lv_iload_n hx hb dX3_ones_11 rfl (lv_at hl 1 rfl) ?_
      refine lv_iload_n hx hb dX3_ones_12 rfl (lv_at hl 1 rfl) ?_
      refine lv_iconst (v := 1) hx hb dX3_ones_13 (by decide) ?_
      refine lv_isub hx hb dX3_ones_14 ?_
      refine lv_iand hx hb dX3_ones_15 ?_
      refine lv_istore_n (lv' := [(2, .int (y2 &&& (y2 - (1 : Int32)))), (1, .int (y1 + (1 : Int32)))]) hx hb dX3_ones_16 rfl hl (by decide) rfl (fun ls hl => ?_)
      refine lv_goto (tgt := 4) hx hb dX3_ones_17 (by decide) ?_
      exact ih _ _ _ h ls (lv_sub hl [0, 1] rfl) K
set_option maxHeartbeats 4000000 in
set_option maxRecDepth 100000 in
theorem met_ones {l : Launch}  {nf : Nat} {x0 : Int32} {r : Int32}  (h : m_ones nf  x0 = some r) : Met l yX3_ones (ws_ yX3_ones cX3_ones 3 (some .int)) ({ frames := 1, cells := 0, slots := 0, locals := 12 } : Room) (va_Pc [.int x0] (fun _ => True)) (QcRead r) 0 0 (fun _ => False) := by
  refine Met.ofW (cc := cX3_ones) (maxL := 3) (ret := (some .int)) (by decide) rfl ?_
  intro p e s m args below meth c s₁ B hml hv
  obtain ⟨rfl, -⟩ := hv
  have hx := B.exec
  have hb := B.bytes
  have hr := B.returns
  have hts := atoms_spec (ws := ws_ yX3_ones cX3_ones 3 (some .int)) B.pre
  have hts : ∀ w ∈ lw_all, w.before _ s = true := fun w h => hts w (List.mem_cons_of_mem _ h)
  have hown : s.vm.findClass RX3 = some m.cls := findClass_of_methodNamed B.named
  have hlocks := B.notSynchronized
  have hl := lv_entry ([.int x0]) (n := 3) (Nat.le_of_ble_eq_true rfl)
  rw [lg_entry_eq]
  generalize (lg_sl ([.int x0]) ++ List.replicate (3 - (lg_sl ([.int x0])).length) Slot.unset).toArray = ls at hl ⊢
  have hl : lv_has ls 3 [(0, .int x0)] := hl
  unfold m_ones at h
  refine lv_iconst (v := 0) hx hb dX3_ones_0 (by decide) ?_
  refine lv_istore_n (lv' := [(1, .int (0 : Int32)), (0, .int x0)]) hx hb dX3_ones_1 rfl hl (by decide) rfl (fun ls hl => ?_)
  refine lv_iload_n hx hb dX3_ones_2 rfl (lv_at hl 1 rfl) ?_
  refine lv_istore_n (lv' := [(2, .int x0), (1, .int (0 : Int32)), (0, .int x0)]) hx hb dX3_ones_3 rfl hl (by decide) rfl (fun ls hl => ?_)
  obtain ⟨o1, e501, h⟩ := pb_some h
  refine lp_ones_1 hx hb hml hown hts _ _ _ _ _ e501 ls (lv_sub hl [0, 1] rfl) (fun ls hl => ?_)
  refine lv_iload_n hx hb dX3_ones_20 rfl (lv_at hl 0 rfl) ?_
  cases h
  exact W.iret hx hb hr (fun t ht hW => ⟨rfl, ht⟩) (fun q hq => absurd hq List.not_mem_nil) dX3_ones_21
theorem hd_ofTurns : yX3_ofTurns.cls = RX3 ∧ yX3_ofTurns.cls ≠ "java/lang/invoke/MethodHandle" ∧ yX3_ofTurns.cls ≠ "java/lang/invoke/VarHandle" ∧ (parseMethodDescriptor yX3_ofTurns.desc).map (fun d => d.parameters.length) = some 1 := by decide +kernel
set_option maxHeartbeats 4000000 in
set_option maxRecDepth 100000 in
theorem lp_ofTurns_1 {p : Program} {l : Launch} {e : Env} {s : State} {m : MethodId} {args : Array Value} {below : List Frame} {meth : Method} {c : Code} {D : va_G} {dA : ClassId} {a : Nat → Nat} {Q : State → Prop} (hx : p.tables.exec = Jvm.exec) (hb : c.code = cX3_ofTurns) (hml : c.maxLocals = 4) (hown : s.vm.findClass RX3 = some m.cls) (hts : ∀ w ∈ lw_all, w.before args s = true) {H : Heap} {locs : List Loc} {sA : Nat → Int32} {past : Nat → Int32} {held : Nat → Int32} {text : Nat → Int32} {parted : Nat → Int32} {asShown : Nat → Int32} {told : Nat → Int32} {pasts : Int32} {runs : Int32} {typed : Int32} {spot : Int32} {from_ : Int32} {reason : Int32} {cause : Int32} {orders : Int32} {order : Int32} (hK : va_K D gCl [(dA, .int)] s) (hP : va_P D gCl (mW dA a sA past held text parted asShown told pasts runs typed spot from_ reason cause orders order) H) {x1 : Int32} (nf : Nat) : ∀ (n : Nat) (y3 : Int32) (y2 : Int32) (z : Int32), m_ofTurns_L1 nf sA x1 n y3 y2 = some z → ∀ ls : Array Slot, lv_has ls 4 [(3, .int y3), (2, .int y2), (0, .ref (a 0)), (1, .int x1)] → (∀ ls : Array Slot, lv_has ls 4 [(2, .int z), (0, .ref (a 0)), (1, .int x1)] → W p l e ({ frames := 4, cells := 0, slots := 0, locals := 81 } : Room) s m args below meth c H locs 0 0 Q (F0 m 70 ls [])) → W p l e ({ frames := 4, cells := 0, slots := 0, locals := 81 } : Room) s m args below meth c H locs 0 0 Q (F0 m 4 ls []) := by
  intro n
  induction n with
  | zero => intro y3 y2 z h ls hl K; exact absurd h (by simp [m_ofTurns_L1])
  | succ n ih =>
    intro y3 y2 z h ls hl K
    unfold m_ofTurns_L1 at h
    refine lv_iload_n hx hb dX3_ofTurns_4 rfl (lv_at hl 0 rfl) ?_
    refine lv_aload_n hx hb dX3_ofTurns_5 rfl (lv_at hl 2 rfl) ?_
    refine va_get (ci := 3) (v := .ref (a 1)) (C := RX3) (T := TX3) (N := 16) hx hb hts in_X3 hown hK hP 0 rfl rfl 0 (by decide) (hts _ q1273) (fun _ h9 => h9) rfl dX3_ofTurns_6 ?_
    refine lv_sipush (v := 282) hx hb dX3_ofTurns_9 (by decide) ?_
    refine m_iald (k := 282) hx hb hK hP 1 0 rfl rfl (by decide) (by decide) dX3_ofTurns_12 ?_
    refine lv_icmp_ge (tgt := 70) hx hb dX3_ofTurns_13 (by decide) (fun c1 => ?_) (fun c1 => ?_)
    · have h := pi_t c1 h
      cases h
      exact K ls (lv_sub hl [1, 2, 3] rfl)
    · have h := pi_f c1 h
      refine lv_iload_n hx hb dX3_ofTurns_16 rfl (lv_at hl 1 rfl) ?_
      refine lv_iload_n hx hb dX3_ofTurns_17 rfl (lv_at hl 3 rfl) ?_
      refine lv_iconst (v := 2) hx hb dX3_ofTurns_18 (by decide) ?_
      obtain ⟨j13, hj, h⟩ := pb_some h
      refine W.cut (g' := F0 m 62 ls [.int j13, .int y2]) ?_ (fun K => ?_)
      · refine lv_iadd hx hb dX3_ofTurns_62 ?_
        refine lv_istore_n (lv' := [(2, .int (y2 + j13)), (3, .int y3), (0, .ref (a 0)), (1, .int x1)]) hx hb dX3_ofTurns_63 rfl hl (by decide) rfl (fun ls hl => ?_)
        refine lv_iinc (v := (y3 + (1 : Int32))) (lv' := [(3, .int (y3 + (1 : Int32))), (2, .int (y2 + j13)), (0, .ref (a 0)), (1, .int x1)]) hx hb dX3_ofTurns_64 hl (k := 1) rfl (by rfl) (by decide) rfl (fun ls hl => ?_)
        refine lv_goto (tgt := 4) hx hb dX3_ofTurns_67 (by decide) ?_
        exact ih _ _ _ h ls (lv_sub hl [0, 1, 2, 3] rfl) K
      · have h := hj
        refine lv_icmp_ne (tgt := 31) hx hb dX3_ofTurns_19 (by decide) (fun c2 => ?_) (fun c2 => ?_)
        · have h := pi_f c2 h
          refine lv_iload_n hx hb dX3_ofTurns_31 rfl (lv_at hl 3 rfl) ?_
          refine lv_iconst (v := 4) hx hb dX3_ofTurns_32 (by decide) ?_
          refine lv_icmp_ne (tgt := 53) hx hb dX3_ofTurns_33 (by decide) (fun c3 => ?_) (fun c3 => ?_)
          · have h := pi_f c3 h
            refine lv_aload_n hx hb dX3_ofTurns_53 rfl (lv_at hl 2 rfl) ?_
            refine lv_iload_n hx hb dX3_ofTurns_54 rfl (lv_at hl 0 rfl) ?_
            refine lv_iconst (v := 0) hx hb dX3_ofTurns_55 (by decide) ?_
            obtain ⟨r5, e4, h⟩ := pb_some h
            refine m_callR (W.runV (As := [.int y3, .int (0 : Int32)]) (rest := [.int y2]) ⟨hx, hb, hml, hown, hts⟩ (met_overlapping e4) (cwV 2 hts (lw_V q1431 q1433 qs38 q77 q1434) rfl rfl rfl hd_overlapping ⟨Nat.le_of_ble_eq_true rfl, Nat.le_of_ble_eq_true rfl⟩) (m_preV hK hP) rfl rfl hl.1 rfl (lv_room (Nat.le_of_ble_eq_true rfl)) dX3_ofTurns_56 ⟨Nat.le_of_ble_eq_true rfl, Nat.le_of_ble_eq_true rfl⟩) ?_
            obtain ⟨r7, e6, h⟩ := pb_some h
            refine m_callR (W.runS (As := [.int r5]) (rest := [.int y2]) ⟨hx, hb, hml, hown, hts⟩ (met_ones e6) (va_cwS 1 hts (lw_S q1549 q1550 q77 q1551) rfl rfl rfl hd_ones ⟨Nat.le_of_ble_eq_true rfl, Nat.le_of_ble_eq_true rfl⟩) m_preS rfl rfl hl.1 rfl (lv_room (Nat.le_of_ble_eq_true rfl)) dX3_ofTurns_59 ⟨Nat.le_of_ble_eq_true rfl, Nat.le_of_ble_eq_true rfl⟩) ?_
            cases h
            exact K
          · have h := pi_t c3 h
            refine lv_aload_n hx hb dX3_ofTurns_36 rfl (lv_at hl 2 rfl) ?_
            refine lv_iload_n hx hb dX3_ofTurns_37 rfl (lv_at hl 0 rfl) ?_
            refine lv_iconst (v := 3) hx hb dX3_ofTurns_38 (by decide) ?_
            obtain ⟨r9, e8, h⟩ := pb_some h
            refine m_callR (W.runV (As := [.int y3, .int (3 : Int32)]) (rest := [.int y2]) ⟨hx, hb, hml, hown, hts⟩ (met_of e8) (cwV 2 hts (lw_V q1339 q1341 qs27 q77 q1342) rfl rfl rfl hd_of ⟨Nat.le_of_ble_eq_true rfl, Nat.le_of_ble_eq_true rfl⟩) (m_preV hK hP) rfl rfl hl.1 rfl (lv_room (Nat.le_of_ble_eq_true rfl)) dX3_ofTurns_39 ⟨Nat.le_of_ble_eq_true rfl, Nat.le_of_ble_eq_true rfl⟩) ?_
            refine lv_if_ge (tgt := 49) hx hb dX3_ofTurns_42 (by decide) (fun c10 => ?_) (fun c10 => ?_)
            · have h := pi_t c10 h
              refine lv_iconst (v := 0) hx hb dX3_ofTurns_49 (by decide) ?_
              refine lv_goto (tgt := 62) hx hb dX3_ofTurns_50 (by decide) ?_
              cases h
              exact K
            · have h := pi_f c10 h
              refine lv_iconst (v := 1) hx hb dX3_ofTurns_45 (by decide) ?_
              refine lv_goto (tgt := 62) hx hb dX3_ofTurns_46 (by decide) ?_
              cases h
              exact K
        · have h := pi_t c2 h
          refine lv_aload_n hx hb dX3_ofTurns_22 rfl (lv_at hl 2 rfl) ?_
          refine lv_iload_n hx hb dX3_ofTurns_23 rfl (lv_at hl 0 rfl) ?_
          refine lv_iconst (v := 4) hx hb dX3_ofTurns_24 (by decide) ?_
          obtain ⟨r12, e11, h⟩ := pb_some h
          refine m_callR (W.runV (As := [.int y3, .int (4 : Int32)]) (rest := [.int y2]) ⟨hx, hb, hml, hown, hts⟩ (met_of e11) (cwV 2 hts (lw_V q1339 q1341 qs27 q77 q1342) rfl rfl rfl hd_of ⟨Nat.le_of_ble_eq_true rfl, Nat.le_of_ble_eq_true rfl⟩) (m_preV hK hP) rfl rfl hl.1 rfl (lv_room (Nat.le_of_ble_eq_true rfl)) dX3_ofTurns_25 ⟨Nat.le_of_ble_eq_true rfl, Nat.le_of_ble_eq_true rfl⟩) ?_
          refine lv_goto (tgt := 62) hx hb dX3_ofTurns_28 (by decide) ?_
          cases h
          exact K
set_option maxHeartbeats 4000000 in
set_option maxRecDepth 100000 in
theorem met_ofTurns {l : Launch} {D : va_G} {dA : ClassId} {a : Nat → Nat} {sA past held text parted asShown told : Nat → Int32} {pasts runs typed spot from_ reason cause orders order : Int32} {nf : Nat} {x1 : Int32} {r : Int32}  (h : m_ofTurns nf sA x1 = some r) : Met l yX3_ofTurns (ws_ yX3_ofTurns cX3_ofTurns 4 (some .int)) ({ frames := 4, cells := 0, slots := 0, locals := 81 } : Room) (mPc [.ref (a 0), .int x1] D dA a sA past held text parted asShown told pasts runs typed spot from_ reason cause orders order) (QcRead r) 0 0 (fun _ => False) := by
  refine Met.ofW (cc := cX3_ofTurns) (maxL := 4) (ret := (some .int)) (by decide) rfl ?_
  intro p e s m args below meth c s₁ B hml hv
  obtain ⟨rfl, hP, hK⟩ := hv
  have hx := B.exec
  have hb := B.bytes
  have hr := B.returns
  have hts := atoms_spec (ws := ws_ yX3_ofTurns cX3_ofTurns 4 (some .int)) B.pre
  have hts : ∀ w ∈ lw_all, w.before _ s = true := fun w h => hts w (List.mem_cons_of_mem _ h)
  have hown : s.vm.findClass RX3 = some m.cls := findClass_of_methodNamed B.named
  have hlocks := B.notSynchronized
  have hl := lv_entry ([.ref (a 0), .int x1]) (n := 4) (Nat.le_of_ble_eq_true rfl)
  rw [lg_entry_eq]
  generalize (lg_sl ([.ref (a 0), .int x1]) ++ List.replicate (4 - (lg_sl ([.ref (a 0), .int x1])).length) Slot.unset).toArray = ls at hl ⊢
  have hl : lv_has ls 4 [(0, .ref (a 0)), (1, .int x1)] := hl
  unfold m_ofTurns at h
  refine lv_iconst (v := 0) hx hb dX3_ofTurns_0 (by decide) ?_
  refine lv_istore_n (lv' := [(2, .int (0 : Int32)), (0, .ref (a 0)), (1, .int x1)]) hx hb dX3_ofTurns_1 rfl hl (by decide) rfl (fun ls hl => ?_)
  refine lv_iconst (v := 0) hx hb dX3_ofTurns_2 (by decide) ?_
  refine lv_istore_n (lv' := [(3, .int (0 : Int32)), (2, .int (0 : Int32)), (0, .ref (a 0)), (1, .int x1)]) hx hb dX3_ofTurns_3 rfl hl (by decide) rfl (fun ls hl => ?_)
  obtain ⟨o1, e501, h⟩ := pb_some h
  refine lp_ofTurns_1 hx hb hml hown hts hK hP _ _ _ _ _ e501 ls (lv_sub hl [0, 1, 2, 3] rfl) (fun ls hl => ?_)
  refine lv_iload_n hx hb dX3_ofTurns_70 rfl (lv_at hl 2 rfl) ?_
  refine lv_iconst (v := 5) hx hb dX3_ofTurns_71 (by decide) ?_
  refine lv_icmp_ne (tgt := 81) hx hb dX3_ofTurns_72 (by decide) (fun c2 => ?_) (fun c2 => ?_)
  · have h := pi_f c2 h
    refine lv_iload_n hx hb dX3_ofTurns_81 rfl (lv_at hl 0 rfl) ?_
    cases h
    exact W.iret hx hb hr (fun t ht hW => ⟨rfl, ht⟩) (fun q hq => absurd hq List.not_mem_nil) dX3_ofTurns_82
  · have h := pi_t c2 h
    refine lv_iload_n hx hb dX3_ofTurns_75 rfl (lv_at hl 0 rfl) ?_
    refine lv_iconst (v := 2) hx hb dX3_ofTurns_76 (by decide) ?_
    refine lv_idiv hx hb dX3_ofTurns_77 (by decide) ?_
    refine lv_goto (tgt := 82) hx hb dX3_ofTurns_78 (by decide) ?_
    cases h
    exact W.iret hx hb hr (fun t ht hW => ⟨rfl, ht⟩) (fun q hq => absurd hq List.not_mem_nil) dX3_ofTurns_82
theorem hd_seconds : yX3_seconds.cls = RX3 ∧ yX3_seconds.cls ≠ "java/lang/invoke/MethodHandle" ∧ yX3_seconds.cls ≠ "java/lang/invoke/VarHandle" ∧ (parseMethodDescriptor yX3_seconds.desc).map (fun d => d.parameters.length) = some 1 := by decide +kernel
set_option maxHeartbeats 4000000 in
set_option maxRecDepth 100000 in
theorem lp_seconds_1 {p : Program} {l : Launch} {e : Env} {s : State} {m : MethodId} {args : Array Value} {below : List Frame} {meth : Method} {c : Code} {D : va_G} {dA : ClassId} {a : Nat → Nat} {Q : State → Prop} (hx : p.tables.exec = Jvm.exec) (hb : c.code = cX3_seconds) (hml : c.maxLocals = 4) (hown : s.vm.findClass RX3 = some m.cls) (hts : ∀ w ∈ lw_all, w.before args s = true) {H : Heap} {locs : List Loc} {sA : Nat → Int32} {past : Nat → Int32} {held : Nat → Int32} {text : Nat → Int32} {parted : Nat → Int32} {asShown : Nat → Int32} {told : Nat → Int32} {pasts : Int32} {runs : Int32} {typed : Int32} {spot : Int32} {from_ : Int32} {reason : Int32} {cause : Int32} {orders : Int32} {order : Int32} (hK : va_K D gCl [(dA, .int)] s) (hP : va_P D gCl (mW dA a sA past held text parted asShown told pasts runs typed spot from_ reason cause orders order) H) {x1 : Int32} (nf : Nat) : ∀ (n : Nat) (y3 : Int32) (y2 : Int32) (z : Int32), m_seconds_L1 nf sA x1 n y3 y2 = some z → ∀ ls : Array Slot, lv_has ls 4 [(3, .int y3), (2, .int y2), (0, .ref (a 0)), (1, .int x1)] → (∀ ls : Array Slot, lv_has ls 4 [(2, .int z), (0, .ref (a 0)), (1, .int x1)] → W p l e ({ frames := 4, cells := 0, slots := 0, locals := 79 } : Room) s m args below meth c H locs 0 0 Q (F0 m 37 ls [])) → W p l e ({ frames := 4, cells := 0, slots := 0, locals := 79 } : Room) s m args below meth c H locs 0 0 Q (F0 m 4 ls []) := by
  intro n
  induction n with
  | zero => intro y3 y2 z h ls hl K; exact absurd h (by simp [m_seconds_L1])
  | succ n ih =>
    intro y3 y2 z h ls hl K
    unfold m_seconds_L1 at h
    refine lv_iload_n hx hb dX3_seconds_4 rfl (lv_at hl 0 rfl) ?_
    refine lv_sipush (v := 1999) hx hb dX3_seconds_5 (by decide) ?_
    refine lv_icmp_gt (tgt := 37) hx hb dX3_seconds_8 (by decide) (fun c1 => ?_) (fun c1 => ?_)
    · have h := pi_t c1 h
      cases h
      exact K ls (lv_sub hl [1, 2, 3] rfl)
    · have h := pi_f c1 h
      refine lv_iload_n hx hb dX3_seconds_11 rfl (lv_at hl 1 rfl) ?_
      refine lv_aload_n hx hb dX3_seconds_12 rfl (lv_at hl 2 rfl) ?_
      refine lv_iload_n hx hb dX3_seconds_13 rfl (lv_at hl 0 rfl) ?_
      obtain ⟨r3, e2, h⟩ := pb_some h
      refine m_callR (W.runV (As := [.int y3]) (rest := [.int y2]) ⟨hx, hb, hml, hown, hts⟩ (met_going e2) (cwV 1 hts (lw_V q1447 q1449 qs42 q77 q1450) rfl rfl rfl hd_going ⟨Nat.le_of_ble_eq_true rfl, Nat.le_of_ble_eq_true rfl⟩) (m_preV hK hP) rfl rfl hl.1 rfl (lv_room (Nat.le_of_ble_eq_true rfl)) dX3_seconds_14 ⟨Nat.le_of_ble_eq_true rfl, Nat.le_of_ble_eq_true rfl⟩) ?_
      obtain ⟨r5, e4, h⟩ := pb_some h
      refine m_callR (W.runS (As := [.int r3]) (rest := [.int y2]) ⟨hx, hb, hml, hown, hts⟩ (met_ones e4) (va_cwS 1 hts (lw_S q1549 q1550 q77 q1551) rfl rfl rfl hd_ones ⟨Nat.le_of_ble_eq_true rfl, Nat.le_of_ble_eq_true rfl⟩) m_preS rfl rfl hl.1 rfl (lv_room (Nat.le_of_ble_eq_true rfl)) dX3_seconds_17 ⟨Nat.le_of_ble_eq_true rfl, Nat.le_of_ble_eq_true rfl⟩) ?_
      refine lv_iload_n hx hb dX3_seconds_20 rfl (lv_at hl 3 rfl) ?_
      obtain ⟨j7, hj, h⟩ := pb_some h
      refine W.cut (g' := F0 m 29 ls [.int (bi j7), .int y2]) ?_ (fun K => ?_)
      · refine lv_iadd hx hb dX3_seconds_29 ?_
        refine lv_istore_n (lv' := [(2, .int (y2 + (bi j7))), (3, .int y3), (0, .ref (a 0)), (1, .int x1)]) hx hb dX3_seconds_30 rfl hl (by decide) rfl (fun ls hl => ?_)
        refine lv_iinc (v := (y3 + (1 : Int32))) (lv' := [(3, .int (y3 + (1 : Int32))), (2, .int (y2 + (bi j7))), (0, .ref (a 0)), (1, .int x1)]) hx hb dX3_seconds_31 hl (k := 1) rfl (by rfl) (by decide) rfl (fun ls hl => ?_)
        refine lv_goto (tgt := 4) hx hb dX3_seconds_34 (by decide) ?_
        exact ih _ _ _ h ls (lv_sub hl [0, 1, 2, 3] rfl) K
      · have h := hj
        refine lv_icmp_lt (tgt := 28) hx hb dX3_seconds_21 (by decide) (fun c6 => ?_) (fun c6 => ?_)
        · have h := pi_t c6 h
          refine lv_iconst (v := 0) hx hb dX3_seconds_28 (by decide) ?_
          cases h
          exact K
        · have h := pi_f c6 h
          refine lv_iconst (v := 1) hx hb dX3_seconds_24 (by decide) ?_
          refine lv_goto (tgt := 29) hx hb dX3_seconds_25 (by decide) ?_
          cases h
          exact K
set_option maxHeartbeats 4000000 in
set_option maxRecDepth 100000 in
theorem met_seconds {l : Launch} {D : va_G} {dA : ClassId} {a : Nat → Nat} {sA past held text parted asShown told : Nat → Int32} {pasts runs typed spot from_ reason cause orders order : Int32} {nf : Nat} {x1 : Int32} {r : Int32}  (h : m_seconds nf sA x1 = some r) : Met l yX3_seconds (ws_ yX3_seconds cX3_seconds 4 (some .int)) ({ frames := 4, cells := 0, slots := 0, locals := 79 } : Room) (mPc [.ref (a 0), .int x1] D dA a sA past held text parted asShown told pasts runs typed spot from_ reason cause orders order) (QcRead r) 0 0 (fun _ => False) := by
  refine Met.ofW (cc := cX3_seconds) (maxL := 4) (ret := (some .int)) (by decide) rfl ?_
  intro p e s m args below meth c s₁ B hml hv
  obtain ⟨rfl, hP, hK⟩ := hv
  have hx := B.exec
  have hb := B.bytes
  have hr := B.returns
  have hts := atoms_spec (ws := ws_ yX3_seconds cX3_seconds 4 (some .int)) B.pre
  have hts : ∀ w ∈ lw_all, w.before _ s = true := fun w h => hts w (List.mem_cons_of_mem _ h)
  have hown : s.vm.findClass RX3 = some m.cls := findClass_of_methodNamed B.named
  have hlocks := B.notSynchronized
  have hl := lv_entry ([.ref (a 0), .int x1]) (n := 4) (Nat.le_of_ble_eq_true rfl)
  rw [lg_entry_eq]
  generalize (lg_sl ([.ref (a 0), .int x1]) ++ List.replicate (4 - (lg_sl ([.ref (a 0), .int x1])).length) Slot.unset).toArray = ls at hl ⊢
  have hl : lv_has ls 4 [(0, .ref (a 0)), (1, .int x1)] := hl
  unfold m_seconds at h
  refine lv_iconst (v := 0) hx hb dX3_seconds_0 (by decide) ?_
  refine lv_istore_n (lv' := [(2, .int (0 : Int32)), (0, .ref (a 0)), (1, .int x1)]) hx hb dX3_seconds_1 rfl hl (by decide) rfl (fun ls hl => ?_)
  refine lv_iconst (v := 0) hx hb dX3_seconds_2 (by decide) ?_
  refine lv_istore_n (lv' := [(3, .int (0 : Int32)), (2, .int (0 : Int32)), (0, .ref (a 0)), (1, .int x1)]) hx hb dX3_seconds_3 rfl hl (by decide) rfl (fun ls hl => ?_)
  obtain ⟨o1, e501, h⟩ := pb_some h
  refine lp_seconds_1 hx hb hml hown hts hK hP _ _ _ _ _ e501 ls (lv_sub hl [0, 1, 2, 3] rfl) (fun ls hl => ?_)
  refine lv_iload_n hx hb dX3_seconds_37 rfl (lv_at hl 0 rfl) ?_
  cases h
  exact W.iret hx hb hr (fun t ht hW => ⟨rfl, ht⟩) (fun q hq => absurd hq List.not_mem_nil) dX3_seconds_38
theorem hd_voicesAll : yX3_voicesAll.cls = RX3 ∧ yX3_voicesAll.cls ≠ "java/lang/invoke/MethodHandle" ∧ yX3_voicesAll.cls ≠ "java/lang/invoke/VarHandle" ∧ (parseMethodDescriptor yX3_voicesAll.desc).map (fun d => d.parameters.length) = some 0 := by decide +kernel
set_option maxHeartbeats 4000000 in
set_option maxRecDepth 100000 in
theorem lp_voicesAll_1 {p : Program} {l : Launch} {e : Env} {s : State} {m : MethodId} {args : Array Value} {below : List Frame} {meth : Method} {c : Code} {D : va_G} {dA : ClassId} {a : Nat → Nat} {Q : State → Prop} (hx : p.tables.exec = Jvm.exec) (hb : c.code = cX3_voicesAll) (hml : c.maxLocals = 3) (hown : s.vm.findClass RX3 = some m.cls) (hts : ∀ w ∈ lw_all, w.before args s = true) {H : Heap} {locs : List Loc} {sA : Nat → Int32} {past : Nat → Int32} {held : Nat → Int32} {text : Nat → Int32} {parted : Nat → Int32} {asShown : Nat → Int32} {told : Nat → Int32} {pasts : Int32} {runs : Int32} {typed : Int32} {spot : Int32} {from_ : Int32} {reason : Int32} {cause : Int32} {orders : Int32} {order : Int32} (hK : va_K D gCl [(dA, .int)] s) (hP : va_P D gCl (mW dA a sA past held text parted asShown told pasts runs typed spot from_ reason cause orders order) H)  (nf : Nat) : ∀ (n : Nat) (y2 : Int32) (y1 : Int32) (z : Int32), m_voicesAll_L1 nf sA n y2 y1 = some z → ∀ ls : Array Slot, lv_has ls 3 [(2, .int y2), (1, .int y1), (0, .ref (a 0))] → (∀ ls : Array Slot, lv_has ls 3 [(1, .int z), (0, .ref (a 0))] → W p l e ({ frames := 1, cells := 0, slots := 0, locals := 12 } : Room) s m args below meth c H locs 0 0 Q (F0 m 39 ls [])) → W p l e ({ frames := 1, cells := 0, slots := 0, locals := 12 } : Room) s m args below meth c H locs 0 0 Q (F0 m 4 ls []) := by
  intro n
  induction n with
  | zero => intro y2 y1 z h ls hl K; exact absurd h (by simp [m_voicesAll_L1])
  | succ n ih =>
    intro y2 y1 z h ls hl K
    unfold m_voicesAll_L1 at h
    refine lv_iload_n hx hb dX3_voicesAll_4 rfl (lv_at hl 0 rfl) ?_
    refine lv_bipush (v := 6) hx hb dX3_voicesAll_5 (by decide) ?_
    refine lv_icmp_ge (tgt := 39) hx hb dX3_voicesAll_7 (by decide) (fun c1 => ?_) (fun c1 => ?_)
    · have h := pi_t c1 h
      cases h
      exact K ls (lv_sub hl [1, 2] rfl)
    · have h := pi_f c1 h
      refine lv_iload_n hx hb dX3_voicesAll_10 rfl (lv_at hl 1 rfl) ?_
      refine lv_aload_n hx hb dX3_voicesAll_11 rfl (lv_at hl 2 rfl) ?_
      refine va_get (ci := 3) (v := .ref (a 1)) (C := RX3) (T := TX3) (N := 16) hx hb hts in_X3 hown hK hP 0 rfl rfl 0 (by decide) (hts _ q1273) (fun _ h9 => h9) rfl dX3_voicesAll_12 ?_
      refine lv_sipush (v := 276) hx hb dX3_voicesAll_15 (by decide) ?_
      refine lv_iload_n hx hb dX3_voicesAll_18 rfl (lv_at hl 0 rfl) ?_
      refine lv_iadd hx hb dX3_voicesAll_19 ?_
      obtain ⟨g2, h⟩ := pg_some h
      refine va_iald hx hb hK hP 1 0 rfl rfl g2 dX3_voicesAll_20 ?_
      obtain ⟨j4, hj, h⟩ := pb_some h
      refine W.cut (g' := F0 m 31 ls [.int j4, .int y1]) ?_ (fun K => ?_)
      · refine lv_ior hx hb dX3_voicesAll_31 ?_
        refine lv_istore_n (lv' := [(1, .int (y1 ||| j4)), (2, .int y2), (0, .ref (a 0))]) hx hb dX3_voicesAll_32 rfl hl (by decide) rfl (fun ls hl => ?_)
        refine lv_iinc (v := (y2 + (1 : Int32))) (lv' := [(2, .int (y2 + (1 : Int32))), (1, .int (y1 ||| j4)), (0, .ref (a 0))]) hx hb dX3_voicesAll_33 hl (k := 1) rfl (by rfl) (by decide) rfl (fun ls hl => ?_)
        refine lv_goto (tgt := 4) hx hb dX3_voicesAll_36 (by decide) ?_
        exact ih _ _ _ h ls (lv_sub hl [0, 1, 2] rfl) K
      · have h := hj
        refine lv_if_le (tgt := 30) hx hb dX3_voicesAll_21 (by decide) (fun c3 => ?_) (fun c3 => ?_)
        · have h := pi_t c3 h
          refine lv_iconst (v := 0) hx hb dX3_voicesAll_30 (by decide) ?_
          cases h
          exact K
        · have h := pi_f c3 h
          refine lv_iconst (v := 1) hx hb dX3_voicesAll_24 (by decide) ?_
          refine lv_iload_n hx hb dX3_voicesAll_25 rfl (lv_at hl 0 rfl) ?_
          refine lv_ishl hx hb dX3_voicesAll_26 ?_
          refine lv_goto (tgt := 31) hx hb dX3_voicesAll_27 (by decide) ?_
          cases h
          exact K
set_option maxHeartbeats 4000000 in
set_option maxRecDepth 100000 in
theorem met_voicesAll {l : Launch} {D : va_G} {dA : ClassId} {a : Nat → Nat} {sA past held text parted asShown told : Nat → Int32} {pasts runs typed spot from_ reason cause orders order : Int32} {nf : Nat} {r : Int32}  (h : m_voicesAll nf sA  = some r) : Met l yX3_voicesAll (ws_ yX3_voicesAll cX3_voicesAll 3 (some .int)) ({ frames := 1, cells := 0, slots := 0, locals := 12 } : Room) (mPc [.ref (a 0)] D dA a sA past held text parted asShown told pasts runs typed spot from_ reason cause orders order) (QcRead r) 0 0 (fun _ => False) := by
  refine Met.ofW (cc := cX3_voicesAll) (maxL := 3) (ret := (some .int)) (by decide) rfl ?_
  intro p e s m args below meth c s₁ B hml hv
  obtain ⟨rfl, hP, hK⟩ := hv
  have hx := B.exec
  have hb := B.bytes
  have hr := B.returns
  have hts := atoms_spec (ws := ws_ yX3_voicesAll cX3_voicesAll 3 (some .int)) B.pre
  have hts : ∀ w ∈ lw_all, w.before _ s = true := fun w h => hts w (List.mem_cons_of_mem _ h)
  have hown : s.vm.findClass RX3 = some m.cls := findClass_of_methodNamed B.named
  have hlocks := B.notSynchronized
  have hl := lv_entry ([.ref (a 0)]) (n := 3) (Nat.le_of_ble_eq_true rfl)
  rw [lg_entry_eq]
  generalize (lg_sl ([.ref (a 0)]) ++ List.replicate (3 - (lg_sl ([.ref (a 0)])).length) Slot.unset).toArray = ls at hl ⊢
  have hl : lv_has ls 3 [(0, .ref (a 0))] := hl
  unfold m_voicesAll at h
  refine lv_iconst (v := 0) hx hb dX3_voicesAll_0 (by decide) ?_
  refine lv_istore_n (lv' := [(1, .int (0 : Int32)), (0, .ref (a 0))]) hx hb dX3_voicesAll_1 rfl hl (by decide) rfl (fun ls hl => ?_)
  refine lv_iconst (v := 0) hx hb dX3_voicesAll_2 (by decide) ?_
  refine lv_istore_n (lv' := [(2, .int (0 : Int32)), (1, .int (0 : Int32)), (0, .ref (a 0))]) hx hb dX3_voicesAll_3 rfl hl (by decide) rfl (fun ls hl => ?_)
  obtain ⟨o1, e501, h⟩ := pb_some h
  refine lp_voicesAll_1 hx hb hml hown hts hK hP _ _ _ _ _ e501 ls (lv_sub hl [0, 1, 2] rfl) (fun ls hl => ?_)
  refine lv_iload_n hx hb dX3_voicesAll_39 rfl (lv_at hl 0 rfl) ?_
  cases h
  exact W.iret hx hb hr (fun t ht hW => ⟨rfl, ht⟩) (fun q hq => absurd hq List.not_mem_nil) dX3_voicesAll_40
theorem hd_count : yX3_count.cls = RX3 ∧ yX3_count.cls ≠ "java/lang/invoke/MethodHandle" ∧ yX3_count.cls ≠ "java/lang/invoke/VarHandle" ∧ (parseMethodDescriptor yX3_count.desc).map (fun d => d.parameters.length) = some 1 := by decide +kernel
set_option maxHeartbeats 4000000 in
set_option maxRecDepth 100000 in
theorem met_count {l : Launch} {D : va_G} {dA : ClassId} {a : Nat → Nat} {sA past held text parted asShown told : Nat → Int32} {pasts runs typed spot from_ reason cause orders order : Int32} {nf : Nat} {x1 : Int32} {r : Int32}  (h : m_count nf sA pasts typed x1 = some r) : Met l yX3_count (ws_ yX3_count cX3_count 2 (some .int)) ({ frames := 5, cells := 0, slots := 0, locals := 104 } : Room) (mPc [.ref (a 0), .int x1] D dA a sA past held text parted asShown told pasts runs typed spot from_ reason cause orders order) (QcRead r) 0 0 (fun _ => False) := by
  refine Met.ofW (cc := cX3_count) (maxL := 2) (ret := (some .int)) (by decide) rfl ?_
  intro p e s m args below meth c s₁ B hml hv
  obtain ⟨rfl, hP, hK⟩ := hv
  have hx := B.exec
  have hb := B.bytes
  have hr := B.returns
  have hts := atoms_spec (ws := ws_ yX3_count cX3_count 2 (some .int)) B.pre
  have hts : ∀ w ∈ lw_all, w.before _ s = true := fun w h => hts w (List.mem_cons_of_mem _ h)
  have hown : s.vm.findClass RX3 = some m.cls := findClass_of_methodNamed B.named
  have hlocks := B.notSynchronized
  have hl := lv_entry ([.ref (a 0), .int x1]) (n := 2) (Nat.le_of_ble_eq_true rfl)
  rw [lg_entry_eq]
  generalize (lg_sl ([.ref (a 0), .int x1]) ++ List.replicate (2 - (lg_sl ([.ref (a 0), .int x1])).length) Slot.unset).toArray = ls at hl ⊢
  have hl : lv_has ls 2 [(0, .ref (a 0)), (1, .int x1)] := hl
  unfold m_count at h
  refine lv_iload_n hx hb dX3_count_0 rfl (lv_at hl 1 rfl) ?_
  by_cases c1 : x1 = (0 : Int32)
  · have h := pi_t c1 h
    refine lv_tableIn (off := 99) (tgt := 100) hx hb dX3_count_1 (by rw [c1]; decide) (by rw [c1]; decide) (by rw [c1]; decide) (by decide) ?_
    refine lv_aload_n hx hb dX3_count_100 rfl (lv_at hl 0 rfl) ?_
    refine va_get (ci := 3) (v := .ref (a 1)) (C := RX3) (T := TX3) (N := 16) hx hb hts in_X3 hown hK hP 0 rfl rfl 0 (by decide) (hts _ q1273) (fun _ h9 => h9) rfl dX3_count_101 ?_
    refine lv_sipush (v := 282) hx hb dX3_count_104 (by decide) ?_
    refine m_iald (k := 282) hx hb hK hP 1 0 rfl rfl (by decide) (by decide) dX3_count_107 ?_
    cases h
    exact W.iret hx hb hr (fun t ht hW => ⟨rfl, ht⟩) (fun q hq => absurd hq List.not_mem_nil) dX3_count_108
  have h := pi_f c1 h
  by_cases c2 : x1 = (1 : Int32)
  · have h := pi_t c2 h
    refine lv_tableIn (off := 108) (tgt := 109) hx hb dX3_count_1 (by rw [c2]; decide) (by rw [c2]; decide) (by rw [c2]; decide) (by decide) ?_
    refine lv_aload_n hx hb dX3_count_109 rfl (lv_at hl 0 rfl) ?_
    obtain ⟨r4, e3, h⟩ := pb_some h
    refine m_callR (W.runV (As := []) (rest := []) ⟨hx, hb, hml, hown, hts⟩ (met_voicesAll e3) (cwV 0 hts (lw_V q1545 q1547 qs55 q77 q1548) rfl rfl rfl hd_voicesAll ⟨Nat.le_of_ble_eq_true rfl, Nat.le_of_ble_eq_true rfl⟩) (m_preV hK hP) rfl rfl hl.1 rfl (lv_room (Nat.le_of_ble_eq_true rfl)) dX3_count_110 ⟨Nat.le_of_ble_eq_true rfl, Nat.le_of_ble_eq_true rfl⟩) ?_
    obtain ⟨r6, e5, h⟩ := pb_some h
    refine m_callR (W.runS (As := [.int r4]) (rest := []) ⟨hx, hb, hml, hown, hts⟩ (met_ones e5) (va_cwS 1 hts (lw_S q1549 q1550 q77 q1551) rfl rfl rfl hd_ones ⟨Nat.le_of_ble_eq_true rfl, Nat.le_of_ble_eq_true rfl⟩) m_preS rfl rfl hl.1 rfl (lv_room (Nat.le_of_ble_eq_true rfl)) dX3_count_113 ⟨Nat.le_of_ble_eq_true rfl, Nat.le_of_ble_eq_true rfl⟩) ?_
    cases h
    exact W.iret hx hb hr (fun t ht hW => ⟨rfl, ht⟩) (fun q hq => absurd hq List.not_mem_nil) dX3_count_116
  have h := pi_f c2 h
  by_cases c7 : x1 = (2 : Int32)
  · have h := pi_t c7 h
    refine lv_tableIn (off := 116) (tgt := 117) hx hb dX3_count_1 (by rw [c7]; decide) (by rw [c7]; decide) (by rw [c7]; decide) (by decide) ?_
    refine lv_aload_n hx hb dX3_count_117 rfl (lv_at hl 0 rfl) ?_
    refine lv_iload_n hx hb dX3_count_118 rfl (lv_at hl 1 rfl) ?_
    obtain ⟨r9, e8, h⟩ := pb_some h
    refine m_callR (W.runV (As := [.int x1]) (rest := []) ⟨hx, hb, hml, hown, hts⟩ (met_ofTurns e8) (cwV 1 hts (lw_V q1552 q1554 qs56 q77 q1555) rfl rfl rfl hd_ofTurns ⟨Nat.le_of_ble_eq_true rfl, Nat.le_of_ble_eq_true rfl⟩) (m_preV hK hP) rfl rfl hl.1 rfl (lv_room (Nat.le_of_ble_eq_true rfl)) dX3_count_119 ⟨Nat.le_of_ble_eq_true rfl, Nat.le_of_ble_eq_true rfl⟩) ?_
    cases h
    exact W.iret hx hb hr (fun t ht hW => ⟨rfl, ht⟩) (fun q hq => absurd hq List.not_mem_nil) dX3_count_122
  have h := pi_f c7 h
  by_cases c10 : x1 = (3 : Int32)
  · have h := pi_t c10 h
    refine lv_tableIn (off := 122) (tgt := 123) hx hb dX3_count_1 (by rw [c10]; decide) (by rw [c10]; decide) (by rw [c10]; decide) (by decide) ?_
    refine lv_aload_n hx hb dX3_count_123 rfl (lv_at hl 0 rfl) ?_
    obtain ⟨r12, e11, h⟩ := pb_some h
    refine m_callR (W.runV (As := []) (rest := []) ⟨hx, hb, hml, hown, hts⟩ (met_corrections e11) (cwV 0 hts (lw_V q1556 q1558 qs57 q77 q1559) rfl rfl rfl hd_corrections ⟨Nat.le_of_ble_eq_true rfl, Nat.le_of_ble_eq_true rfl⟩) (m_preV hK hP) rfl rfl hl.1 rfl (lv_room (Nat.le_of_ble_eq_true rfl)) dX3_count_124 ⟨Nat.le_of_ble_eq_true rfl, Nat.le_of_ble_eq_true rfl⟩) ?_
    cases h
    exact W.iret hx hb hr (fun t ht hW => ⟨rfl, ht⟩) (fun q hq => absurd hq List.not_mem_nil) dX3_count_127
  have h := pi_f c10 h
  by_cases c13 : x1 = (4 : Int32)
  · have h := pi_t c13 h
    refine lv_tableIn (off := 116) (tgt := 117) hx hb dX3_count_1 (by rw [c13]; decide) (by rw [c13]; decide) (by rw [c13]; decide) (by decide) ?_
    refine lv_aload_n hx hb dX3_count_117 rfl (lv_at hl 0 rfl) ?_
    refine lv_iload_n hx hb dX3_count_118 rfl (lv_at hl 1 rfl) ?_
    obtain ⟨r15, e14, h⟩ := pb_some h
    refine m_callR (W.runV (As := [.int x1]) (rest := []) ⟨hx, hb, hml, hown, hts⟩ (met_ofTurns e14) (cwV 1 hts (lw_V q1552 q1554 qs56 q77 q1555) rfl rfl rfl hd_ofTurns ⟨Nat.le_of_ble_eq_true rfl, Nat.le_of_ble_eq_true rfl⟩) (m_preV hK hP) rfl rfl hl.1 rfl (lv_room (Nat.le_of_ble_eq_true rfl)) dX3_count_119 ⟨Nat.le_of_ble_eq_true rfl, Nat.le_of_ble_eq_true rfl⟩) ?_
    cases h
    exact W.iret hx hb hr (fun t ht hW => ⟨rfl, ht⟩) (fun q hq => absurd hq List.not_mem_nil) dX3_count_122
  have h := pi_f c13 h
  by_cases c16 : x1 = (5 : Int32)
  · have h := pi_t c16 h
    refine lv_tableIn (off := 116) (tgt := 117) hx hb dX3_count_1 (by rw [c16]; decide) (by rw [c16]; decide) (by rw [c16]; decide) (by decide) ?_
    refine lv_aload_n hx hb dX3_count_117 rfl (lv_at hl 0 rfl) ?_
    refine lv_iload_n hx hb dX3_count_118 rfl (lv_at hl 1 rfl) ?_
    obtain ⟨r18, e17, h⟩ := pb_some h
    refine m_callR (W.runV (As := [.int x1]) (rest := []) ⟨hx, hb, hml, hown, hts⟩ (met_ofTurns e17) (cwV 1 hts (lw_V q1552 q1554 qs56 q77 q1555) rfl rfl rfl hd_ofTurns ⟨Nat.le_of_ble_eq_true rfl, Nat.le_of_ble_eq_true rfl⟩) (m_preV hK hP) rfl rfl hl.1 rfl (lv_room (Nat.le_of_ble_eq_true rfl)) dX3_count_119 ⟨Nat.le_of_ble_eq_true rfl, Nat.le_of_ble_eq_true rfl⟩) ?_
    cases h
    exact W.iret hx hb hr (fun t ht hW => ⟨rfl, ht⟩) (fun q hq => absurd hq List.not_mem_nil) dX3_count_122
  have h := pi_f c16 h
  by_cases c19 : x1 = (6 : Int32)
  · have h := pi_t c19 h
    refine lv_tableIn (off := 127) (tgt := 128) hx hb dX3_count_1 (by rw [c19]; decide) (by rw [c19]; decide) (by rw [c19]; decide) (by decide) ?_
    refine lv_aload_n hx hb dX3_count_128 rfl (lv_at hl 0 rfl) ?_
    refine lv_iload_n hx hb dX3_count_129 rfl (lv_at hl 1 rfl) ?_
    refine lv_iconst (v := 5) hx hb dX3_count_130 (by decide) ?_
    refine lv_isub hx hb dX3_count_131 ?_
    obtain ⟨r21, e20, h⟩ := pb_some h
    refine m_callR (W.runV (As := [.int (x1 - (5 : Int32))]) (rest := []) ⟨hx, hb, hml, hown, hts⟩ (met_seconds e20) (cwV 1 hts (lw_V q1560 q1562 qs58 q77 q1563) rfl rfl rfl hd_seconds ⟨Nat.le_of_ble_eq_true rfl, Nat.le_of_ble_eq_true rfl⟩) (m_preV hK hP) rfl rfl hl.1 rfl (lv_room (Nat.le_of_ble_eq_true rfl)) dX3_count_132 ⟨Nat.le_of_ble_eq_true rfl, Nat.le_of_ble_eq_true rfl⟩) ?_
    cases h
    exact W.iret hx hb hr (fun t ht hW => ⟨rfl, ht⟩) (fun q hq => absurd hq List.not_mem_nil) dX3_count_135
  have h := pi_f c19 h
  by_cases c22 : x1 = (7 : Int32)
  · have h := pi_t c22 h
    refine lv_tableIn (off := 127) (tgt := 128) hx hb dX3_count_1 (by rw [c22]; decide) (by rw [c22]; decide) (by rw [c22]; decide) (by decide) ?_
    refine lv_aload_n hx hb dX3_count_128 rfl (lv_at hl 0 rfl) ?_
    refine lv_iload_n hx hb dX3_count_129 rfl (lv_at hl 1 rfl) ?_
    refine lv_iconst (v := 5) hx hb dX3_count_130 (by decide) ?_
    refine lv_isub hx hb dX3_count_131 ?_
    obtain ⟨r24, e23, h⟩ := pb_some h
    refine m_callR (W.runV (As := [.int (x1 - (5 : Int32))]) (rest := []) ⟨hx, hb, hml, hown, hts⟩ (met_seconds e23) (cwV 1 hts (lw_V q1560 q1562 qs58 q77 q1563) rfl rfl rfl hd_seconds ⟨Nat.le_of_ble_eq_true rfl, Nat.le_of_ble_eq_true rfl⟩) (m_preV hK hP) rfl rfl hl.1 rfl (lv_room (Nat.le_of_ble_eq_true rfl)) dX3_count_132 ⟨Nat.le_of_ble_eq_true rfl, Nat.le_of_ble_eq_true rfl⟩) ?_
    cases h
    exact W.iret hx hb hr (fun t ht hW => ⟨rfl, ht⟩) (fun q hq => absurd hq List.not_mem_nil) dX3_count_135
  have h := pi_f c22 h
  by_cases c25 : x1 = (8 : Int32)
  · have h := pi_t c25 h
    refine lv_tableIn (off := 135) (tgt := 136) hx hb dX3_count_1 (by rw [c25]; decide) (by rw [c25]; decide) (by rw [c25]; decide) (by decide) ?_
    refine lv_aload_n hx hb dX3_count_136 rfl (lv_at hl 0 rfl) ?_
    refine va_get (ci := 3) (v := .int pasts) (C := RX3) (T := TX3) (N := 16) hx hb hts in_X3 hown hK hP 0 rfl rfl 3 (by decide) (hts _ q1276) (fun _ h9 => h9) rfl dX3_count_137 ?_
    cases h
    exact W.iret hx hb hr (fun t ht hW => ⟨rfl, ht⟩) (fun q hq => absurd hq List.not_mem_nil) dX3_count_140
  have h := pi_f c25 h
  by_cases c26 : x1 = (9 : Int32)
  · have h := pi_t c26 h
    refine lv_tableIn (off := 140) (tgt := 141) hx hb dX3_count_1 (by rw [c26]; decide) (by rw [c26]; decide) (by rw [c26]; decide) (by decide) ?_
    refine lv_aload_n hx hb dX3_count_141 rfl (lv_at hl 0 rfl) ?_
    refine va_get (ci := 3) (v := .int typed) (C := RX3) (T := TX3) (N := 16) hx hb hts in_X3 hown hK hP 0 rfl rfl 6 (by decide) (hts _ q1279) (fun _ h9 => h9) rfl dX3_count_142 ?_
    cases h
    exact W.iret hx hb hr (fun t ht hW => ⟨rfl, ht⟩) (fun q hq => absurd hq List.not_mem_nil) dX3_count_145
  have h := pi_f c26 h
  by_cases c27 : x1 = (10 : Int32)
  · have h := pi_t c27 h
    refine lv_tableIn (off := 145) (tgt := 146) hx hb dX3_count_1 (by rw [c27]; decide) (by rw [c27]; decide) (by rw [c27]; decide) (by decide) ?_
    refine lv_aload_n hx hb dX3_count_146 rfl (lv_at hl 0 rfl) ?_
    obtain ⟨r29, e28, h⟩ := pb_some h
    refine m_callR (W.runV (As := []) (rest := []) ⟨hx, hb, hml, hown, hts⟩ (met_voicesAll e28) (cwV 0 hts (lw_V q1545 q1547 qs55 q77 q1548) rfl rfl rfl hd_voicesAll ⟨Nat.le_of_ble_eq_true rfl, Nat.le_of_ble_eq_true rfl⟩) (m_preV hK hP) rfl rfl hl.1 rfl (lv_room (Nat.le_of_ble_eq_true rfl)) dX3_count_147 ⟨Nat.le_of_ble_eq_true rfl, Nat.le_of_ble_eq_true rfl⟩) ?_
    cases h
    exact W.iret hx hb hr (fun t ht hW => ⟨rfl, ht⟩) (fun q hq => absurd hq List.not_mem_nil) dX3_count_150
  have h := pi_f c27 h
  by_cases c30 : x1 = (11 : Int32)
  · have h := pi_t c30 h
    refine lv_tableIn (off := 159) (tgt := 160) hx hb dX3_count_1 (by rw [c30]; decide) (by rw [c30]; decide) (by rw [c30]; decide) (by decide) ?_
    refine lv_ldc hx hb hown (hts _ q1329) dX3_count_160 ?_
    cases h
    exact W.iret hx hb hr (fun t ht hW => ⟨rfl, ht⟩) (fun q hq => absurd hq List.not_mem_nil) dX3_count_162
  have h := pi_f c30 h
  by_cases c31 : x1 = (12 : Int32)
  · have h := pi_t c31 h
    refine lv_tableIn (off := 159) (tgt := 160) hx hb dX3_count_1 (by rw [c31]; decide) (by rw [c31]; decide) (by rw [c31]; decide) (by decide) ?_
    refine lv_ldc hx hb hown (hts _ q1329) dX3_count_160 ?_
    cases h
    exact W.iret hx hb hr (fun t ht hW => ⟨rfl, ht⟩) (fun q hq => absurd hq List.not_mem_nil) dX3_count_162
  have h := pi_f c31 h
  by_cases c32 : x1 = (13 : Int32)
  · have h := pi_t c32 h
    refine lv_tableIn (off := 159) (tgt := 160) hx hb dX3_count_1 (by rw [c32]; decide) (by rw [c32]; decide) (by rw [c32]; decide) (by decide) ?_
    refine lv_ldc hx hb hown (hts _ q1329) dX3_count_160 ?_
    cases h
    exact W.iret hx hb hr (fun t ht hW => ⟨rfl, ht⟩) (fun q hq => absurd hq List.not_mem_nil) dX3_count_162
  have h := pi_f c32 h
  by_cases c33 : x1 = (14 : Int32)
  · have h := pi_t c33 h
    refine lv_tableIn (off := 159) (tgt := 160) hx hb dX3_count_1 (by rw [c33]; decide) (by rw [c33]; decide) (by rw [c33]; decide) (by decide) ?_
    refine lv_ldc hx hb hown (hts _ q1329) dX3_count_160 ?_
    cases h
    exact W.iret hx hb hr (fun t ht hW => ⟨rfl, ht⟩) (fun q hq => absurd hq List.not_mem_nil) dX3_count_162
  have h := pi_f c33 h
  by_cases c34 : x1 = (15 : Int32)
  · have h := pi_t c34 h
    refine lv_tableIn (off := 159) (tgt := 160) hx hb dX3_count_1 (by rw [c34]; decide) (by rw [c34]; decide) (by rw [c34]; decide) (by decide) ?_
    refine lv_ldc hx hb hown (hts _ q1329) dX3_count_160 ?_
    cases h
    exact W.iret hx hb hr (fun t ht hW => ⟨rfl, ht⟩) (fun q hq => absurd hq List.not_mem_nil) dX3_count_162
  have h := pi_f c34 h
  by_cases c35 : x1 = (16 : Int32)
  · have h := pi_t c35 h
    refine lv_tableIn (off := 159) (tgt := 160) hx hb dX3_count_1 (by rw [c35]; decide) (by rw [c35]; decide) (by rw [c35]; decide) (by decide) ?_
    refine lv_ldc hx hb hown (hts _ q1329) dX3_count_160 ?_
    cases h
    exact W.iret hx hb hr (fun t ht hW => ⟨rfl, ht⟩) (fun q hq => absurd hq List.not_mem_nil) dX3_count_162
  have h := pi_f c35 h
  by_cases c36 : x1 = (17 : Int32)
  · have h := pi_t c36 h
    refine lv_tableIn (off := 159) (tgt := 160) hx hb dX3_count_1 (by rw [c36]; decide) (by rw [c36]; decide) (by rw [c36]; decide) (by decide) ?_
    refine lv_ldc hx hb hown (hts _ q1329) dX3_count_160 ?_
    cases h
    exact W.iret hx hb hr (fun t ht hW => ⟨rfl, ht⟩) (fun q hq => absurd hq List.not_mem_nil) dX3_count_162
  have h := pi_f c36 h
  by_cases c37 : x1 = (18 : Int32)
  · have h := pi_t c37 h
    refine lv_tableIn (off := 159) (tgt := 160) hx hb dX3_count_1 (by rw [c37]; decide) (by rw [c37]; decide) (by rw [c37]; decide) (by decide) ?_
    refine lv_ldc hx hb hown (hts _ q1329) dX3_count_160 ?_
    cases h
    exact W.iret hx hb hr (fun t ht hW => ⟨rfl, ht⟩) (fun q hq => absurd hq List.not_mem_nil) dX3_count_162
  have h := pi_f c37 h
  by_cases c38 : x1 = (19 : Int32)
  · have h := pi_t c38 h
    refine lv_tableIn (off := 159) (tgt := 160) hx hb dX3_count_1 (by rw [c38]; decide) (by rw [c38]; decide) (by rw [c38]; decide) (by decide) ?_
    refine lv_ldc hx hb hown (hts _ q1329) dX3_count_160 ?_
    cases h
    exact W.iret hx hb hr (fun t ht hW => ⟨rfl, ht⟩) (fun q hq => absurd hq List.not_mem_nil) dX3_count_162
  have h := pi_f c38 h
  by_cases c39 : x1 = (20 : Int32)
  · have h := pi_t c39 h
    refine lv_tableIn (off := 150) (tgt := 151) hx hb dX3_count_1 (by rw [c39]; decide) (by rw [c39]; decide) (by rw [c39]; decide) (by decide) ?_
    refine lv_aload_n hx hb dX3_count_151 rfl (lv_at hl 0 rfl) ?_
    refine va_get (ci := 3) (v := .ref (a 1)) (C := RX3) (T := TX3) (N := 16) hx hb hts in_X3 hown hK hP 0 rfl rfl 0 (by decide) (hts _ q1273) (fun _ h9 => h9) rfl dX3_count_152 ?_
    refine lv_sipush (v := 283) hx hb dX3_count_155 (by decide) ?_
    refine m_iald (k := 283) hx hb hK hP 1 0 rfl rfl (by decide) (by decide) dX3_count_158 ?_
    cases h
    exact W.iret hx hb hr (fun t ht hW => ⟨rfl, ht⟩) (fun q hq => absurd hq List.not_mem_nil) dX3_count_159
  have h := pi_f c39 h
  refine lv_tableOut (tgt := 160) hx hb dX3_count_1 (sw_out 0 20 (fun k h1 h2 => ?_)) (by decide) ?_
  · rcases (show k = 0 ∨ k = 1 ∨ k = 2 ∨ k = 3 ∨ k = 4 ∨ k = 5 ∨ k = 6 ∨ k = 7 ∨ k = 8 ∨ k = 9 ∨ k = 10 ∨ k = 11 ∨ k = 12 ∨ k = 13 ∨ k = 14 ∨ k = 15 ∨ k = 16 ∨ k = 17 ∨ k = 18 ∨ k = 19 ∨ k = 20 by omega) with rfl | rfl | rfl | rfl | rfl | rfl | rfl | rfl | rfl | rfl | rfl | rfl | rfl | rfl | rfl | rfl | rfl | rfl | rfl | rfl | rfl
    · exact sw_ne (by decide) c1
    · exact sw_ne (by decide) c2
    · exact sw_ne (by decide) c7
    · exact sw_ne (by decide) c10
    · exact sw_ne (by decide) c13
    · exact sw_ne (by decide) c16
    · exact sw_ne (by decide) c19
    · exact sw_ne (by decide) c22
    · exact sw_ne (by decide) c25
    · exact sw_ne (by decide) c26
    · exact sw_ne (by decide) c27
    · exact sw_ne (by decide) c30
    · exact sw_ne (by decide) c31
    · exact sw_ne (by decide) c32
    · exact sw_ne (by decide) c33
    · exact sw_ne (by decide) c34
    · exact sw_ne (by decide) c35
    · exact sw_ne (by decide) c36
    · exact sw_ne (by decide) c37
    · exact sw_ne (by decide) c38
    · exact sw_ne (by decide) c39
  refine lv_ldc hx hb hown (hts _ q1329) dX3_count_160 ?_
  cases h
  exact W.iret hx hb hr (fun t ht hW => ⟨rfl, ht⟩) (fun q hq => absurd hq List.not_mem_nil) dX3_count_162
theorem hd_undo : yX3_undo.cls = RX3 ∧ yX3_undo.cls ≠ "java/lang/invoke/MethodHandle" ∧ yX3_undo.cls ≠ "java/lang/invoke/VarHandle" ∧ (parseMethodDescriptor yX3_undo.desc).map (fun d => d.parameters.length) = some 0 := by decide +kernel
set_option maxHeartbeats 4000000 in
set_option maxRecDepth 100000 in
theorem lp_undo_1 {p : Program} {l : Launch} {e : Env} {s : State} {m : MethodId} {args : Array Value} {below : List Frame} {meth : Method} {c : Code} {D : va_G} {dA : ClassId} {a : Nat → Nat} {Q : State → Prop} (hx : p.tables.exec = Jvm.exec) (hb : c.code = cX3_undo) (hml : c.maxLocals = 2) (hown : s.vm.findClass RX3 = some m.cls) (hts : ∀ w ∈ lw_all, w.before args s = true) {H0 : Heap} {A : Nat → Prop} {past : Nat → Int32} {held : Nat → Int32} {text : Nat → Int32} {parted : Nat → Int32} {asShown : Nat → Int32} {told : Nat → Int32} {pasts : Int32} {runs : Int32} {typed : Int32} {spot : Int32} {from_ : Int32} {reason : Int32} {cause : Int32} {orders : Int32} {order : Int32} (hK : va_K D gCl [(dA, .int)] s) (hD : mDD A dA a)  (nf : Nat) : ∀ (n : Nat) (y1 : Int32) (sA : Nat → Int32) (z : (Nat → Int32)), m_undo_L1 nf past pasts n y1 sA = some z → ∀ (H : Heap) (locs : List Loc) (ls : Array Slot), va_P D gCl (mW dA a sA past held text parted asShown told pasts runs typed spot from_ reason cause orders order) H → va_S A H0 H locs → lv_has ls 2 [(1, .int y1), (0, .ref (a 0))] → (∀ (H : Heap) (locs : List Loc) (ls : Array Slot), va_P D gCl (mW dA a z past held text parted asShown told pasts runs typed spot from_ reason cause orders order) H → va_S A H0 H locs → lv_has ls 2 [(0, .ref (a 0))] → W p l e ({ frames := 1, cells := 0, slots := 0, locals := 12 } : Room) s m args below meth c H locs 0 0 Q (F0 m 56 ls [])) → W p l e ({ frames := 1, cells := 0, slots := 0, locals := 12 } : Room) s m args below meth c H locs 0 0 Q (F0 m 22 ls []) := by
  intro n
  induction n with
  | zero => intro y1 sA z h H locs ls hP hS hl K; exact absurd h (by simp [m_undo_L1])
  | succ n ih =>
    intro y1 sA z h H locs ls hP hS hl K
    unfold m_undo_L1 at h
    refine lv_iload_n hx hb dX3_undo_22 rfl (lv_at hl 0 rfl) ?_
    refine lv_sipush (v := 284) hx hb dX3_undo_23 (by decide) ?_
    refine lv_icmp_ge (tgt := 56) hx hb dX3_undo_26 (by decide) (fun c1 => ?_) (fun c1 => ?_)
    · have h := pi_t c1 h
      cases h
      exact K H locs ls hP hS (lv_sub hl [1] rfl)
    · have h := pi_f c1 h
      refine lv_aload_n hx hb dX3_undo_29 rfl (lv_at hl 1 rfl) ?_
      refine va_get (ci := 3) (v := .ref (a 1)) (C := RX3) (T := TX3) (N := 16) hx hb hts in_X3 hown hK hP 0 rfl rfl 0 (by decide) (hts _ q1273) (fun _ h9 => h9) rfl dX3_undo_30 ?_
      refine lv_iload_n hx hb dX3_undo_33 rfl (lv_at hl 0 rfl) ?_
      refine lv_aload_n hx hb dX3_undo_34 rfl (lv_at hl 1 rfl) ?_
      refine va_get (ci := 3) (v := .ref (a 2)) (C := RX3) (T := TX3) (N := 16) hx hb hts in_X3 hown hK hP 0 rfl rfl 1 (by decide) (hts _ q1274) (fun _ h9 => h9) rfl dX3_undo_35 ?_
      refine lv_sipush (v := 284) hx hb dX3_undo_38 (by decide) ?_
      refine lv_aload_n hx hb dX3_undo_41 rfl (lv_at hl 1 rfl) ?_
      refine va_get (ci := 3) (v := .int pasts) (C := RX3) (T := TX3) (N := 16) hx hb hts in_X3 hown hK hP 0 rfl rfl 3 (by decide) (hts _ q1276) (fun _ h9 => h9) rfl dX3_undo_42 ?_
      refine lv_imul hx hb dX3_undo_45 ?_
      refine lv_iload_n hx hb dX3_undo_46 rfl (lv_at hl 0 rfl) ?_
      refine lv_iadd hx hb dX3_undo_47 ?_
      obtain ⟨g2, h⟩ := pg_some h
      refine va_iald hx hb hK hP 2 0 rfl rfl g2 dX3_undo_48 ?_
      obtain ⟨g3, h⟩ := pg_some h
      refine va_iast hx hb hK hP (hD _ _ _ _ _ _ _ _ _ _ _ _ _ _ _ _) hS 1 0 rfl rfl g3 dX3_undo_49 (fun H locs hP _ hS => ?_)
      have hP : va_P D gCl (mW dA a (upd sA y1.toNatClampNeg (past (((284 : Int32) * pasts) + y1).toNatClampNeg)) past held text parted asShown told pasts runs typed spot from_ reason cause orders order) H := hP
      refine lv_iinc (v := (y1 + (1 : Int32))) (lv' := [(1, .int (y1 + (1 : Int32))), (0, .ref (a 0))]) hx hb dX3_undo_50 hl (k := 0) rfl (by rfl) (by decide) rfl (fun ls hl => ?_)
      refine lv_goto (tgt := 22) hx hb dX3_undo_53 (by decide) ?_
      exact ih _ _ _ h H locs ls hP hS (lv_sub hl [0, 1] rfl) K
set_option maxHeartbeats 4000000 in
set_option maxRecDepth 100000 in
theorem met_undo {l : Launch} {D : va_G} {dA : ClassId} {a : Nat → Nat} {sA past held text parted asShown told : Nat → Int32} {pasts runs typed spot from_ reason cause orders order : Int32} {A : Nat → Prop} (hD : mDD A dA a) {nf : Nat} {r : Int32} {sA' : Nat → Int32} {pasts' : Int32} (h : m_undo nf sA past pasts  = some (r, sA', pasts')) : Met l yX3_undo (ws_ yX3_undo cX3_undo 2 (some .int)) ({ frames := 1, cells := 0, slots := 0, locals := 12 } : Room) (mPc [.ref (a 0)] D dA a sA past held text parted asShown told pasts runs typed spot from_ reason cause orders order) (va_Qi (fun r2 (_ : Unit) => r2 = r) (fun _ t => va_P D gCl (mW dA a sA' past held text parted asShown told pasts' runs typed spot from_ reason cause orders order) t.heap) A) 0 0 A := by
  refine Met.ofW (cc := cX3_undo) (maxL := 2) (ret := (some .int)) (by decide) rfl ?_
  intro p e s m args below meth c s₁ B hml hv
  obtain ⟨rfl, hP, hK⟩ := hv
  have hx := B.exec
  have hb := B.bytes
  have hr := B.returns
  have hts := atoms_spec (ws := ws_ yX3_undo cX3_undo 2 (some .int)) B.pre
  have hts : ∀ w ∈ lw_all, w.before _ s = true := fun w h => hts w (List.mem_cons_of_mem _ h)
  have hown : s.vm.findClass RX3 = some m.cls := findClass_of_methodNamed B.named
  have hlocks := B.notSynchronized
  have hS : va_S A s.heap s.heap [] := va_S.rf
  have hl := lv_entry ([.ref (a 0)]) (n := 2) (Nat.le_of_ble_eq_true rfl)
  rw [lg_entry_eq]
  generalize (lg_sl ([.ref (a 0)]) ++ List.replicate (2 - (lg_sl ([.ref (a 0)])).length) Slot.unset).toArray = ls at hl ⊢
  have hl : lv_has ls 2 [(0, .ref (a 0))] := hl
  unfold m_undo at h
  refine lv_aload_n hx hb dX3_undo_0 rfl (lv_at hl 0 rfl) ?_
  refine va_get (ci := 3) (v := .int pasts) (C := RX3) (T := TX3) (N := 16) hx hb hts in_X3 hown hK hP 0 rfl rfl 3 (by decide) (hts _ q1276) (fun _ h9 => h9) rfl dX3_undo_1 ?_
  refine lv_if_ne (tgt := 10) hx hb dX3_undo_4 (by decide) (fun c1 => ?_) (fun c1 => ?_)
  · have h := pi_f c1 h
    refine lv_aload_n hx hb dX3_undo_10 rfl (lv_at hl 0 rfl) ?_
    refine lv_dup hx hb dX3_undo_11 rfl ?_
    refine va_get (ci := 3) (v := .int pasts) (C := RX3) (T := TX3) (N := 16) hx hb hts in_X3 hown hK hP 0 rfl rfl 3 (by decide) (hts _ q1276) (fun _ h9 => h9) rfl dX3_undo_12 ?_
    refine lv_iconst (v := 1) hx hb dX3_undo_15 (by decide) ?_
    refine lv_isub hx hb dX3_undo_16 ?_
    refine va_put (ci := 3) (v := .int (pasts - (1 : Int32))) (ty := .int) (C := RX3) (T := TX3) (N := 16) hx hb hts in_X3 tyX3 tyX3_ok nmX3 hown hK hP (hD _ _ _ _ _ _ _ _ _ _ _ _ _ _ _ _) hS 0 rfl rfl 3 (by decide) (hts _ q1276) (fun _ h9 => h9) rfl (by decide +kernel) rfl rfl (Nat.le_of_ble_eq_true rfl) dX3_undo_17 (fun H locs hP _ hS => ?_)
    have hP : va_P D gCl (mW dA a sA past held text parted asShown told (pasts - (1 : Int32)) runs typed spot from_ reason cause orders order) H := hP
    refine lv_iconst (v := 0) hx hb dX3_undo_20 (by decide) ?_
    refine lv_istore_n (lv' := [(1, .int (0 : Int32)), (0, .ref (a 0))]) hx hb dX3_undo_21 rfl hl (by decide) rfl (fun ls hl => ?_)
    obtain ⟨sA_2, e501, h⟩ := pb_some h
    refine lp_undo_1 hx hb hml hown hts hK hD _ _ _ _ _ e501 _ _ ls hP hS (lv_sub hl [0, 1] rfl) (fun H locs ls hP hS hl => ?_)
    refine lv_aload_n hx hb dX3_undo_56 rfl (lv_at hl 0 rfl) ?_
    refine va_get (ci := 3) (v := .int (pasts - (1 : Int32))) (C := RX3) (T := TX3) (N := 16) hx hb hts in_X3 hown hK hP 0 rfl rfl 3 (by decide) (hts _ q1276) (fun _ h9 => h9) rfl dX3_undo_57 ?_
    cases h
    exact W.iret hx hb hr (fun t ht hW => ⟨⟨_, (), rfl, rfl, (show va_P D gCl _ t.heap from by rw [ht]; exact hP)⟩, hS.F ht⟩) hS.2.2 dX3_undo_60
  · have h := pi_t c1 h
    refine lv_ldc hx hb hown (hts _ q1385) dX3_undo_7 ?_
    cases h
    exact W.iret hx hb hr (fun t ht hW => ⟨⟨_, (), rfl, rfl, (show va_P D gCl _ t.heap from by rw [ht]; exact hP)⟩, hS.F ht⟩) hS.2.2 dX3_undo_9
theorem hd_type : yX3_type.cls = RX3 ∧ yX3_type.cls ≠ "java/lang/invoke/MethodHandle" ∧ yX3_type.cls ≠ "java/lang/invoke/VarHandle" ∧ (parseMethodDescriptor yX3_type.desc).map (fun d => d.parameters.length) = some 1 := by decide +kernel
set_option maxHeartbeats 4000000 in
set_option maxRecDepth 100000 in
theorem met_type {l : Launch} {D : va_G} {dA : ClassId} {a : Nat → Nat} {sA past held text parted asShown told : Nat → Int32} {pasts runs typed spot from_ reason cause orders order : Int32} {A : Nat → Prop} (hD : mDD A dA a) {x1 : Int32} {r : Int32} {text' : Nat → Int32} {typed' : Int32} (h : m_type text typed x1 = some (r, text', typed')) : Met l yX3_type (ws_ yX3_type cX3_type 2 (some .int)) ({ frames := 2, cells := 0, slots := 0, locals := 34 } : Room) (mPc [.ref (a 0), .int x1] D dA a sA past held text parted asShown told pasts runs typed spot from_ reason cause orders order) (va_Qi (fun r2 (_ : Unit) => r2 = r) (fun _ t => va_P D gCl (mW dA a sA past held text' parted asShown told pasts runs typed' spot from_ reason cause orders order) t.heap) A) 0 0 A := by
  refine Met.ofW (cc := cX3_type) (maxL := 2) (ret := (some .int)) (by decide) rfl ?_
  intro p e s m args below meth c s₁ B hml hv
  obtain ⟨rfl, hP, hK⟩ := hv
  have hx := B.exec
  have hb := B.bytes
  have hr := B.returns
  have hts := atoms_spec (ws := ws_ yX3_type cX3_type 2 (some .int)) B.pre
  have hts : ∀ w ∈ lw_all, w.before _ s = true := fun w h => hts w (List.mem_cons_of_mem _ h)
  have hown : s.vm.findClass RX3 = some m.cls := findClass_of_methodNamed B.named
  have hlocks := B.notSynchronized
  have hS : va_S A s.heap s.heap [] := va_S.rf
  have hl := lv_entry ([.ref (a 0), .int x1]) (n := 2) (Nat.le_of_ble_eq_true rfl)
  rw [lg_entry_eq]
  generalize (lg_sl ([.ref (a 0), .int x1]) ++ List.replicate (2 - (lg_sl ([.ref (a 0), .int x1])).length) Slot.unset).toArray = ls at hl ⊢
  have hl : lv_has ls 2 [(0, .ref (a 0)), (1, .int x1)] := hl
  unfold m_type at h
  refine lv_iload_n hx hb dX3_type_0 rfl (lv_at hl 1 rfl) ?_
  refine lv_bipush (v := 32) hx hb dX3_type_1 (by decide) ?_
  refine lv_bipush (v := 126) hx hb dX3_type_3 (by decide) ?_
  obtain ⟨b2, e1, h⟩ := pb_some h
  refine m_callR (W.runS (As := [.int x1, .int (32 : Int32), .int (126 : Int32)]) (rest := []) ⟨hx, hb, hml, hown, hts⟩ (met_in e1) (va_cwS 3 hts (lw_S q1326 q1327 q77 q1328) rfl rfl rfl hd_in ⟨Nat.le_of_ble_eq_true rfl, Nat.le_of_ble_eq_true rfl⟩) m_preS rfl rfl hl.1 rfl (lv_room (Nat.le_of_ble_eq_true rfl)) dX3_type_5 ⟨Nat.le_of_ble_eq_true rfl, Nat.le_of_ble_eq_true rfl⟩) ?_
  refine lv_if_ne (tgt := 14) hx hb dX3_type_8 (by decide) (fun c3 => ?_) (fun c3 => ?_)
  · have h := pi_f c3 h
    refine lv_aload_n hx hb dX3_type_14 rfl (lv_at hl 0 rfl) ?_
    refine va_get (ci := 3) (v := .int typed) (C := RX3) (T := TX3) (N := 16) hx hb hts in_X3 hown hK hP 0 rfl rfl 6 (by decide) (hts _ q1279) (fun _ h9 => h9) rfl dX3_type_15 ?_
    refine lv_bipush (v := 60) hx hb dX3_type_18 (by decide) ?_
    refine lv_icmp_ne (tgt := 26) hx hb dX3_type_20 (by decide) (fun c4 => ?_) (fun c4 => ?_)
    · have h := pi_f c4 h
      refine lv_aload_n hx hb dX3_type_26 rfl (lv_at hl 0 rfl) ?_
      refine va_get (ci := 3) (v := .ref (a 4)) (C := RX3) (T := TX3) (N := 16) hx hb hts in_X3 hown hK hP 0 rfl rfl 5 (by decide) (hts _ q1278) (fun _ h9 => h9) rfl dX3_type_27 ?_
      refine lv_aload_n hx hb dX3_type_30 rfl (lv_at hl 0 rfl) ?_
      refine va_get (ci := 3) (v := .int typed) (C := RX3) (T := TX3) (N := 16) hx hb hts in_X3 hown hK hP 0 rfl rfl 6 (by decide) (hts _ q1279) (fun _ h9 => h9) rfl dX3_type_31 ?_
      refine lv_iload_n hx hb dX3_type_34 rfl (lv_at hl 1 rfl) ?_
      obtain ⟨g5, h⟩ := pg_some h
      refine va_iast hx hb hK hP (hD _ _ _ _ _ _ _ _ _ _ _ _ _ _ _ _) hS 4 0 rfl rfl g5 dX3_type_35 (fun H locs hP _ hS => ?_)
      have hP : va_P D gCl (mW dA a sA past held (upd text typed.toNatClampNeg x1) parted asShown told pasts runs typed spot from_ reason cause orders order) H := hP
      refine lv_aload_n hx hb dX3_type_36 rfl (lv_at hl 0 rfl) ?_
      refine lv_dup hx hb dX3_type_37 rfl ?_
      refine va_get (ci := 3) (v := .int typed) (C := RX3) (T := TX3) (N := 16) hx hb hts in_X3 hown hK hP 0 rfl rfl 6 (by decide) (hts _ q1279) (fun _ h9 => h9) rfl dX3_type_38 ?_
      refine lv_iconst (v := 1) hx hb dX3_type_41 (by decide) ?_
      refine lv_iadd hx hb dX3_type_42 ?_
      refine va_put (ci := 3) (v := .int (typed + (1 : Int32))) (ty := .int) (C := RX3) (T := TX3) (N := 16) hx hb hts in_X3 tyX3 tyX3_ok nmX3 hown hK hP (hD _ _ _ _ _ _ _ _ _ _ _ _ _ _ _ _) hS 0 rfl rfl 6 (by decide) (hts _ q1279) (fun _ h9 => h9) rfl (by decide +kernel) rfl rfl (Nat.le_of_ble_eq_true rfl) dX3_type_43 (fun H locs hP _ hS => ?_)
      have hP : va_P D gCl (mW dA a sA past held (upd text typed.toNatClampNeg x1) parted asShown told pasts runs (typed + (1 : Int32)) spot from_ reason cause orders order) H := hP
      refine lv_aload_n hx hb dX3_type_46 rfl (lv_at hl 0 rfl) ?_
      refine va_get (ci := 3) (v := .int (typed + (1 : Int32))) (C := RX3) (T := TX3) (N := 16) hx hb hts in_X3 hown hK hP 0 rfl rfl 6 (by decide) (hts _ q1279) (fun _ h9 => h9) rfl dX3_type_47 ?_
      cases h
      exact W.iret hx hb hr (fun t ht hW => ⟨⟨_, (), rfl, rfl, (show va_P D gCl _ t.heap from by rw [ht]; exact hP)⟩, hS.F ht⟩) hS.2.2 dX3_type_50
    · have h := pi_t c4 h
      refine lv_ldc hx hb hown (hts _ q1330) dX3_type_23 ?_
      cases h
      exact W.iret hx hb hr (fun t ht hW => ⟨⟨_, (), rfl, rfl, (show va_P D gCl _ t.heap from by rw [ht]; exact hP)⟩, hS.F ht⟩) hS.2.2 dX3_type_25
  · have h := pi_t c3 h
    refine lv_ldc hx hb hown (hts _ q1329) dX3_type_11 ?_
    cases h
    exact W.iret hx hb hr (fun t ht hW => ⟨⟨_, (), rfl, rfl, (show va_P D gCl _ t.heap from by rw [ht]; exact hP)⟩, hS.F ht⟩) hS.2.2 dX3_type_13
theorem hd_clearText : yX3_clearText.cls = RX3 ∧ yX3_clearText.cls ≠ "java/lang/invoke/MethodHandle" ∧ yX3_clearText.cls ≠ "java/lang/invoke/VarHandle" ∧ (parseMethodDescriptor yX3_clearText.desc).map (fun d => d.parameters.length) = some 0 := by decide +kernel
set_option maxHeartbeats 4000000 in
set_option maxRecDepth 100000 in
theorem met_clearText {l : Launch} {D : va_G} {dA : ClassId} {a : Nat → Nat} {sA past held text parted asShown told : Nat → Int32} {pasts runs typed spot from_ reason cause orders order : Int32} {A : Nat → Prop} (hD : mDD A dA a) {r : Int32} {typed' : Int32} (h : m_clearText typed  = some (r, typed')) : Met l yX3_clearText (ws_ yX3_clearText cX3_clearText 2 (some .int)) ({ frames := 1, cells := 0, slots := 0, locals := 12 } : Room) (mPc [.ref (a 0)] D dA a sA past held text parted asShown told pasts runs typed spot from_ reason cause orders order) (va_Qi (fun r2 (_ : Unit) => r2 = r) (fun _ t => va_P D gCl (mW dA a sA past held text parted asShown told pasts runs typed' spot from_ reason cause orders order) t.heap) A) 0 0 A := by
  refine Met.ofW (cc := cX3_clearText) (maxL := 2) (ret := (some .int)) (by decide) rfl ?_
  intro p e s m args below meth c s₁ B hml hv
  obtain ⟨rfl, hP, hK⟩ := hv
  have hx := B.exec
  have hb := B.bytes
  have hr := B.returns
  have hts := atoms_spec (ws := ws_ yX3_clearText cX3_clearText 2 (some .int)) B.pre
  have hts : ∀ w ∈ lw_all, w.before _ s = true := fun w h => hts w (List.mem_cons_of_mem _ h)
  have hown : s.vm.findClass RX3 = some m.cls := findClass_of_methodNamed B.named
  have hlocks := B.notSynchronized
  have hS : va_S A s.heap s.heap [] := va_S.rf
  have hl := lv_entry ([.ref (a 0)]) (n := 2) (Nat.le_of_ble_eq_true rfl)
  rw [lg_entry_eq]
  generalize (lg_sl ([.ref (a 0)]) ++ List.replicate (2 - (lg_sl ([.ref (a 0)])).length) Slot.unset).toArray = ls at hl ⊢
  have hl : lv_has ls 2 [(0, .ref (a 0))] := hl
  unfold m_clearText at h
  refine lv_aload_n hx hb dX3_clearText_0 rfl (lv_at hl 0 rfl) ?_
  refine va_get (ci := 3) (v := .int typed) (C := RX3) (T := TX3) (N := 16) hx hb hts in_X3 hown hK hP 0 rfl rfl 6 (by decide) (hts _ q1279) (fun _ h9 => h9) rfl dX3_clearText_1 ?_
  refine lv_istore_n (lv' := [(1, .int typed), (0, .ref (a 0))]) hx hb dX3_clearText_4 rfl hl (by decide) rfl (fun ls hl => ?_)
  refine lv_aload_n hx hb dX3_clearText_5 rfl (lv_at hl 1 rfl) ?_
  refine lv_iconst (v := 0) hx hb dX3_clearText_6 (by decide) ?_
  refine va_put (ci := 3) (v := .int (0 : Int32)) (ty := .int) (C := RX3) (T := TX3) (N := 16) hx hb hts in_X3 tyX3 tyX3_ok nmX3 hown hK hP (hD _ _ _ _ _ _ _ _ _ _ _ _ _ _ _ _) hS 0 rfl rfl 6 (by decide) (hts _ q1279) (fun _ h9 => h9) rfl (by decide +kernel) rfl rfl (Nat.le_of_ble_eq_true rfl) dX3_clearText_7 (fun H locs hP _ hS => ?_)
  have hP : va_P D gCl (mW dA a sA past held text parted asShown told pasts runs (0 : Int32) spot from_ reason cause orders order) H := hP
  refine lv_iload_n hx hb dX3_clearText_10 rfl (lv_at hl 0 rfl) ?_
  cases h
  exact W.iret hx hb hr (fun t ht hW => ⟨⟨_, (), rfl, rfl, (show va_P D gCl _ t.heap from by rw [ht]; exact hP)⟩, hS.F ht⟩) hS.2.2 dX3_clearText_11
theorem hd_copies : yX3_copies.cls ≠ "java/lang/invoke/MethodHandle" ∧ yX3_copies.cls ≠ "java/lang/invoke/VarHandle" ∧ (parseMethodDescriptor yX3_copies.desc).map (fun d => d.parameters.length) = some 2 := by decide +kernel
set_option maxHeartbeats 4000000 in
set_option maxRecDepth 100000 in
theorem lp_copies_sA_held_1 {p : Program} {l : Launch} {e : Env} {s : State} {m : MethodId} {args : Array Value} {below : List Frame} {meth : Method} {c : Code} {D : va_G} {dA : ClassId} {a : Nat → Nat} {Q : State → Prop} (hx : p.tables.exec = Jvm.exec) (hb : c.code = cX3_copies) (hml : c.maxLocals = 3) (hown : s.vm.findClass RX3 = some m.cls) (hts : ∀ w ∈ lw_all, w.before args s = true) {H0 : Heap} {A : Nat → Prop} {sA : Nat → Int32} {past : Nat → Int32} {text : Nat → Int32} {parted : Nat → Int32} {asShown : Nat → Int32} {told : Nat → Int32} {pasts : Int32} {runs : Int32} {typed : Int32} {spot : Int32} {from_ : Int32} {reason : Int32} {cause : Int32} {orders : Int32} {order : Int32} (hK : va_K D gCl [(dA, .int)] s) (hD : mDD A dA a)  (nf : Nat) : ∀ (n : Nat) (y2 : Int32) (held : Nat → Int32) (z : (Nat → Int32)), m_copies_sA_held_L1 nf sA n y2 held = some z → ∀ (H : Heap) (locs : List Loc) (ls : Array Slot), va_P D gCl (mW dA a sA past held text parted asShown told pasts runs typed spot from_ reason cause orders order) H → va_S A H0 H locs → lv_has ls 3 [(2, .int y2), (0, .ref (a 1)), (1, .ref (a 3))] → (∀ (H : Heap) (locs : List Loc) (ls : Array Slot), va_P D gCl (mW dA a sA past z text parted asShown told pasts runs typed spot from_ reason cause orders order) H → va_S A H0 H locs → lv_has ls 3 [(0, .ref (a 1)), (1, .ref (a 3))] → W p l e ({ frames := 1, cells := 0, slots := 0, locals := 12 } : Room) s m args below meth c H locs 0 0 Q (F0 m 21 ls [])) → W p l e ({ frames := 1, cells := 0, slots := 0, locals := 12 } : Room) s m args below meth c H locs 0 0 Q (F0 m 2 ls []) := by
  intro n
  induction n with
  | zero => intro y2 held z h H locs ls hP hS hl K; exact absurd h (by simp [m_copies_sA_held_L1])
  | succ n ih =>
    intro y2 held z h H locs ls hP hS hl K
    unfold m_copies_sA_held_L1 at h
    refine lv_iload_n hx hb dX3_copies_2 rfl (lv_at hl 0 rfl) ?_
    refine lv_sipush (v := 284) hx hb dX3_copies_3 (by decide) ?_
    refine lv_icmp_ge (tgt := 21) hx hb dX3_copies_6 (by decide) (fun c1 => ?_) (fun c1 => ?_)
    · have h := pi_t c1 h
      cases h
      exact K H locs ls hP hS (lv_sub hl [1, 2] rfl)
    · have h := pi_f c1 h
      refine lv_aload_n hx hb dX3_copies_9 rfl (lv_at hl 2 rfl) ?_
      refine lv_iload_n hx hb dX3_copies_10 rfl (lv_at hl 0 rfl) ?_
      refine lv_aload_n hx hb dX3_copies_11 rfl (lv_at hl 1 rfl) ?_
      refine lv_iload_n hx hb dX3_copies_12 rfl (lv_at hl 0 rfl) ?_
      obtain ⟨g2, h⟩ := pg_some h
      refine va_iald hx hb hK hP 1 0 rfl rfl g2 dX3_copies_13 ?_
      refine va_iast hx hb hK hP (hD _ _ _ _ _ _ _ _ _ _ _ _ _ _ _ _) hS 3 0 rfl rfl g2 dX3_copies_14 (fun H locs hP _ hS => ?_)
      have hP : va_P D gCl (mW dA a sA past (upd held y2.toNatClampNeg (sA y2.toNatClampNeg)) text parted asShown told pasts runs typed spot from_ reason cause orders order) H := hP
      refine lv_iinc (v := (y2 + (1 : Int32))) (lv' := [(2, .int (y2 + (1 : Int32))), (0, .ref (a 1)), (1, .ref (a 3))]) hx hb dX3_copies_15 hl (k := 0) rfl (by rfl) (by decide) rfl (fun ls hl => ?_)
      refine lv_goto (tgt := 2) hx hb dX3_copies_18 (by decide) ?_
      exact ih _ _ _ h H locs ls hP hS (lv_sub hl [0, 1, 2] rfl) K
set_option maxHeartbeats 4000000 in
set_option maxRecDepth 100000 in
theorem met_copies_sA_held {l : Launch} {D : va_G} {dA : ClassId} {a : Nat → Nat} {sA past held text parted asShown told : Nat → Int32} {pasts runs typed spot from_ reason cause orders order : Int32} {A : Nat → Prop} (hD : mDD A dA a) {nf : Nat}  {held' : Nat → Int32} (h : m_copies_sA_held nf sA held  = some held') : Met l yX3_copies (ws_ yX3_copies cX3_copies 3 none) ({ frames := 1, cells := 0, slots := 0, locals := 12 } : Room) (mPc [.ref (a 1), .ref (a 3)] D dA a sA past held text parted asShown told pasts runs typed spot from_ reason cause orders order) (va_Qv (fun _ => True) (fun (_ : Unit) t => va_P D gCl (mW dA a sA past held' text parted asShown told pasts runs typed spot from_ reason cause orders order) t.heap) A) 0 0 A := by
  refine Met.ofW (cc := cX3_copies) (maxL := 3) (ret := none) (by decide) rfl ?_
  intro p e s m args below meth c s₁ B hml hv
  obtain ⟨rfl, hP, hK⟩ := hv
  have hx := B.exec
  have hb := B.bytes
  have hr := B.returns
  have hts := atoms_spec (ws := ws_ yX3_copies cX3_copies 3 none) B.pre
  have hts : ∀ w ∈ lw_all, w.before _ s = true := fun w h => hts w (List.mem_cons_of_mem _ h)
  have hown : s.vm.findClass RX3 = some m.cls := findClass_of_methodNamed B.named
  have hlocks := B.notSynchronized
  have hS : va_S A s.heap s.heap [] := va_S.rf
  have hl := lv_entry ([.ref (a 1), .ref (a 3)]) (n := 3) (Nat.le_of_ble_eq_true rfl)
  rw [lg_entry_eq]
  generalize (lg_sl ([.ref (a 1), .ref (a 3)]) ++ List.replicate (3 - (lg_sl ([.ref (a 1), .ref (a 3)])).length) Slot.unset).toArray = ls at hl ⊢
  have hl : lv_has ls 3 [(0, .ref (a 1)), (1, .ref (a 3))] := hl
  unfold m_copies_sA_held at h
  refine lv_iconst (v := 0) hx hb dX3_copies_0 (by decide) ?_
  refine lv_istore_n (lv' := [(2, .int (0 : Int32)), (0, .ref (a 1)), (1, .ref (a 3))]) hx hb dX3_copies_1 rfl hl (by decide) rfl (fun ls hl => ?_)
  obtain ⟨held_1, e501, h⟩ := pb_some h
  refine lp_copies_sA_held_1 hx hb hml hown hts hK hD _ _ _ _ _ e501 _ _ ls hP hS (lv_sub hl [0, 1, 2] rfl) (fun H locs ls hP hS hl => ?_)
  cases h
  exact W.vret hx hb hr (fun t ht hW => ⟨⟨(), rfl, trivial, (show va_P D gCl _ t.heap from by rw [ht]; exact hP)⟩, hS.F ht⟩) hS.2.2 dX3_copies_21
set_option maxHeartbeats 4000000 in
set_option maxRecDepth 100000 in
theorem lp_copies_held_sA_1 {p : Program} {l : Launch} {e : Env} {s : State} {m : MethodId} {args : Array Value} {below : List Frame} {meth : Method} {c : Code} {D : va_G} {dA : ClassId} {a : Nat → Nat} {Q : State → Prop} (hx : p.tables.exec = Jvm.exec) (hb : c.code = cX3_copies) (hml : c.maxLocals = 3) (hown : s.vm.findClass RX3 = some m.cls) (hts : ∀ w ∈ lw_all, w.before args s = true) {H0 : Heap} {A : Nat → Prop} {past : Nat → Int32} {held : Nat → Int32} {text : Nat → Int32} {parted : Nat → Int32} {asShown : Nat → Int32} {told : Nat → Int32} {pasts : Int32} {runs : Int32} {typed : Int32} {spot : Int32} {from_ : Int32} {reason : Int32} {cause : Int32} {orders : Int32} {order : Int32} (hK : va_K D gCl [(dA, .int)] s) (hD : mDD A dA a)  (nf : Nat) : ∀ (n : Nat) (y2 : Int32) (sA : Nat → Int32) (z : (Nat → Int32)), m_copies_held_sA_L1 nf held n y2 sA = some z → ∀ (H : Heap) (locs : List Loc) (ls : Array Slot), va_P D gCl (mW dA a sA past held text parted asShown told pasts runs typed spot from_ reason cause orders order) H → va_S A H0 H locs → lv_has ls 3 [(2, .int y2), (0, .ref (a 3)), (1, .ref (a 1))] → (∀ (H : Heap) (locs : List Loc) (ls : Array Slot), va_P D gCl (mW dA a z past held text parted asShown told pasts runs typed spot from_ reason cause orders order) H → va_S A H0 H locs → lv_has ls 3 [(0, .ref (a 3)), (1, .ref (a 1))] → W p l e ({ frames := 1, cells := 0, slots := 0, locals := 12 } : Room) s m args below meth c H locs 0 0 Q (F0 m 21 ls [])) → W p l e ({ frames := 1, cells := 0, slots := 0, locals := 12 } : Room) s m args below meth c H locs 0 0 Q (F0 m 2 ls []) := by
  intro n
  induction n with
  | zero => intro y2 sA z h H locs ls hP hS hl K; exact absurd h (by simp [m_copies_held_sA_L1])
  | succ n ih =>
    intro y2 sA z h H locs ls hP hS hl K
    unfold m_copies_held_sA_L1 at h
    refine lv_iload_n hx hb dX3_copies_2 rfl (lv_at hl 0 rfl) ?_
    refine lv_sipush (v := 284) hx hb dX3_copies_3 (by decide) ?_
    refine lv_icmp_ge (tgt := 21) hx hb dX3_copies_6 (by decide) (fun c1 => ?_) (fun c1 => ?_)
    · have h := pi_t c1 h
      cases h
      exact K H locs ls hP hS (lv_sub hl [1, 2] rfl)
    · have h := pi_f c1 h
      refine lv_aload_n hx hb dX3_copies_9 rfl (lv_at hl 2 rfl) ?_
      refine lv_iload_n hx hb dX3_copies_10 rfl (lv_at hl 0 rfl) ?_
      refine lv_aload_n hx hb dX3_copies_11 rfl (lv_at hl 1 rfl) ?_
      refine lv_iload_n hx hb dX3_copies_12 rfl (lv_at hl 0 rfl) ?_
      obtain ⟨g2, h⟩ := pg_some h
      refine va_iald hx hb hK hP 3 0 rfl rfl g2 dX3_copies_13 ?_
      refine va_iast hx hb hK hP (hD _ _ _ _ _ _ _ _ _ _ _ _ _ _ _ _) hS 1 0 rfl rfl g2 dX3_copies_14 (fun H locs hP _ hS => ?_)
      have hP : va_P D gCl (mW dA a (upd sA y2.toNatClampNeg (held y2.toNatClampNeg)) past held text parted asShown told pasts runs typed spot from_ reason cause orders order) H := hP
      refine lv_iinc (v := (y2 + (1 : Int32))) (lv' := [(2, .int (y2 + (1 : Int32))), (0, .ref (a 3)), (1, .ref (a 1))]) hx hb dX3_copies_15 hl (k := 0) rfl (by rfl) (by decide) rfl (fun ls hl => ?_)
      refine lv_goto (tgt := 2) hx hb dX3_copies_18 (by decide) ?_
      exact ih _ _ _ h H locs ls hP hS (lv_sub hl [0, 1, 2] rfl) K
set_option maxHeartbeats 4000000 in
set_option maxRecDepth 100000 in
theorem met_copies_held_sA {l : Launch} {D : va_G} {dA : ClassId} {a : Nat → Nat} {sA past held text parted asShown told : Nat → Int32} {pasts runs typed spot from_ reason cause orders order : Int32} {A : Nat → Prop} (hD : mDD A dA a) {nf : Nat}  {sA' : Nat → Int32} (h : m_copies_held_sA nf sA held  = some sA') : Met l yX3_copies (ws_ yX3_copies cX3_copies 3 none) ({ frames := 1, cells := 0, slots := 0, locals := 12 } : Room) (mPc [.ref (a 3), .ref (a 1)] D dA a sA past held text parted asShown told pasts runs typed spot from_ reason cause orders order) (va_Qv (fun _ => True) (fun (_ : Unit) t => va_P D gCl (mW dA a sA' past held text parted asShown told pasts runs typed spot from_ reason cause orders order) t.heap) A) 0 0 A := by
  refine Met.ofW (cc := cX3_copies) (maxL := 3) (ret := none) (by decide) rfl ?_
  intro p e s m args below meth c s₁ B hml hv
  obtain ⟨rfl, hP, hK⟩ := hv
  have hx := B.exec
  have hb := B.bytes
  have hr := B.returns
  have hts := atoms_spec (ws := ws_ yX3_copies cX3_copies 3 none) B.pre
  have hts : ∀ w ∈ lw_all, w.before _ s = true := fun w h => hts w (List.mem_cons_of_mem _ h)
  have hown : s.vm.findClass RX3 = some m.cls := findClass_of_methodNamed B.named
  have hlocks := B.notSynchronized
  have hS : va_S A s.heap s.heap [] := va_S.rf
  have hl := lv_entry ([.ref (a 3), .ref (a 1)]) (n := 3) (Nat.le_of_ble_eq_true rfl)
  rw [lg_entry_eq]
  generalize (lg_sl ([.ref (a 3), .ref (a 1)]) ++ List.replicate (3 - (lg_sl ([.ref (a 3), .ref (a 1)])).length) Slot.unset).toArray = ls at hl ⊢
  have hl : lv_has ls 3 [(0, .ref (a 3)), (1, .ref (a 1))] := hl
  unfold m_copies_held_sA at h
  refine lv_iconst (v := 0) hx hb dX3_copies_0 (by decide) ?_
  refine lv_istore_n (lv' := [(2, .int (0 : Int32)), (0, .ref (a 3)), (1, .ref (a 1))]) hx hb dX3_copies_1 rfl hl (by decide) rfl (fun ls hl => ?_)
  obtain ⟨sA_1, e501, h⟩ := pb_some h
  refine lp_copies_held_sA_1 hx hb hml hown hts hK hD _ _ _ _ _ e501 _ _ ls hP hS (lv_sub hl [0, 1, 2] rfl) (fun H locs ls hP hS hl => ?_)
  cases h
  exact W.vret hx hb hr (fun t ht hW => ⟨⟨(), rfl, trivial, (show va_P D gCl _ t.heap from by rw [ht]; exact hP)⟩, hS.F ht⟩) hS.2.2 dX3_copies_21
theorem hd_calls : yX3_calls.cls = RX3 ∧ yX3_calls.cls ≠ "java/lang/invoke/MethodHandle" ∧ yX3_calls.cls ≠ "java/lang/invoke/VarHandle" ∧ (parseMethodDescriptor yX3_calls.desc).map (fun d => d.parameters.length) = some 0 := by decide +kernel
set_option maxHeartbeats 4000000 in
set_option maxRecDepth 100000 in
theorem met_calls {l : Launch} {D : va_G} {dA : ClassId} {a : Nat → Nat} {sA past held text parted asShown told : Nat → Int32} {pasts runs typed spot from_ reason cause orders order : Int32} {A : Nat → Prop} (hD : mDD A dA a) {nf : Nat} {r : Int32} {sA' : Nat → Int32} {past' : Nat → Int32} {asShown' : Nat → Int32} {pasts' : Int32} (h : m_calls nf sA past asShown told pasts runs order  = some (r, sA', past', asShown', pasts')) : Met l yX3_calls (ws_ yX3_calls cX3_calls 1 (some .int)) ({ frames := 5, cells := 0, slots := 0, locals := 102 } : Room) (mPc [.ref (a 0)] D dA a sA past held text parted asShown told pasts runs typed spot from_ reason cause orders order) (va_Qi (fun r2 (_ : Unit) => r2 = r) (fun _ t => va_P D gCl (mW dA a sA' past' held text parted asShown' told pasts' runs typed spot from_ reason cause orders order) t.heap) A) 0 0 A := by
  refine Met.ofW (cc := cX3_calls) (maxL := 1) (ret := (some .int)) (by decide) rfl ?_
  intro p e s m args below meth c s₁ B hml hv
  obtain ⟨rfl, hP, hK⟩ := hv
  have hx := B.exec
  have hb := B.bytes
  have hr := B.returns
  have hts := atoms_spec (ws := ws_ yX3_calls cX3_calls 1 (some .int)) B.pre
  have hts : ∀ w ∈ lw_all, w.before _ s = true := fun w h => hts w (List.mem_cons_of_mem _ h)
  have hown : s.vm.findClass RX3 = some m.cls := findClass_of_methodNamed B.named
  have hlocks := B.notSynchronized
  have hS : va_S A s.heap s.heap [] := va_S.rf
  have hl := lv_entry ([.ref (a 0)]) (n := 1) (Nat.le_of_ble_eq_true rfl)
  rw [lg_entry_eq]
  generalize (lg_sl ([.ref (a 0)]) ++ List.replicate (1 - (lg_sl ([.ref (a 0)])).length) Slot.unset).toArray = ls at hl ⊢
  have hl : lv_has ls 1 [(0, .ref (a 0))] := hl
  unfold m_calls at h
  refine lv_aload_n hx hb dX3_calls_0 rfl (lv_at hl 0 rfl) ?_
  refine va_get (ci := 3) (v := .int order) (C := RX3) (T := TX3) (N := 16) hx hb hts in_X3 hown hK hP 0 rfl rfl 14 (by decide) (hts _ q1287) (fun _ h9 => h9) rfl dX3_calls_1 ?_
  by_cases c1 : order = (99 : Int32)
  · have h := pi_t c1 h
    refine lv_lookup (off := 84) (tgt := 88) hx hb dX3_calls_4 (by decide) (by rw [c1]; decide) (by decide) ?_
    refine lv_aload_n hx hb dX3_calls_88 rfl (lv_at hl 0 rfl) ?_
    refine lv_aload_n hx hb dX3_calls_89 rfl (lv_at hl 0 rfl) ?_
    refine va_get (ci := 3) (v := .ref (a 7)) (C := RX3) (T := TX3) (N := 16) hx hb hts in_X3 hown hK hP 0 rfl rfl 15 (by decide) (hts _ q1288) (fun _ h9 => h9) rfl dX3_calls_90 ?_
    refine lv_iconst (v := 0) hx hb dX3_calls_93 (by decide) ?_
    refine m_iald (k := 0) hx hb hK hP 7 0 rfl rfl (by decide) (by decide) dX3_calls_94 ?_
    refine lv_aload_n hx hb dX3_calls_95 rfl (lv_at hl 0 rfl) ?_
    refine va_get (ci := 3) (v := .ref (a 7)) (C := RX3) (T := TX3) (N := 16) hx hb hts in_X3 hown hK hP 0 rfl rfl 15 (by decide) (hts _ q1288) (fun _ h9 => h9) rfl dX3_calls_96 ?_
    refine lv_iconst (v := 1) hx hb dX3_calls_99 (by decide) ?_
    refine m_iald (k := 1) hx hb hK hP 7 0 rfl rfl (by decide) (by decide) dX3_calls_100 ?_
    obtain ⟨⟨r3, sA_4, past_5, asShown_6, pasts_7⟩, e2, h⟩ := pb_some h
    refine m_calli (va_runV (As := [.int (told 0), .int (told 1)]) (rest := []) ⟨hx, hb, hml, hown, hts⟩ (met_correct hD e2) (cwV 2 hts (lw_V q1612 q1374 q1375 q77 q1376) rfl rfl rfl hd_correct ⟨Nat.le_of_ble_eq_true rfl, Nat.le_of_ble_eq_true rfl⟩) (m_preV hK hP) rfl rfl hl.1 rfl (lv_room (Nat.le_of_ble_eq_true rfl)) dX3_calls_101 ⟨Nat.le_of_ble_eq_true rfl, Nat.le_of_ble_eq_true rfl⟩) hS (fun H locs hP hS => ?_)
    cases h
    exact W.iret hx hb hr (fun t ht hW => ⟨⟨_, (), rfl, rfl, (show va_P D gCl _ t.heap from by rw [ht]; exact hP)⟩, hS.F ht⟩) hS.2.2 dX3_calls_104
  have h := pi_f c1 h
  by_cases c8 : order = (115 : Int32)
  · have h := pi_t c8 h
    refine lv_lookup (off := 101) (tgt := 105) hx hb dX3_calls_4 (by decide) (by rw [c8]; decide) (by decide) ?_
    refine lv_aload_n hx hb dX3_calls_105 rfl (lv_at hl 0 rfl) ?_
    refine lv_aload_n hx hb dX3_calls_106 rfl (lv_at hl 0 rfl) ?_
    refine va_get (ci := 3) (v := .ref (a 7)) (C := RX3) (T := TX3) (N := 16) hx hb hts in_X3 hown hK hP 0 rfl rfl 15 (by decide) (hts _ q1288) (fun _ h9 => h9) rfl dX3_calls_107 ?_
    refine lv_iconst (v := 0) hx hb dX3_calls_110 (by decide) ?_
    refine m_iald (k := 0) hx hb hK hP 7 0 rfl rfl (by decide) (by decide) dX3_calls_111 ?_
    obtain ⟨⟨r10, sA_11, past_12, pasts_13⟩, e9, h⟩ := pb_some h
    refine m_calli (va_runV (As := [.int (told 0)]) (rest := []) ⟨hx, hb, hml, hown, hts⟩ (met_speaker hD e9) (cwV 1 hts (lw_V q1613 q1399 q1400 q77 q1401) rfl rfl rfl hd_speaker ⟨Nat.le_of_ble_eq_true rfl, Nat.le_of_ble_eq_true rfl⟩) (m_preV hK hP) rfl rfl hl.1 rfl (lv_room (Nat.le_of_ble_eq_true rfl)) dX3_calls_112 ⟨Nat.le_of_ble_eq_true rfl, Nat.le_of_ble_eq_true rfl⟩) hS (fun H locs hP hS => ?_)
    cases h
    exact W.iret hx hb hr (fun t ht hW => ⟨⟨_, (), rfl, rfl, (show va_P D gCl _ t.heap from by rw [ht]; exact hP)⟩, hS.F ht⟩) hS.2.2 dX3_calls_115
  have h := pi_f c8 h
  by_cases c14 : order = (116 : Int32)
  · have h := pi_t c14 h
    refine lv_lookup (off := 44) (tgt := 48) hx hb dX3_calls_4 (by decide) (by rw [c14]; decide) (by decide) ?_
    refine lv_aload_n hx hb dX3_calls_48 rfl (lv_at hl 0 rfl) ?_
    refine lv_aload_n hx hb dX3_calls_49 rfl (lv_at hl 0 rfl) ?_
    refine va_get (ci := 3) (v := .ref (a 7)) (C := RX3) (T := TX3) (N := 16) hx hb hts in_X3 hown hK hP 0 rfl rfl 15 (by decide) (hts _ q1288) (fun _ h9 => h9) rfl dX3_calls_50 ?_
    refine lv_iconst (v := 0) hx hb dX3_calls_53 (by decide) ?_
    refine m_iald (k := 0) hx hb hK hP 7 0 rfl rfl (by decide) (by decide) dX3_calls_54 ?_
    refine lv_aload_n hx hb dX3_calls_55 rfl (lv_at hl 0 rfl) ?_
    refine va_get (ci := 3) (v := .ref (a 7)) (C := RX3) (T := TX3) (N := 16) hx hb hts in_X3 hown hK hP 0 rfl rfl 15 (by decide) (hts _ q1288) (fun _ h9 => h9) rfl dX3_calls_56 ?_
    refine lv_iconst (v := 1) hx hb dX3_calls_59 (by decide) ?_
    refine m_iald (k := 1) hx hb hK hP 7 0 rfl rfl (by decide) (by decide) dX3_calls_60 ?_
    refine lv_aload_n hx hb dX3_calls_61 rfl (lv_at hl 0 rfl) ?_
    refine va_get (ci := 3) (v := .ref (a 7)) (C := RX3) (T := TX3) (N := 16) hx hb hts in_X3 hown hK hP 0 rfl rfl 15 (by decide) (hts _ q1288) (fun _ h9 => h9) rfl dX3_calls_62 ?_
    refine lv_iconst (v := 2) hx hb dX3_calls_65 (by decide) ?_
    refine m_iald (k := 2) hx hb hK hP 7 0 rfl rfl (by decide) (by decide) dX3_calls_66 ?_
    obtain ⟨⟨r16, sA_17, past_18, pasts_19⟩, e15, h⟩ := pb_some h
    refine m_calli (va_runV (As := [.int (told 0), .int (told 1), .int (told 2)]) (rest := []) ⟨hx, hb, hml, hown, hts⟩ (met_turn hD e15) (cwV 3 hts (lw_V q1610 q1323 q1324 q77 q1325) rfl rfl rfl hd_turn ⟨Nat.le_of_ble_eq_true rfl, Nat.le_of_ble_eq_true rfl⟩) (m_preV hK hP) rfl rfl hl.1 rfl (lv_room (Nat.le_of_ble_eq_true rfl)) dX3_calls_67 ⟨Nat.le_of_ble_eq_true rfl, Nat.le_of_ble_eq_true rfl⟩) hS (fun H locs hP hS => ?_)
    cases h
    exact W.iret hx hb hr (fun t ht hW => ⟨⟨_, (), rfl, rfl, (show va_P D gCl _ t.heap from by rw [ht]; exact hP)⟩, hS.F ht⟩) hS.2.2 dX3_calls_70
  have h := pi_f c14 h
  by_cases c20 : order = (119 : Int32)
  · have h := pi_t c20 h
    refine lv_lookup (off := 67) (tgt := 71) hx hb dX3_calls_4 (by decide) (by rw [c20]; decide) (by decide) ?_
    refine lv_aload_n hx hb dX3_calls_71 rfl (lv_at hl 0 rfl) ?_
    refine lv_aload_n hx hb dX3_calls_72 rfl (lv_at hl 0 rfl) ?_
    refine va_get (ci := 3) (v := .ref (a 7)) (C := RX3) (T := TX3) (N := 16) hx hb hts in_X3 hown hK hP 0 rfl rfl 15 (by decide) (hts _ q1288) (fun _ h9 => h9) rfl dX3_calls_73 ?_
    refine lv_iconst (v := 0) hx hb dX3_calls_76 (by decide) ?_
    refine m_iald (k := 0) hx hb hK hP 7 0 rfl rfl (by decide) (by decide) dX3_calls_77 ?_
    refine lv_aload_n hx hb dX3_calls_78 rfl (lv_at hl 0 rfl) ?_
    refine va_get (ci := 3) (v := .ref (a 7)) (C := RX3) (T := TX3) (N := 16) hx hb hts in_X3 hown hK hP 0 rfl rfl 15 (by decide) (hts _ q1288) (fun _ h9 => h9) rfl dX3_calls_79 ?_
    refine lv_iconst (v := 1) hx hb dX3_calls_82 (by decide) ?_
    refine m_iald (k := 1) hx hb hK hP 7 0 rfl rfl (by decide) (by decide) dX3_calls_83 ?_
    obtain ⟨⟨r22, sA_23, past_24, pasts_25⟩, e21, h⟩ := pb_some h
    refine m_calli (va_runV (As := [.int (told 0), .int (told 1)]) (rest := []) ⟨hx, hb, hml, hown, hts⟩ (met_say hD e21) (cwV 2 hts (lw_V q1611 q1355 q1356 q77 q1357) rfl rfl rfl hd_say ⟨Nat.le_of_ble_eq_true rfl, Nat.le_of_ble_eq_true rfl⟩) (m_preV hK hP) rfl rfl hl.1 rfl (lv_room (Nat.le_of_ble_eq_true rfl)) dX3_calls_84 ⟨Nat.le_of_ble_eq_true rfl, Nat.le_of_ble_eq_true rfl⟩) hS (fun H locs hP hS => ?_)
    cases h
    exact W.iret hx hb hr (fun t ht hW => ⟨⟨_, (), rfl, rfl, (show va_P D gCl _ t.heap from by rw [ht]; exact hP)⟩, hS.F ht⟩) hS.2.2 dX3_calls_87
  have h := pi_f c20 h
  refine lv_lookup (off := 112) (tgt := 116) hx hb dX3_calls_4 (by decide) (by have n1 := sw_ne (k := 99) (by decide) c1; have n2 := sw_ne (k := 115) (by decide) c8; have n3 := sw_ne (k := 116) (by decide) c14; have n4 := sw_ne (k := 119) (by decide) c20; simp [Op.lookupswitch.offset, n1.symm, n2.symm, n3.symm, n4.symm, n1, n2, n3, n4]) (by decide) ?_
  refine lv_aload_n hx hb dX3_calls_116 rfl (lv_at hl 0 rfl) ?_
  refine lv_aload_n hx hb dX3_calls_117 rfl (lv_at hl 0 rfl) ?_
  refine va_get (ci := 3) (v := .ref (a 7)) (C := RX3) (T := TX3) (N := 16) hx hb hts in_X3 hown hK hP 0 rfl rfl 15 (by decide) (hts _ q1288) (fun _ h9 => h9) rfl dX3_calls_118 ?_
  refine lv_iconst (v := 0) hx hb dX3_calls_121 (by decide) ?_
  refine m_iald (k := 0) hx hb hK hP 7 0 rfl rfl (by decide) (by decide) dX3_calls_122 ?_
  refine lv_aload_n hx hb dX3_calls_123 rfl (lv_at hl 0 rfl) ?_
  refine va_get (ci := 3) (v := .ref (a 7)) (C := RX3) (T := TX3) (N := 16) hx hb hts in_X3 hown hK hP 0 rfl rfl 15 (by decide) (hts _ q1288) (fun _ h9 => h9) rfl dX3_calls_124 ?_
  refine lv_iconst (v := 1) hx hb dX3_calls_127 (by decide) ?_
  refine m_iald (k := 1) hx hb hK hP 7 0 rfl rfl (by decide) (by decide) dX3_calls_128 ?_
  obtain ⟨⟨r27, sA_28, past_29, pasts_30⟩, e26, h⟩ := pb_some h
  refine m_calli (va_runV (As := [.int (told 0), .int (told 1)]) (rest := []) ⟨hx, hb, hml, hown, hts⟩ (met_give hD e26) (cwV 2 hts (lw_V q1614 q1403 q1404 q77 q1405) rfl rfl rfl hd_give ⟨Nat.le_of_ble_eq_true rfl, Nat.le_of_ble_eq_true rfl⟩) (m_preV hK hP) rfl rfl hl.1 rfl (lv_room (Nat.le_of_ble_eq_true rfl)) dX3_calls_129 ⟨Nat.le_of_ble_eq_true rfl, Nat.le_of_ble_eq_true rfl⟩) hS (fun H locs hP hS => ?_)
  cases h
  exact W.iret hx hb hr (fun t ht hW => ⟨⟨_, (), rfl, rfl, (show va_P D gCl _ t.heap from by rw [ht]; exact hP)⟩, hS.F ht⟩) hS.2.2 dX3_calls_132
theorem hd_isAt : yX3_isAt.cls = RX3 ∧ yX3_isAt.cls ≠ "java/lang/invoke/MethodHandle" ∧ yX3_isAt.cls ≠ "java/lang/invoke/VarHandle" ∧ (parseMethodDescriptor yX3_isAt.desc).map (fun d => d.parameters.length) = some 2 := by decide +kernel
set_option maxHeartbeats 4000000 in
set_option maxRecDepth 100000 in
theorem met_isAt {l : Launch} {D : va_G} {dA : ClassId} {a : Nat → Nat} {sA past held text parted asShown told : Nat → Int32} {pasts runs typed spot from_ reason cause orders order : Int32} {x1 : Int32} {x2 : Int32} {b : Bool}  (h : m_isAt text typed spot x1 x2 = some b) : Met l yX3_isAt (ws_ yX3_isAt cX3_isAt 3 (some .boolean)) ({ frames := 2, cells := 0, slots := 0, locals := 34 } : Room) (mPc [.ref (a 0), .int x1, .int x2] D dA a sA past held text parted asShown told pasts runs typed spot from_ reason cause orders order) (QcRead (bi b)) 0 0 (fun _ => False) := by
  refine Met.ofW (cc := cX3_isAt) (maxL := 3) (ret := (some .boolean)) (by decide) rfl ?_
  intro p e s m args below meth c s₁ B hml hv
  obtain ⟨rfl, hP, hK⟩ := hv
  have hx := B.exec
  have hb := B.bytes
  have hr := B.returns
  have hts := atoms_spec (ws := ws_ yX3_isAt cX3_isAt 3 (some .boolean)) B.pre
  have hts : ∀ w ∈ lw_all, w.before _ s = true := fun w h => hts w (List.mem_cons_of_mem _ h)
  have hown : s.vm.findClass RX3 = some m.cls := findClass_of_methodNamed B.named
  have hlocks := B.notSynchronized
  have hl := lv_entry ([.ref (a 0), .int x1, .int x2]) (n := 3) (Nat.le_of_ble_eq_true rfl)
  rw [lg_entry_eq]
  generalize (lg_sl ([.ref (a 0), .int x1, .int x2]) ++ List.replicate (3 - (lg_sl ([.ref (a 0), .int x1, .int x2])).length) Slot.unset).toArray = ls at hl ⊢
  have hl : lv_has ls 3 [(0, .ref (a 0)), (1, .int x1), (2, .int x2)] := hl
  unfold m_isAt at h
  refine lv_aload_n hx hb dX3_isAt_0 rfl (lv_at hl 0 rfl) ?_
  refine va_get (ci := 3) (v := .int spot) (C := RX3) (T := TX3) (N := 16) hx hb hts in_X3 hown hK hP 0 rfl rfl 9 (by decide) (hts _ q1282) (fun _ h9 => h9) rfl dX3_isAt_1 ?_
  refine lv_aload_n hx hb dX3_isAt_4 rfl (lv_at hl 0 rfl) ?_
  refine va_get (ci := 3) (v := .int typed) (C := RX3) (T := TX3) (N := 16) hx hb hts in_X3 hown hK hP 0 rfl rfl 6 (by decide) (hts _ q1279) (fun _ h9 => h9) rfl dX3_isAt_5 ?_
  refine lv_icmp_ge (tgt := 32) hx hb dX3_isAt_8 (by decide) (fun c1 => ?_) (fun c1 => ?_)
  · have h := pi_t c1 h
    refine lv_iconst (v := 0) hx hb dX3_isAt_32 (by decide) ?_
    cases h
    exact W.zret hx hb hr rfl (fun t ht hW => ⟨rfl, ht⟩) (fun q hq => absurd hq List.not_mem_nil) dX3_isAt_33
  · have h := pi_f c1 h
    refine lv_aload_n hx hb dX3_isAt_11 rfl (lv_at hl 0 rfl) ?_
    refine va_get (ci := 3) (v := .ref (a 4)) (C := RX3) (T := TX3) (N := 16) hx hb hts in_X3 hown hK hP 0 rfl rfl 5 (by decide) (hts _ q1278) (fun _ h9 => h9) rfl dX3_isAt_12 ?_
    refine lv_aload_n hx hb dX3_isAt_15 rfl (lv_at hl 0 rfl) ?_
    refine va_get (ci := 3) (v := .int spot) (C := RX3) (T := TX3) (N := 16) hx hb hts in_X3 hown hK hP 0 rfl rfl 9 (by decide) (hts _ q1282) (fun _ h9 => h9) rfl dX3_isAt_16 ?_
    obtain ⟨g2, h⟩ := pg_some h
    refine va_iald hx hb hK hP 4 0 rfl rfl g2 dX3_isAt_19 ?_
    refine lv_iload_n hx hb dX3_isAt_20 rfl (lv_at hl 1 rfl) ?_
    refine lv_iload_n hx hb dX3_isAt_21 rfl (lv_at hl 2 rfl) ?_
    obtain ⟨b4, e3, h⟩ := pb_some h
    refine m_callR (W.runS (As := [.int (text spot.toNatClampNeg), .int x1, .int x2]) (rest := []) ⟨hx, hb, hml, hown, hts⟩ (met_in e3) (va_cwS 3 hts (lw_S q1326 q1327 q77 q1328) rfl rfl rfl hd_in ⟨Nat.le_of_ble_eq_true rfl, Nat.le_of_ble_eq_true rfl⟩) m_preS rfl rfl hl.1 rfl (lv_room (Nat.le_of_ble_eq_true rfl)) dX3_isAt_22 ⟨Nat.le_of_ble_eq_true rfl, Nat.le_of_ble_eq_true rfl⟩) ?_
    refine lv_if_eq (tgt := 32) hx hb dX3_isAt_25 (by decide) (fun c5 => ?_) (fun c5 => ?_)
    · have h := pi_t c5 h
      refine lv_iconst (v := 0) hx hb dX3_isAt_32 (by decide) ?_
      cases h
      exact W.zret hx hb hr rfl (fun t ht hW => ⟨rfl, ht⟩) (fun q hq => absurd hq List.not_mem_nil) dX3_isAt_33
    · have h := pi_f c5 h
      refine lv_iconst (v := 1) hx hb dX3_isAt_28 (by decide) ?_
      refine lv_goto (tgt := 33) hx hb dX3_isAt_29 (by decide) ?_
      cases h
      exact W.zret hx hb hr rfl (fun t ht hW => ⟨rfl, ht⟩) (fun q hq => absurd hq List.not_mem_nil) dX3_isAt_33
theorem hd_number : yX3_number.cls = RX3 ∧ yX3_number.cls ≠ "java/lang/invoke/MethodHandle" ∧ yX3_number.cls ≠ "java/lang/invoke/VarHandle" ∧ (parseMethodDescriptor yX3_number.desc).map (fun d => d.parameters.length) = some 1 := by decide +kernel
set_option maxHeartbeats 4000000 in
set_option maxRecDepth 100000 in
theorem lp_number_1 {p : Program} {l : Launch} {e : Env} {s : State} {m : MethodId} {args : Array Value} {below : List Frame} {meth : Method} {c : Code} {D : va_G} {dA : ClassId} {a : Nat → Nat} {Q : State → Prop} (hx : p.tables.exec = Jvm.exec) (hb : c.code = cX3_number) (hml : c.maxLocals = 3) (hown : s.vm.findClass RX3 = some m.cls) (hts : ∀ w ∈ lw_all, w.before args s = true) {H0 : Heap} {A : Nat → Prop} {sA : Nat → Int32} {past : Nat → Int32} {held : Nat → Int32} {text : Nat → Int32} {parted : Nat → Int32} {asShown : Nat → Int32} {pasts : Int32} {runs : Int32} {typed : Int32} {from_ : Int32} {reason : Int32} {cause : Int32} {orders : Int32} {order : Int32} (hK : va_K D gCl [(dA, .int)] s) (hD : mDD A dA a) {x2 : Int32} {x1 : Int32} (nf : Nat) : ∀ (n : Nat)  (told : Nat → Int32) (spot : Int32) (z : ((Nat → Int32) × Int32)), m_number_L1 nf text typed x2 x1 n told spot = some z → ∀ (H : Heap) (locs : List Loc) (ls : Array Slot), va_P D gCl (mW dA a sA past held text parted asShown told pasts runs typed spot from_ reason cause orders order) H → va_S A H0 H locs → lv_has ls 3 [(2, .int x2), (0, .ref (a 0)), (1, .int x1)] → (∀ (H : Heap) (locs : List Loc) (ls : Array Slot), va_P D gCl (mW dA a sA past held text parted asShown z.1 pasts runs typed z.2 from_ reason cause orders order) H → va_S A H0 H locs → lv_has ls 3 [(2, .int x2), (0, .ref (a 0)), (1, .int x1)] → W p l e ({ frames := 3, cells := 0, slots := 0, locals := 56 } : Room) s m args below meth c H locs 0 0 Q (F0 m 74 ls [])) → W p l e ({ frames := 3, cells := 0, slots := 0, locals := 56 } : Room) s m args below meth c H locs 0 0 Q (F0 m 12 ls []) := by
  intro n
  induction n with
  | zero => intro told spot z h H locs ls hP hS hl K; exact absurd h (by simp [m_number_L1])
  | succ n ih =>
    intro told spot z h H locs ls hP hS hl K
    unfold m_number_L1 at h
    refine lv_aload_n hx hb dX3_number_12 rfl (lv_at hl 1 rfl) ?_
    refine lv_bipush (v := 48) hx hb dX3_number_13 (by decide) ?_
    refine lv_bipush (v := 57) hx hb dX3_number_15 (by decide) ?_
    obtain ⟨b2, e1, h⟩ := pb_some h
    refine m_callR (W.runV (As := [.int (48 : Int32), .int (57 : Int32)]) (rest := []) ⟨hx, hb, hml, hown, hts⟩ (met_isAt e1) (cwV 2 hts (lw_V q1591 q1593 qs61 q77 q1594) rfl rfl rfl hd_isAt ⟨Nat.le_of_ble_eq_true rfl, Nat.le_of_ble_eq_true rfl⟩) (m_preV hK hP) rfl rfl hl.1 rfl (lv_room (Nat.le_of_ble_eq_true rfl)) dX3_number_17 ⟨Nat.le_of_ble_eq_true rfl, Nat.le_of_ble_eq_true rfl⟩) ?_
    refine lv_if_eq (tgt := 74) hx hb dX3_number_20 (by decide) (fun c3 => ?_) (fun c3 => ?_)
    · have h := pi_t c3 h
      cases h
      exact K H locs ls hP hS (lv_sub hl [0, 1, 2] rfl)
    · have h := pi_f c3 h
      refine lv_aload_n hx hb dX3_number_23 rfl (lv_at hl 1 rfl) ?_
      refine va_get (ci := 3) (v := .int spot) (C := RX3) (T := TX3) (N := 16) hx hb hts in_X3 hown hK hP 0 rfl rfl 9 (by decide) (hts _ q1282) (fun _ h9 => h9) rfl dX3_number_24 ?_
      refine lv_iload_n hx hb dX3_number_27 rfl (lv_at hl 0 rfl) ?_
      refine lv_isub hx hb dX3_number_28 ?_
      refine lv_iconst (v := 4) hx hb dX3_number_29 (by decide) ?_
      refine lv_icmp_ge (tgt := 74) hx hb dX3_number_30 (by decide) (fun c4 => ?_) (fun c4 => ?_)
      · have h := pi_t c4 h
        cases h
        exact K H locs ls hP hS (lv_sub hl [0, 1, 2] rfl)
      · have h := pi_f c4 h
        refine lv_aload_n hx hb dX3_number_33 rfl (lv_at hl 1 rfl) ?_
        refine va_get (ci := 3) (v := .ref (a 7)) (C := RX3) (T := TX3) (N := 16) hx hb hts in_X3 hown hK hP 0 rfl rfl 15 (by decide) (hts _ q1288) (fun _ h9 => h9) rfl dX3_number_34 ?_
        refine lv_iload_n hx hb dX3_number_37 rfl (lv_at hl 2 rfl) ?_
        refine lv_bipush (v := 10) hx hb dX3_number_38 (by decide) ?_
        refine lv_aload_n hx hb dX3_number_40 rfl (lv_at hl 1 rfl) ?_
        refine va_get (ci := 3) (v := .ref (a 7)) (C := RX3) (T := TX3) (N := 16) hx hb hts in_X3 hown hK hP 0 rfl rfl 15 (by decide) (hts _ q1288) (fun _ h9 => h9) rfl dX3_number_41 ?_
        refine lv_iload_n hx hb dX3_number_44 rfl (lv_at hl 2 rfl) ?_
        obtain ⟨g5, h⟩ := pg_some h
        refine va_iald hx hb hK hP 7 0 rfl rfl g5 dX3_number_45 ?_
        refine lv_imul hx hb dX3_number_46 ?_
        refine lv_aload_n hx hb dX3_number_47 rfl (lv_at hl 1 rfl) ?_
        refine va_get (ci := 3) (v := .ref (a 4)) (C := RX3) (T := TX3) (N := 16) hx hb hts in_X3 hown hK hP 0 rfl rfl 5 (by decide) (hts _ q1278) (fun _ h9 => h9) rfl dX3_number_48 ?_
        refine lv_aload_n hx hb dX3_number_51 rfl (lv_at hl 1 rfl) ?_
        refine va_get (ci := 3) (v := .int spot) (C := RX3) (T := TX3) (N := 16) hx hb hts in_X3 hown hK hP 0 rfl rfl 9 (by decide) (hts _ q1282) (fun _ h9 => h9) rfl dX3_number_52 ?_
        obtain ⟨g6, h⟩ := pg_some h
        refine va_iald hx hb hK hP 4 0 rfl rfl g6 dX3_number_55 ?_
        refine lv_iadd hx hb dX3_number_56 ?_
        refine lv_bipush (v := 48) hx hb dX3_number_57 (by decide) ?_
        refine lv_isub hx hb dX3_number_59 ?_
        refine va_iast hx hb hK hP (hD _ _ _ _ _ _ _ _ _ _ _ _ _ _ _ _) hS 7 0 rfl rfl g5 dX3_number_60 (fun H locs hP _ hS => ?_)
        have hP : va_P D gCl (mW dA a sA past held text parted asShown (upd told x1.toNatClampNeg ((((10 : Int32) * (told x1.toNatClampNeg)) + (text spot.toNatClampNeg)) - (48 : Int32))) pasts runs typed spot from_ reason cause orders order) H := hP
        refine lv_aload_n hx hb dX3_number_61 rfl (lv_at hl 1 rfl) ?_
        refine lv_dup hx hb dX3_number_62 rfl ?_
        refine va_get (ci := 3) (v := .int spot) (C := RX3) (T := TX3) (N := 16) hx hb hts in_X3 hown hK hP 0 rfl rfl 9 (by decide) (hts _ q1282) (fun _ h9 => h9) rfl dX3_number_63 ?_
        refine lv_iconst (v := 1) hx hb dX3_number_66 (by decide) ?_
        refine lv_iadd hx hb dX3_number_67 ?_
        refine va_put (ci := 3) (v := .int (spot + (1 : Int32))) (ty := .int) (C := RX3) (T := TX3) (N := 16) hx hb hts in_X3 tyX3 tyX3_ok nmX3 hown hK hP (hD _ _ _ _ _ _ _ _ _ _ _ _ _ _ _ _) hS 0 rfl rfl 9 (by decide) (hts _ q1282) (fun _ h9 => h9) rfl (by decide +kernel) rfl rfl (Nat.le_of_ble_eq_true rfl) dX3_number_68 (fun H locs hP _ hS => ?_)
        have hP : va_P D gCl (mW dA a sA past held text parted asShown (upd told x1.toNatClampNeg ((((10 : Int32) * (told x1.toNatClampNeg)) + (text spot.toNatClampNeg)) - (48 : Int32))) pasts runs typed (spot + (1 : Int32)) from_ reason cause orders order) H := hP
        refine lv_goto (tgt := 12) hx hb dX3_number_71 (by decide) ?_
        exact ih _ _ _ h H locs ls hP hS (lv_sub hl [0, 1, 2] rfl) K
set_option maxHeartbeats 4000000 in
set_option maxRecDepth 100000 in
theorem met_number {l : Launch} {D : va_G} {dA : ClassId} {a : Nat → Nat} {sA past held text parted asShown told : Nat → Int32} {pasts runs typed spot from_ reason cause orders order : Int32} {A : Nat → Prop} (hD : mDD A dA a) {nf : Nat} {x1 : Int32} {b : Bool} {told' : Nat → Int32} {spot' : Int32} (h : m_number nf text told typed spot x1 = some (b, told', spot')) : Met l yX3_number (ws_ yX3_number cX3_number 3 (some .boolean)) ({ frames := 3, cells := 0, slots := 0, locals := 56 } : Room) (mPc [.ref (a 0), .int x1] D dA a sA past held text parted asShown told pasts runs typed spot from_ reason cause orders order) (va_Qi (fun r2 (_ : Unit) => r2 = (bi b)) (fun _ t => va_P D gCl (mW dA a sA past held text parted asShown told' pasts runs typed spot' from_ reason cause orders order) t.heap) A) 0 0 A := by
  refine Met.ofW (cc := cX3_number) (maxL := 3) (ret := (some .boolean)) (by decide) rfl ?_
  intro p e s m args below meth c s₁ B hml hv
  obtain ⟨rfl, hP, hK⟩ := hv
  have hx := B.exec
  have hb := B.bytes
  have hr := B.returns
  have hts := atoms_spec (ws := ws_ yX3_number cX3_number 3 (some .boolean)) B.pre
  have hts : ∀ w ∈ lw_all, w.before _ s = true := fun w h => hts w (List.mem_cons_of_mem _ h)
  have hown : s.vm.findClass RX3 = some m.cls := findClass_of_methodNamed B.named
  have hlocks := B.notSynchronized
  have hS : va_S A s.heap s.heap [] := va_S.rf
  have hl := lv_entry ([.ref (a 0), .int x1]) (n := 3) (Nat.le_of_ble_eq_true rfl)
  rw [lg_entry_eq]
  generalize (lg_sl ([.ref (a 0), .int x1]) ++ List.replicate (3 - (lg_sl ([.ref (a 0), .int x1])).length) Slot.unset).toArray = ls at hl ⊢
  have hl : lv_has ls 3 [(0, .ref (a 0)), (1, .int x1)] := hl
  unfold m_number at h
  refine lv_aload_n hx hb dX3_number_0 rfl (lv_at hl 0 rfl) ?_
  refine va_get (ci := 3) (v := .int spot) (C := RX3) (T := TX3) (N := 16) hx hb hts in_X3 hown hK hP 0 rfl rfl 9 (by decide) (hts _ q1282) (fun _ h9 => h9) rfl dX3_number_1 ?_
  refine lv_istore_n (lv' := [(2, .int spot), (0, .ref (a 0)), (1, .int x1)]) hx hb dX3_number_4 rfl hl (by decide) rfl (fun ls hl => ?_)
  refine lv_aload_n hx hb dX3_number_5 rfl (lv_at hl 1 rfl) ?_
  refine va_get (ci := 3) (v := .ref (a 7)) (C := RX3) (T := TX3) (N := 16) hx hb hts in_X3 hown hK hP 0 rfl rfl 15 (by decide) (hts _ q1288) (fun _ h9 => h9) rfl dX3_number_6 ?_
  refine lv_iload_n hx hb dX3_number_9 rfl (lv_at hl 2 rfl) ?_
  refine lv_iconst (v := 0) hx hb dX3_number_10 (by decide) ?_
  obtain ⟨g1, h⟩ := pg_some h
  refine va_iast hx hb hK hP (hD _ _ _ _ _ _ _ _ _ _ _ _ _ _ _ _) hS 7 0 rfl rfl g1 dX3_number_11 (fun H locs hP _ hS => ?_)
  have hP : va_P D gCl (mW dA a sA past held text parted asShown (upd told x1.toNatClampNeg (0 : Int32)) pasts runs typed spot from_ reason cause orders order) H := hP
  obtain ⟨⟨told_2, spot_3⟩, e501, h⟩ := pb_some h
  refine lp_number_1 hx hb hml hown hts hK hD _ _ _ _ _ e501 _ _ ls hP hS (lv_sub hl [0, 1, 2] rfl) (fun H locs ls hP hS hl => ?_)
  refine lv_aload_n hx hb dX3_number_74 rfl (lv_at hl 1 rfl) ?_
  refine va_get (ci := 3) (v := .int spot_3) (C := RX3) (T := TX3) (N := 16) hx hb hts in_X3 hown hK hP 0 rfl rfl 9 (by decide) (hts _ q1282) (fun _ h9 => h9) rfl dX3_number_75 ?_
  refine lv_iload_n hx hb dX3_number_78 rfl (lv_at hl 0 rfl) ?_
  refine lv_icmp_le (tgt := 86) hx hb dX3_number_79 (by decide) (fun c4 => ?_) (fun c4 => ?_)
  · have h := pi_t c4 h
    refine lv_iconst (v := 0) hx hb dX3_number_86 (by decide) ?_
    cases h
    exact W.zret hx hb hr rfl (fun t ht hW => ⟨⟨_, (), rfl, rfl, (show va_P D gCl _ t.heap from by rw [ht]; exact hP)⟩, hS.F ht⟩) hS.2.2 dX3_number_87
  · have h := pi_f c4 h
    refine lv_iconst (v := 1) hx hb dX3_number_82 (by decide) ?_
    refine lv_goto (tgt := 87) hx hb dX3_number_83 (by decide) ?_
    cases h
    exact W.zret hx hb hr rfl (fun t ht hW => ⟨⟨_, (), rfl, rfl, (show va_P D gCl _ t.heap from by rw [ht]; exact hP)⟩, hS.F ht⟩) hS.2.2 dX3_number_87
theorem hd_numbersOf : yX3_numbersOf.cls ≠ "java/lang/invoke/MethodHandle" ∧ yX3_numbersOf.cls ≠ "java/lang/invoke/VarHandle" ∧ (parseMethodDescriptor yX3_numbersOf.desc).map (fun d => d.parameters.length) = some 1 := by decide +kernel
set_option maxHeartbeats 4000000 in
set_option maxRecDepth 100000 in
theorem met_numbersOf {l : Launch}  {x0 : Int32} {r : Int32}  (h : m_numbersOf  x0 = some r) : Met l yX3_numbersOf (ws_ yX3_numbersOf cX3_numbersOf 1 (some .int)) ({ frames := 1, cells := 0, slots := 0, locals := 12 } : Room) (va_Pc [.int x0] (fun _ => True)) (QcRead r) 0 0 (fun _ => False) := by
  refine Met.ofW (cc := cX3_numbersOf) (maxL := 1) (ret := (some .int)) (by decide) rfl ?_
  intro p e s m args below meth c s₁ B hml hv
  obtain ⟨rfl, -⟩ := hv
  have hx := B.exec
  have hb := B.bytes
  have hr := B.returns
  have hts := atoms_spec (ws := ws_ yX3_numbersOf cX3_numbersOf 1 (some .int)) B.pre
  have hts : ∀ w ∈ lw_all, w.before _ s = true := fun w h => hts w (List.mem_cons_of_mem _ h)
  have hown : s.vm.findClass RX3 = some m.cls := findClass_of_methodNamed B.named
  have hlocks := B.notSynchronized
  have hl := lv_entry ([.int x0]) (n := 1) (Nat.le_of_ble_eq_true rfl)
  rw [lg_entry_eq]
  generalize (lg_sl ([.int x0]) ++ List.replicate (1 - (lg_sl ([.int x0])).length) Slot.unset).toArray = ls at hl ⊢
  have hl : lv_has ls 1 [(0, .int x0)] := hl
  unfold m_numbersOf at h
  refine lv_iload_n hx hb dX3_numbersOf_0 rfl (lv_at hl 0 rfl) ?_
  refine lv_bipush (v := 116) hx hb dX3_numbersOf_1 (by decide) ?_
  refine lv_icmp_ne (tgt := 10) hx hb dX3_numbersOf_3 (by decide) (fun c1 => ?_) (fun c1 => ?_)
  · have h := pi_f c1 h
    refine lv_iload_n hx hb dX3_numbersOf_10 rfl (lv_at hl 0 rfl) ?_
    refine lv_bipush (v := 119) hx hb dX3_numbersOf_11 (by decide) ?_
    refine lv_icmp_eq (tgt := 28) hx hb dX3_numbersOf_13 (by decide) (fun c2 => ?_) (fun c2 => ?_)
    · have h := pi_t c2 h
      refine lv_iconst (v := 2) hx hb dX3_numbersOf_28 (by decide) ?_
      refine lv_goto (tgt := 43) hx hb dX3_numbersOf_29 (by decide) ?_
      cases h
      exact W.iret hx hb hr (fun t ht hW => ⟨rfl, ht⟩) (fun q hq => absurd hq List.not_mem_nil) dX3_numbersOf_43
    · have h := pi_f c2 h
      refine lv_iload_n hx hb dX3_numbersOf_16 rfl (lv_at hl 0 rfl) ?_
      refine lv_bipush (v := 99) hx hb dX3_numbersOf_17 (by decide) ?_
      refine lv_icmp_eq (tgt := 28) hx hb dX3_numbersOf_19 (by decide) (fun c3 => ?_) (fun c3 => ?_)
      · have h := pi_t c3 h
        refine lv_iconst (v := 2) hx hb dX3_numbersOf_28 (by decide) ?_
        refine lv_goto (tgt := 43) hx hb dX3_numbersOf_29 (by decide) ?_
        cases h
        exact W.iret hx hb hr (fun t ht hW => ⟨rfl, ht⟩) (fun q hq => absurd hq List.not_mem_nil) dX3_numbersOf_43
      · have h := pi_f c3 h
        refine lv_iload_n hx hb dX3_numbersOf_22 rfl (lv_at hl 0 rfl) ?_
        refine lv_bipush (v := 103) hx hb dX3_numbersOf_23 (by decide) ?_
        refine lv_icmp_ne (tgt := 32) hx hb dX3_numbersOf_25 (by decide) (fun c4 => ?_) (fun c4 => ?_)
        · have h := pi_f c4 h
          refine lv_iload_n hx hb dX3_numbersOf_32 rfl (lv_at hl 0 rfl) ?_
          refine lv_bipush (v := 115) hx hb dX3_numbersOf_33 (by decide) ?_
          refine lv_icmp_ne (tgt := 42) hx hb dX3_numbersOf_35 (by decide) (fun c5 => ?_) (fun c5 => ?_)
          · have h := pi_f c5 h
            refine lv_iconst (v := 0) hx hb dX3_numbersOf_42 (by decide) ?_
            cases h
            exact W.iret hx hb hr (fun t ht hW => ⟨rfl, ht⟩) (fun q hq => absurd hq List.not_mem_nil) dX3_numbersOf_43
          · have h := pi_t c5 h
            refine lv_iconst (v := 1) hx hb dX3_numbersOf_38 (by decide) ?_
            refine lv_goto (tgt := 43) hx hb dX3_numbersOf_39 (by decide) ?_
            cases h
            exact W.iret hx hb hr (fun t ht hW => ⟨rfl, ht⟩) (fun q hq => absurd hq List.not_mem_nil) dX3_numbersOf_43
        · have h := pi_t c4 h
          refine lv_iconst (v := 2) hx hb dX3_numbersOf_28 (by decide) ?_
          refine lv_goto (tgt := 43) hx hb dX3_numbersOf_29 (by decide) ?_
          cases h
          exact W.iret hx hb hr (fun t ht hW => ⟨rfl, ht⟩) (fun q hq => absurd hq List.not_mem_nil) dX3_numbersOf_43
  · have h := pi_t c1 h
    refine lv_iconst (v := 3) hx hb dX3_numbersOf_6 (by decide) ?_
    refine lv_goto (tgt := 43) hx hb dX3_numbersOf_7 (by decide) ?_
    cases h
    exact W.iret hx hb hr (fun t ht hW => ⟨rfl, ht⟩) (fun q hq => absurd hq List.not_mem_nil) dX3_numbersOf_43
theorem hd_sign : yX3_sign.cls = RX3 ∧ yX3_sign.cls ≠ "java/lang/invoke/MethodHandle" ∧ yX3_sign.cls ≠ "java/lang/invoke/VarHandle" ∧ (parseMethodDescriptor yX3_sign.desc).map (fun d => d.parameters.length) = some 1 := by decide +kernel
set_option maxHeartbeats 4000000 in
set_option maxRecDepth 100000 in
theorem met_sign {l : Launch} {D : va_G} {dA : ClassId} {a : Nat → Nat} {sA past held text parted asShown told : Nat → Int32} {pasts runs typed spot from_ reason cause orders order : Int32} {A : Nat → Prop} (hD : mDD A dA a) {x1 : Int32} {b : Bool} {spot' : Int32} (h : m_sign text typed spot x1 = some (b, spot')) : Met l yX3_sign (ws_ yX3_sign cX3_sign 3 (some .boolean)) ({ frames := 3, cells := 0, slots := 0, locals := 56 } : Room) (mPc [.ref (a 0), .int x1] D dA a sA past held text parted asShown told pasts runs typed spot from_ reason cause orders order) (va_Qi (fun r2 (_ : Unit) => r2 = (bi b)) (fun _ t => va_P D gCl (mW dA a sA past held text parted asShown told pasts runs typed spot' from_ reason cause orders order) t.heap) A) 0 0 A := by
  refine Met.ofW (cc := cX3_sign) (maxL := 3) (ret := (some .boolean)) (by decide) rfl ?_
  intro p e s m args below meth c s₁ B hml hv
  obtain ⟨rfl, hP, hK⟩ := hv
  have hx := B.exec
  have hb := B.bytes
  have hr := B.returns
  have hts := atoms_spec (ws := ws_ yX3_sign cX3_sign 3 (some .boolean)) B.pre
  have hts : ∀ w ∈ lw_all, w.before _ s = true := fun w h => hts w (List.mem_cons_of_mem _ h)
  have hown : s.vm.findClass RX3 = some m.cls := findClass_of_methodNamed B.named
  have hlocks := B.notSynchronized
  have hS : va_S A s.heap s.heap [] := va_S.rf
  have hl := lv_entry ([.ref (a 0), .int x1]) (n := 3) (Nat.le_of_ble_eq_true rfl)
  rw [lg_entry_eq]
  generalize (lg_sl ([.ref (a 0), .int x1]) ++ List.replicate (3 - (lg_sl ([.ref (a 0), .int x1])).length) Slot.unset).toArray = ls at hl ⊢
  have hl : lv_has ls 3 [(0, .ref (a 0)), (1, .int x1)] := hl
  unfold m_sign at h
  refine lv_aload_n hx hb dX3_sign_0 rfl (lv_at hl 0 rfl) ?_
  refine lv_iload_n hx hb dX3_sign_1 rfl (lv_at hl 1 rfl) ?_
  refine lv_iload_n hx hb dX3_sign_2 rfl (lv_at hl 1 rfl) ?_
  obtain ⟨b2, e1, h⟩ := pb_some h
  refine m_callR (W.runV (As := [.int x1, .int x1]) (rest := []) ⟨hx, hb, hml, hown, hts⟩ (met_isAt e1) (cwV 2 hts (lw_V q1591 q1593 qs61 q77 q1594) rfl rfl rfl hd_isAt ⟨Nat.le_of_ble_eq_true rfl, Nat.le_of_ble_eq_true rfl⟩) (m_preV hK hP) rfl rfl hl.1 rfl (lv_room (Nat.le_of_ble_eq_true rfl)) dX3_sign_3 ⟨Nat.le_of_ble_eq_true rfl, Nat.le_of_ble_eq_true rfl⟩) ?_
  refine lv_istore_n (lv' := [(2, .int (bi b2)), (0, .ref (a 0)), (1, .int x1)]) hx hb dX3_sign_6 rfl hl (by decide) rfl (fun ls hl => ?_)
  refine lv_aload_n hx hb dX3_sign_7 rfl (lv_at hl 1 rfl) ?_
  refine lv_dup hx hb dX3_sign_8 rfl ?_
  refine va_get (ci := 3) (v := .int spot) (C := RX3) (T := TX3) (N := 16) hx hb hts in_X3 hown hK hP 0 rfl rfl 9 (by decide) (hts _ q1282) (fun _ h9 => h9) rfl dX3_sign_9 ?_
  refine lv_iload_n hx hb dX3_sign_12 rfl (lv_at hl 0 rfl) ?_
  obtain ⟨j4, hj, h⟩ := pb_some h
  refine W.cut (g' := F0 m 21 ls [.int (bi j4), .int spot, .ref (a 0)]) ?_ (fun K => ?_)
  · refine lv_iadd hx hb dX3_sign_21 ?_
    refine va_put (ci := 3) (v := .int (spot + (bi j4))) (ty := .int) (C := RX3) (T := TX3) (N := 16) hx hb hts in_X3 tyX3 tyX3_ok nmX3 hown hK hP (hD _ _ _ _ _ _ _ _ _ _ _ _ _ _ _ _) hS 0 rfl rfl 9 (by decide) (hts _ q1282) (fun _ h9 => h9) rfl (by decide +kernel) rfl rfl (Nat.le_of_ble_eq_true rfl) dX3_sign_22 (fun H locs hP _ hS => ?_)
    have hP : va_P D gCl (mW dA a sA past held text parted asShown told pasts runs typed (spot + (bi j4)) from_ reason cause orders order) H := hP
    refine lv_iload_n hx hb dX3_sign_25 rfl (lv_at hl 0 rfl) ?_
    cases h
    exact W.zret hx hb hr (bi_nar _) (fun t ht hW => ⟨⟨_, (), rfl, rfl, (show va_P D gCl _ t.heap from by rw [ht]; exact hP)⟩, hS.F ht⟩) hS.2.2 dX3_sign_26
  · have h := hj
    refine lv_if_eq (tgt := 20) hx hb dX3_sign_13 (by decide) (fun c3 => ?_) (fun c3 => ?_)
    · have h := pi_t c3 h
      refine lv_iconst (v := 0) hx hb dX3_sign_20 (by decide) ?_
      cases h
      exact K
    · have h := pi_f c3 h
      refine lv_iconst (v := 1) hx hb dX3_sign_16 (by decide) ?_
      refine lv_goto (tgt := 21) hx hb dX3_sign_17 (by decide) ?_
      cases h
      exact K
theorem hd_reads : yX3_reads.cls = RX3 ∧ yX3_reads.cls ≠ "java/lang/invoke/MethodHandle" ∧ yX3_reads.cls ≠ "java/lang/invoke/VarHandle" ∧ (parseMethodDescriptor yX3_reads.desc).map (fun d => d.parameters.length) = some 0 := by decide +kernel
set_option maxHeartbeats 4000000 in
set_option maxRecDepth 100000 in
theorem lp_reads_1 {p : Program} {l : Launch} {e : Env} {s : State} {m : MethodId} {args : Array Value} {below : List Frame} {meth : Method} {c : Code} {D : va_G} {dA : ClassId} {a : Nat → Nat} {Q : State → Prop} (hx : p.tables.exec = Jvm.exec) (hb : c.code = cX3_reads) (hml : c.maxLocals = 4) (hown : s.vm.findClass RX3 = some m.cls) (hts : ∀ w ∈ lw_all, w.before args s = true) {H0 : Heap} {A : Nat → Prop} {sA : Nat → Int32} {past : Nat → Int32} {held : Nat → Int32} {text : Nat → Int32} {parted : Nat → Int32} {asShown : Nat → Int32} {pasts : Int32} {runs : Int32} {typed : Int32} {from_ : Int32} {reason : Int32} {cause : Int32} {orders : Int32} {order : Int32} (hK : va_K D gCl [(dA, .int)] s) (hD : mDD A dA a) {x1 : Int32} (nf : Nat) : ∀ (n : Nat) (y3 : Int32) (y2 : Bool) (told : Nat → Int32) (spot : Int32) (z : (Bool × (Nat → Int32) × Int32)), m_reads_L1 nf text typed x1 n y3 y2 told spot = some z → ∀ (H : Heap) (locs : List Loc) (ls : Array Slot), va_P D gCl (mW dA a sA past held text parted asShown told pasts runs typed spot from_ reason cause orders order) H → va_S A H0 H locs → lv_has ls 4 [(3, .int y3), (2, .int (bi y2)), (1, .int x1), (0, .ref (a 0))] → (∀ (H : Heap) (locs : List Loc) (ls : Array Slot), va_P D gCl (mW dA a sA past held text parted asShown z.2.1 pasts runs typed z.2.2 from_ reason cause orders order) H → va_S A H0 H locs → lv_has ls 4 [(2, .int (bi z.1)), (1, .int x1), (0, .ref (a 0))] → W p l e ({ frames := 4, cells := 0, slots := 0, locals := 78 } : Room) s m args below meth c H locs 0 0 Q (F0 m 98 ls [])) → W p l e ({ frames := 4, cells := 0, slots := 0, locals := 78 } : Room) s m args below meth c H locs 0 0 Q (F0 m 60 ls []) := by
  intro n
  induction n with
  | zero => intro y3 y2 told spot z h H locs ls hP hS hl K; exact absurd h (by simp [m_reads_L1])
  | succ n ih =>
    intro y3 y2 told spot z h H locs ls hP hS hl K
    unfold m_reads_L1 at h
    refine lv_iload_n hx hb dX3_reads_60 rfl (lv_at hl 0 rfl) ?_
    refine lv_iload_n hx hb dX3_reads_61 rfl (lv_at hl 2 rfl) ?_
    refine lv_icmp_ge (tgt := 98) hx hb dX3_reads_62 (by decide) (fun c1 => ?_) (fun c1 => ?_)
    · have h := pi_t c1 h
      cases h
      exact K H locs ls hP hS (lv_sub hl [1, 2, 3] rfl)
    · have h := pi_f c1 h
      refine lv_iload_n hx hb dX3_reads_65 rfl (lv_at hl 1 rfl) ?_
      refine lv_if_eq (tgt := 98) hx hb dX3_reads_66 (by decide) (fun c2 => ?_) (fun c2 => ?_)
      · have h := pi_t c2 h
        cases h
        exact K H locs ls hP hS (lv_sub hl [1, 2, 3] rfl)
      · have h := pi_f c2 h
        refine lv_aload_n hx hb dX3_reads_69 rfl (lv_at hl 3 rfl) ?_
        refine lv_bipush (v := 44) hx hb dX3_reads_70 (by decide) ?_
        obtain ⟨⟨b4, spot_5⟩, e3, h⟩ := pb_some h
        refine m_calli (va_runV (As := [.int (44 : Int32)]) (rest := []) ⟨hx, hb, hml, hown, hts⟩ (met_sign hD e3) (cwV 1 hts (lw_V q1602 q1604 qs63 q77 q1605) rfl rfl rfl hd_sign ⟨Nat.le_of_ble_eq_true rfl, Nat.le_of_ble_eq_true rfl⟩) (m_preV hK hP) rfl rfl hl.1 rfl (lv_room (Nat.le_of_ble_eq_true rfl)) dX3_reads_72 ⟨Nat.le_of_ble_eq_true rfl, Nat.le_of_ble_eq_true rfl⟩) hS (fun H locs hP hS => ?_)
        obtain ⟨⟨j12, told_13, spot_14⟩, hj, h⟩ := pb_some h
        refine W.cutG (G := fun H locs ls => va_P D gCl (mW dA a sA past held text parted asShown told_13 pasts runs typed spot_14 from_ reason cause orders order) H ∧ va_S A H0 H locs ∧ lv_has ls 4 [(3, .int y3), (1, .int x1), (0, .ref (a 0))]) (pc' := 91) (st' := [.int (bi j12)]) (fun H locs ls hG => ?_) (fun K => ?_)
        · obtain ⟨hP, hS, hl⟩ := hG
          refine lv_istore_n (lv' := [(2, .int (bi j12)), (3, .int y3), (1, .int x1), (0, .ref (a 0))]) hx hb dX3_reads_91 rfl hl (by decide) rfl (fun ls hl => ?_)
          refine lv_iinc (v := (y3 + (1 : Int32))) (lv' := [(3, .int (y3 + (1 : Int32))), (2, .int (bi j12)), (1, .int x1), (0, .ref (a 0))]) hx hb dX3_reads_92 hl (k := 1) rfl (by rfl) (by decide) rfl (fun ls hl => ?_)
          refine lv_goto (tgt := 60) hx hb dX3_reads_95 (by decide) ?_
          exact ih _ _ _ _ _ h H locs ls hP hS (lv_sub hl [0, 1, 2, 3] rfl) K
        · have h := hj
          refine lv_if_eq (tgt := 90) hx hb dX3_reads_75 (by decide) (fun c6 => ?_) (fun c6 => ?_)
          · have h := pi_t c6 h
            refine lv_iconst (v := 0) hx hb dX3_reads_90 (by decide) ?_
            cases h
            exact K _ _ _ ⟨hP, hS, lv_sub hl [0, 2, 3] rfl⟩
          · have h := pi_f c6 h
            refine lv_aload_n hx hb dX3_reads_78 rfl (lv_at hl 3 rfl) ?_
            refine lv_iload_n hx hb dX3_reads_79 rfl (lv_at hl 0 rfl) ?_
            obtain ⟨⟨b8, told_9, spot_10⟩, e7, h⟩ := pb_some h
            refine m_calli (va_runV (As := [.int y3]) (rest := []) ⟨hx, hb, hml, hown, hts⟩ (met_number hD e7) (cwV 1 hts (lw_V q1598 q1600 qs62 q77 q1601) rfl rfl rfl hd_number ⟨Nat.le_of_ble_eq_true rfl, Nat.le_of_ble_eq_true rfl⟩) (m_preV hK hP) rfl rfl hl.1 rfl (lv_room (Nat.le_of_ble_eq_true rfl)) dX3_reads_80 ⟨Nat.le_of_ble_eq_true rfl, Nat.le_of_ble_eq_true rfl⟩) hS (fun H locs hP hS => ?_)
            refine lv_if_eq (tgt := 90) hx hb dX3_reads_83 (by decide) (fun c11 => ?_) (fun c11 => ?_)
            · have h := pi_t c11 h
              refine lv_iconst (v := 0) hx hb dX3_reads_90 (by decide) ?_
              cases h
              exact K _ _ _ ⟨hP, hS, lv_sub hl [0, 2, 3] rfl⟩
            · have h := pi_f c11 h
              refine lv_iconst (v := 1) hx hb dX3_reads_86 (by decide) ?_
              refine lv_goto (tgt := 91) hx hb dX3_reads_87 (by decide) ?_
              cases h
              exact K _ _ _ ⟨hP, hS, lv_sub hl [0, 2, 3] rfl⟩
set_option maxHeartbeats 4000000 in
set_option maxRecDepth 100000 in
theorem met_reads {l : Launch} {D : va_G} {dA : ClassId} {a : Nat → Nat} {sA past held text parted asShown told : Nat → Int32} {pasts runs typed spot from_ reason cause orders order : Int32} {A : Nat → Prop} (hD : mDD A dA a) {nf : Nat} {b : Bool} {told' : Nat → Int32} {spot' : Int32} {order' : Int32} (h : m_reads nf text told typed spot order  = some (b, told', spot', order')) : Met l yX3_reads (ws_ yX3_reads cX3_reads 4 (some .boolean)) ({ frames := 4, cells := 0, slots := 0, locals := 78 } : Room) (mPc [.ref (a 0)] D dA a sA past held text parted asShown told pasts runs typed spot from_ reason cause orders order) (va_Qi (fun r2 (_ : Unit) => r2 = (bi b)) (fun _ t => va_P D gCl (mW dA a sA past held text parted asShown told' pasts runs typed spot' from_ reason cause orders order') t.heap) A) 0 0 A := by
  refine Met.ofW (cc := cX3_reads) (maxL := 4) (ret := (some .boolean)) (by decide) rfl ?_
  intro p e s m args below meth c s₁ B hml hv
  obtain ⟨rfl, hP, hK⟩ := hv
  have hx := B.exec
  have hb := B.bytes
  have hr := B.returns
  have hts := atoms_spec (ws := ws_ yX3_reads cX3_reads 4 (some .boolean)) B.pre
  have hts : ∀ w ∈ lw_all, w.before _ s = true := fun w h => hts w (List.mem_cons_of_mem _ h)
  have hown : s.vm.findClass RX3 = some m.cls := findClass_of_methodNamed B.named
  have hlocks := B.notSynchronized
  have hS : va_S A s.heap s.heap [] := va_S.rf
  have hl := lv_entry ([.ref (a 0)]) (n := 4) (Nat.le_of_ble_eq_true rfl)
  rw [lg_entry_eq]
  generalize (lg_sl ([.ref (a 0)]) ++ List.replicate (4 - (lg_sl ([.ref (a 0)])).length) Slot.unset).toArray = ls at hl ⊢
  have hl : lv_has ls 4 [(0, .ref (a 0))] := hl
  unfold m_reads at h
  refine lv_aload_n hx hb dX3_reads_0 rfl (lv_at hl 0 rfl) ?_
  refine lv_aload_n hx hb dX3_reads_1 rfl (lv_at hl 0 rfl) ?_
  refine lv_bipush (v := 33) hx hb dX3_reads_2 (by decide) ?_
  refine lv_bipush (v := 126) hx hb dX3_reads_4 (by decide) ?_
  obtain ⟨b2, e1, h⟩ := pb_some h
  refine m_callR (W.runV (As := [.int (33 : Int32), .int (126 : Int32)]) (rest := [.ref (a 0)]) ⟨hx, hb, hml, hown, hts⟩ (met_isAt e1) (cwV 2 hts (lw_V q1591 q1593 qs61 q77 q1594) rfl rfl rfl hd_isAt ⟨Nat.le_of_ble_eq_true rfl, Nat.le_of_ble_eq_true rfl⟩) (m_preV hK hP) rfl rfl hl.1 rfl (lv_room (Nat.le_of_ble_eq_true rfl)) dX3_reads_6 ⟨Nat.le_of_ble_eq_true rfl, Nat.le_of_ble_eq_true rfl⟩) ?_
  obtain ⟨j5, hj, h⟩ := pb_some h
  refine W.cut (g' := F0 m 25 ls [.int j5, .ref (a 0)]) ?_ (fun K => ?_)
  · refine va_put (ci := 3) (v := .int j5) (ty := .int) (C := RX3) (T := TX3) (N := 16) hx hb hts in_X3 tyX3 tyX3_ok nmX3 hown hK hP (hD _ _ _ _ _ _ _ _ _ _ _ _ _ _ _ _) hS 0 rfl rfl 14 (by decide) (hts _ q1287) (fun _ h9 => h9) rfl (by decide +kernel) rfl rfl (Nat.le_of_ble_eq_true rfl) dX3_reads_25 (fun H locs hP _ hS => ?_)
    have hP : va_P D gCl (mW dA a sA past held text parted asShown told pasts runs typed spot from_ reason cause orders j5) H := hP
    refine lv_aload_n hx hb dX3_reads_28 rfl (lv_at hl 0 rfl) ?_
    refine va_get (ci := 3) (v := .int j5) (C := RX3) (T := TX3) (N := 16) hx hb hts in_X3 hown hK hP 0 rfl rfl 14 (by decide) (hts _ q1287) (fun _ h9 => h9) rfl dX3_reads_29 ?_
    obtain ⟨r7, e6, h⟩ := pb_some h
    refine m_callR (W.runS (As := [.int j5]) (rest := []) ⟨hx, hb, hml, hown, hts⟩ (met_numbersOf e6) (va_cwS 1 hts (lw_S q1595 q1596 q77 q1597) rfl rfl rfl hd_numbersOf ⟨Nat.le_of_ble_eq_true rfl, Nat.le_of_ble_eq_true rfl⟩) m_preS rfl rfl hl.1 rfl (lv_room (Nat.le_of_ble_eq_true rfl)) dX3_reads_32 ⟨Nat.le_of_ble_eq_true rfl, Nat.le_of_ble_eq_true rfl⟩) ?_
    refine lv_istore_n (lv' := [(1, .int r7), (0, .ref (a 0))]) hx hb dX3_reads_35 rfl hl (by decide) rfl (fun ls hl => ?_)
    refine lv_iload_n hx hb dX3_reads_36 rfl (lv_at hl 0 rfl) ?_
    refine lv_if_ne (tgt := 42) hx hb dX3_reads_37 (by decide) (fun c8 => ?_) (fun c8 => ?_)
    · have h := pi_f c8 h
      refine lv_aload_n hx hb dX3_reads_42 rfl (lv_at hl 1 rfl) ?_
      refine lv_dup hx hb dX3_reads_43 rfl ?_
      refine va_get (ci := 3) (v := .int spot) (C := RX3) (T := TX3) (N := 16) hx hb hts in_X3 hown hK hP 0 rfl rfl 9 (by decide) (hts _ q1282) (fun _ h9 => h9) rfl dX3_reads_44 ?_
      refine lv_iconst (v := 1) hx hb dX3_reads_47 (by decide) ?_
      refine lv_iadd hx hb dX3_reads_48 ?_
      refine va_put (ci := 3) (v := .int (spot + (1 : Int32))) (ty := .int) (C := RX3) (T := TX3) (N := 16) hx hb hts in_X3 tyX3 tyX3_ok nmX3 hown hK hP (hD _ _ _ _ _ _ _ _ _ _ _ _ _ _ _ _) hS 0 rfl rfl 9 (by decide) (hts _ q1282) (fun _ h9 => h9) rfl (by decide +kernel) rfl rfl (Nat.le_of_ble_eq_true rfl) dX3_reads_49 (fun H locs hP _ hS => ?_)
      have hP : va_P D gCl (mW dA a sA past held text parted asShown told pasts runs typed (spot + (1 : Int32)) from_ reason cause orders j5) H := hP
      refine lv_aload_n hx hb dX3_reads_52 rfl (lv_at hl 1 rfl) ?_
      refine lv_iconst (v := 0) hx hb dX3_reads_53 (by decide) ?_
      obtain ⟨⟨b10, told_11, spot_12⟩, e9, h⟩ := pb_some h
      refine m_calli (va_runV (As := [.int (0 : Int32)]) (rest := []) ⟨hx, hb, hml, hown, hts⟩ (met_number hD e9) (cwV 1 hts (lw_V q1598 q1600 qs62 q77 q1601) rfl rfl rfl hd_number ⟨Nat.le_of_ble_eq_true rfl, Nat.le_of_ble_eq_true rfl⟩) (m_preV hK hP) rfl rfl hl.1 rfl (lv_room (Nat.le_of_ble_eq_true rfl)) dX3_reads_54 ⟨Nat.le_of_ble_eq_true rfl, Nat.le_of_ble_eq_true rfl⟩) hS (fun H locs hP hS => ?_)
      refine lv_istore_n (lv' := [(2, .int (bi b10)), (1, .int r7), (0, .ref (a 0))]) hx hb dX3_reads_57 rfl hl (by decide) rfl (fun ls hl => ?_)
      refine lv_iconst (v := 1) hx hb dX3_reads_58 (by decide) ?_
      refine lv_istore_n (lv' := [(3, .int (1 : Int32)), (2, .int (bi b10)), (1, .int r7), (0, .ref (a 0))]) hx hb dX3_reads_59 rfl hl (by decide) rfl (fun ls hl => ?_)
      obtain ⟨⟨o13, told_14, spot_15⟩, e501, h⟩ := pb_some h
      refine lp_reads_1 hx hb hml hown hts hK hD _ _ _ _ _ _ _ e501 _ _ ls hP hS (lv_sub hl [0, 1, 2, 3] rfl) (fun H locs ls hP hS hl => ?_)
      refine lv_iload_n hx hb dX3_reads_98 rfl (lv_at hl 0 rfl) ?_
      refine lv_if_eq (tgt := 115) hx hb dX3_reads_99 (by decide) (fun c16 => ?_) (fun c16 => ?_)
      · have h := pi_t c16 h
        refine lv_iconst (v := 0) hx hb dX3_reads_115 (by decide) ?_
        cases h
        exact W.zret hx hb hr rfl (fun t ht hW => ⟨⟨_, (), rfl, rfl, (show va_P D gCl _ t.heap from by rw [ht]; exact hP)⟩, hS.F ht⟩) hS.2.2 dX3_reads_116
      · have h := pi_f c16 h
        refine lv_aload_n hx hb dX3_reads_102 rfl (lv_at hl 2 rfl) ?_
        refine lv_bipush (v := 59) hx hb dX3_reads_103 (by decide) ?_
        obtain ⟨⟨b18, spot_19⟩, e17, h⟩ := pb_some h
        refine m_calli (va_runV (As := [.int (59 : Int32)]) (rest := []) ⟨hx, hb, hml, hown, hts⟩ (met_sign hD e17) (cwV 1 hts (lw_V q1602 q1604 qs63 q77 q1605) rfl rfl rfl hd_sign ⟨Nat.le_of_ble_eq_true rfl, Nat.le_of_ble_eq_true rfl⟩) (m_preV hK hP) rfl rfl hl.1 rfl (lv_room (Nat.le_of_ble_eq_true rfl)) dX3_reads_105 ⟨Nat.le_of_ble_eq_true rfl, Nat.le_of_ble_eq_true rfl⟩) hS (fun H locs hP hS => ?_)
        refine lv_if_eq (tgt := 115) hx hb dX3_reads_108 (by decide) (fun c20 => ?_) (fun c20 => ?_)
        · have h := pi_t c20 h
          refine lv_iconst (v := 0) hx hb dX3_reads_115 (by decide) ?_
          cases h
          exact W.zret hx hb hr rfl (fun t ht hW => ⟨⟨_, (), rfl, rfl, (show va_P D gCl _ t.heap from by rw [ht]; exact hP)⟩, hS.F ht⟩) hS.2.2 dX3_reads_116
        · have h := pi_f c20 h
          refine lv_iconst (v := 1) hx hb dX3_reads_111 (by decide) ?_
          refine lv_goto (tgt := 116) hx hb dX3_reads_112 (by decide) ?_
          cases h
          exact W.zret hx hb hr rfl (fun t ht hW => ⟨⟨_, (), rfl, rfl, (show va_P D gCl _ t.heap from by rw [ht]; exact hP)⟩, hS.F ht⟩) hS.2.2 dX3_reads_116
    · have h := pi_t c8 h
      refine lv_iconst (v := 0) hx hb dX3_reads_40 (by decide) ?_
      cases h
      exact W.zret hx hb hr rfl (fun t ht hW => ⟨⟨_, (), rfl, rfl, (show va_P D gCl _ t.heap from by rw [ht]; exact hP)⟩, hS.F ht⟩) hS.2.2 dX3_reads_41
  · have h := hj
    refine lv_if_eq (tgt := 24) hx hb dX3_reads_9 (by decide) (fun c3 => ?_) (fun c3 => ?_)
    · have h := pi_t c3 h
      refine lv_iconst (v := 0) hx hb dX3_reads_24 (by decide) ?_
      cases h
      exact K
    · have h := pi_f c3 h
      refine lv_aload_n hx hb dX3_reads_12 rfl (lv_at hl 0 rfl) ?_
      refine va_get (ci := 3) (v := .ref (a 4)) (C := RX3) (T := TX3) (N := 16) hx hb hts in_X3 hown hK hP 0 rfl rfl 5 (by decide) (hts _ q1278) (fun _ h9 => h9) rfl dX3_reads_13 ?_
      refine lv_aload_n hx hb dX3_reads_16 rfl (lv_at hl 0 rfl) ?_
      refine va_get (ci := 3) (v := .int spot) (C := RX3) (T := TX3) (N := 16) hx hb hts in_X3 hown hK hP 0 rfl rfl 9 (by decide) (hts _ q1282) (fun _ h9 => h9) rfl dX3_reads_17 ?_
      obtain ⟨g4, h⟩ := pg_some h
      refine va_iald hx hb hK hP 4 0 rfl rfl g4 dX3_reads_20 ?_
      refine lv_goto (tgt := 25) hx hb dX3_reads_21 (by decide) ?_
      cases h
      exact K
theorem hd_plays : yX3_plays.cls = RX3 ∧ yX3_plays.cls ≠ "java/lang/invoke/MethodHandle" ∧ yX3_plays.cls ≠ "java/lang/invoke/VarHandle" ∧ (parseMethodDescriptor yX3_plays.desc).map (fun d => d.parameters.length) = some 0 := by decide +kernel
set_option maxHeartbeats 4000000 in
set_option maxRecDepth 100000 in
theorem lp_plays_1 {p : Program} {l : Launch} {e : Env} {s : State} {m : MethodId} {args : Array Value} {below : List Frame} {meth : Method} {c : Code} {D : va_G} {dA : ClassId} {a : Nat → Nat} {Q : State → Prop} (hx : p.tables.exec = Jvm.exec) (hb : c.code = cX3_plays) (hml : c.maxLocals = 4) (hown : s.vm.findClass RX3 = some m.cls) (hts : ∀ w ∈ lw_all, w.before args s = true) {H0 : Heap} {A : Nat → Prop} {held : Nat → Int32} {text : Nat → Int32} {parted : Nat → Int32} {runs : Int32} {typed : Int32} (hK : va_K D gCl [(dA, .int)] s) (hD : mDD A dA a)  (nf : Nat) : ∀ (n : Nat) (y1 : Bool) (sA : Nat → Int32) (past : Nat → Int32) (asShown : Nat → Int32) (told : Nat → Int32) (pasts : Int32) (spot : Int32) (from_ : Int32) (reason : Int32) (cause : Int32) (orders : Int32) (order : Int32) (z : (Bool × (Nat → Int32) × (Nat → Int32) × (Nat → Int32) × (Nat → Int32) × Int32 × Int32 × Int32 × Int32 × Int32 × Int32 × Int32)), m_plays_L1 nf text runs typed n y1 sA past asShown told pasts spot from_ reason cause orders order = some z → ∀ (H : Heap) (locs : List Loc) (ls : Array Slot), va_P D gCl (mW dA a sA past held text parted asShown told pasts runs typed spot from_ reason cause orders order) H → va_S A H0 H locs → lv_has ls 4 [(1, .int (bi y1)), (0, .ref (a 0))] → (∀ (H : Heap) (locs : List Loc) (ls : Array Slot), va_P D gCl (mW dA a z.2.1 z.2.2.1 held text parted z.2.2.2.1 z.2.2.2.2.1 z.2.2.2.2.2.1 runs typed z.2.2.2.2.2.2.1 z.2.2.2.2.2.2.2.1 z.2.2.2.2.2.2.2.2.1 z.2.2.2.2.2.2.2.2.2.1 z.2.2.2.2.2.2.2.2.2.2.1 z.2.2.2.2.2.2.2.2.2.2.2) H → va_S A H0 H locs → lv_has ls 4 [(1, .int (bi z.1)), (0, .ref (a 0))] → W p l e ({ frames := 6, cells := 0, slots := 0, locals := 122 } : Room) s m args below meth c H locs 0 0 Q (F0 m 124 ls [])) → W p l e ({ frames := 6, cells := 0, slots := 0, locals := 122 } : Room) s m args below meth c H locs 0 0 Q (F0 m 22 ls []) := by
  intro n
  induction n with
  | zero => intro y1 sA past asShown told pasts spot from_ reason cause orders order z h H locs ls hP hS hl K; exact absurd h (by simp [m_plays_L1])
  | succ n ih =>
    intro y1 sA past asShown told pasts spot from_ reason cause orders order z h H locs ls hP hS hl K
    unfold m_plays_L1 at h
    refine lv_aload_n hx hb dX3_plays_22 rfl (lv_at hl 1 rfl) ?_
    refine va_get (ci := 3) (v := .int spot) (C := RX3) (T := TX3) (N := 16) hx hb hts in_X3 hown hK hP 0 rfl rfl 9 (by decide) (hts _ q1282) (fun _ h9 => h9) rfl dX3_plays_23 ?_
    refine lv_aload_n hx hb dX3_plays_26 rfl (lv_at hl 1 rfl) ?_
    refine va_get (ci := 3) (v := .int typed) (C := RX3) (T := TX3) (N := 16) hx hb hts in_X3 hown hK hP 0 rfl rfl 6 (by decide) (hts _ q1279) (fun _ h9 => h9) rfl dX3_plays_27 ?_
    refine lv_icmp_ge (tgt := 124) hx hb dX3_plays_30 (by decide) (fun c1 => ?_) (fun c1 => ?_)
    · have h := pi_t c1 h
      cases h
      exact K H locs ls hP hS (lv_sub hl [0, 1] rfl)
    · have h := pi_f c1 h
      refine lv_iload_n hx hb dX3_plays_33 rfl (lv_at hl 0 rfl) ?_
      refine lv_if_eq (tgt := 124) hx hb dX3_plays_34 (by decide) (fun c2 => ?_) (fun c2 => ?_)
      · have h := pi_t c2 h
        cases h
        exact K H locs ls hP hS (lv_sub hl [0, 1] rfl)
      · have h := pi_f c2 h
        refine lv_aload_n hx hb dX3_plays_37 rfl (lv_at hl 1 rfl) ?_
        refine lv_aload_n hx hb dX3_plays_38 rfl (lv_at hl 1 rfl) ?_
        refine va_get (ci := 3) (v := .int spot) (C := RX3) (T := TX3) (N := 16) hx hb hts in_X3 hown hK hP 0 rfl rfl 9 (by decide) (hts _ q1282) (fun _ h9 => h9) rfl dX3_plays_39 ?_
        refine va_put (ci := 3) (v := .int spot) (ty := .int) (C := RX3) (T := TX3) (N := 16) hx hb hts in_X3 tyX3 tyX3_ok nmX3 hown hK hP (hD _ _ _ _ _ _ _ _ _ _ _ _ _ _ _ _) hS 0 rfl rfl 10 (by decide) (hts _ q1283) (fun _ h9 => h9) rfl (by decide +kernel) rfl rfl (Nat.le_of_ble_eq_true rfl) dX3_plays_42 (fun H locs hP _ hS => ?_)
        have hP : va_P D gCl (mW dA a sA past held text parted asShown told pasts runs typed spot spot reason cause orders order) H := hP
        refine lv_aload_n hx hb dX3_plays_45 rfl (lv_at hl 1 rfl) ?_
        obtain ⟨⟨b4, told_5, spot_6, order_7⟩, e3, h⟩ := pb_some h
        refine m_calli (va_runV (As := []) (rest := []) ⟨hx, hb, hml, hown, hts⟩ (met_reads hD e3) (cwV 0 hts (lw_V q1587 q1589 qs60 q77 q1590) rfl rfl rfl hd_reads ⟨Nat.le_of_ble_eq_true rfl, Nat.le_of_ble_eq_true rfl⟩) (m_preV hK hP) rfl rfl hl.1 rfl (lv_room (Nat.le_of_ble_eq_true rfl)) dX3_plays_46 ⟨Nat.le_of_ble_eq_true rfl, Nat.le_of_ble_eq_true rfl⟩) hS (fun H locs hP hS => ?_)
        refine lv_istore_n (lv' := [(2, .int (bi b4)), (1, .int (bi y1)), (0, .ref (a 0))]) hx hb dX3_plays_49 rfl hl (by decide) rfl (fun ls hl => ?_)
        refine lv_iload_n hx hb dX3_plays_50 rfl (lv_at hl 0 rfl) ?_
        obtain ⟨⟨j15, sA_16, past_17, asShown_18, pasts_19⟩, hj, h⟩ := pb_some h
        refine W.cutG (G := fun H locs ls => va_P D gCl (mW dA a sA_16 past_17 held text parted asShown_18 told_5 pasts_19 runs typed spot_6 spot reason cause orders order_7) H ∧ va_S A H0 H locs ∧ lv_has ls 4 [(2, .int (bi b4)), (0, .ref (a 0))]) (pc' := 62) (st' := [.int j15]) (fun H locs ls hG => ?_) (fun K => ?_)
        · obtain ⟨hP, hS, hl⟩ := hG
          refine lv_istore_n (lv' := [(3, .int j15), (2, .int (bi b4)), (0, .ref (a 0))]) hx hb dX3_plays_62 rfl hl (by decide) rfl (fun ls hl => ?_)
          refine lv_iload_n hx hb dX3_plays_63 rfl (lv_at hl 1 rfl) ?_
          obtain ⟨j22, hj, h⟩ := pb_some h
          refine W.cut (g' := F0 m 76 ls [.int (bi j22)]) ?_ (fun K => ?_)
          · refine lv_istore_n (lv' := [(1, .int (bi j22)), (3, .int j15), (2, .int (bi b4)), (0, .ref (a 0))]) hx hb dX3_plays_76 rfl hl (by decide) rfl (fun ls hl => ?_)
            refine lv_aload_n hx hb dX3_plays_77 rfl (lv_at hl 3 rfl) ?_
            refine lv_iload_n hx hb dX3_plays_78 rfl (lv_at hl 2 rfl) ?_
            obtain ⟨j24, hj, h⟩ := pb_some h
            refine W.cut (g' := F0 m 87 ls [.int j24, .ref (a 0)]) ?_ (fun K => ?_)
            · refine va_put (ci := 3) (v := .int j24) (ty := .int) (C := RX3) (T := TX3) (N := 16) hx hb hts in_X3 tyX3 tyX3_ok nmX3 hown hK hP (hD _ _ _ _ _ _ _ _ _ _ _ _ _ _ _ _) hS 0 rfl rfl 11 (by decide) (hts _ q1284) (fun _ h9 => h9) rfl (by decide +kernel) rfl rfl (Nat.le_of_ble_eq_true rfl) dX3_plays_87 (fun H locs hP _ hS => ?_)
              have hP : va_P D gCl (mW dA a sA_16 past_17 held text parted asShown_18 told_5 pasts_19 runs typed spot_6 spot j24 cause orders order_7) H := hP
              refine lv_aload_n hx hb dX3_plays_90 rfl (lv_at hl 3 rfl) ?_
              refine lv_iload_n hx hb dX3_plays_91 rfl (lv_at hl 2 rfl) ?_
              obtain ⟨j26, hj, h⟩ := pb_some h
              refine W.cut (g' := F0 m 108 ls [.int j26, .ref (a 0)]) ?_ (fun K => ?_)
              · refine va_put (ci := 3) (v := .int j26) (ty := .int) (C := RX3) (T := TX3) (N := 16) hx hb hts in_X3 tyX3 tyX3_ok nmX3 hown hK hP (hD _ _ _ _ _ _ _ _ _ _ _ _ _ _ _ _) hS 0 rfl rfl 12 (by decide) (hts _ q1285) (fun _ h9 => h9) rfl (by decide +kernel) rfl rfl (Nat.le_of_ble_eq_true rfl) dX3_plays_108 (fun H locs hP _ hS => ?_)
                have hP : va_P D gCl (mW dA a sA_16 past_17 held text parted asShown_18 told_5 pasts_19 runs typed spot_6 spot j24 j26 orders order_7) H := hP
                refine lv_aload_n hx hb dX3_plays_111 rfl (lv_at hl 3 rfl) ?_
                refine lv_dup hx hb dX3_plays_112 rfl ?_
                refine va_get (ci := 3) (v := .int orders) (C := RX3) (T := TX3) (N := 16) hx hb hts in_X3 hown hK hP 0 rfl rfl 13 (by decide) (hts _ q1286) (fun _ h9 => h9) rfl dX3_plays_113 ?_
                refine lv_iconst (v := 1) hx hb dX3_plays_116 (by decide) ?_
                refine lv_iadd hx hb dX3_plays_117 ?_
                refine va_put (ci := 3) (v := .int (orders + (1 : Int32))) (ty := .int) (C := RX3) (T := TX3) (N := 16) hx hb hts in_X3 tyX3 tyX3_ok nmX3 hown hK hP (hD _ _ _ _ _ _ _ _ _ _ _ _ _ _ _ _) hS 0 rfl rfl 13 (by decide) (hts _ q1286) (fun _ h9 => h9) rfl (by decide +kernel) rfl rfl (Nat.le_of_ble_eq_true rfl) dX3_plays_118 (fun H locs hP _ hS => ?_)
                have hP : va_P D gCl (mW dA a sA_16 past_17 held text parted asShown_18 told_5 pasts_19 runs typed spot_6 spot j24 j26 (orders + (1 : Int32)) order_7) H := hP
                refine lv_goto (tgt := 22) hx hb dX3_plays_121 (by decide) ?_
                exact ih _ _ _ _ _ _ _ _ _ _ _ _ _ h H locs ls hP hS (lv_sub hl [0, 3] rfl) K
              · have h := hj
                refine lv_if_eq (tgt := 99) hx hb dX3_plays_92 (by decide) (fun c25 => ?_) (fun c25 => ?_)
                · have h := pi_t c25 h
                  refine lv_aload_n hx hb dX3_plays_99 rfl (lv_at hl 3 rfl) ?_
                  refine va_get (ci := 3) (v := .int spot_6) (C := RX3) (T := TX3) (N := 16) hx hb hts in_X3 hown hK hP 0 rfl rfl 9 (by decide) (hts _ q1282) (fun _ h9 => h9) rfl dX3_plays_100 ?_
                  refine lv_aload_n hx hb dX3_plays_103 rfl (lv_at hl 3 rfl) ?_
                  refine va_get (ci := 3) (v := .int spot) (C := RX3) (T := TX3) (N := 16) hx hb hts in_X3 hown hK hP 0 rfl rfl 10 (by decide) (hts _ q1283) (fun _ h9 => h9) rfl dX3_plays_104 ?_
                  refine lv_isub hx hb dX3_plays_107 ?_
                  cases h
                  exact K
                · have h := pi_f c25 h
                  refine lv_iload_n hx hb dX3_plays_95 rfl (lv_at hl 1 rfl) ?_
                  refine lv_goto (tgt := 108) hx hb dX3_plays_96 (by decide) ?_
                  cases h
                  exact K
            · have h := hj
              refine lv_if_eq (tgt := 86) hx hb dX3_plays_79 (by decide) (fun c23 => ?_) (fun c23 => ?_)
              · have h := pi_t c23 h
                refine lv_iconst (v := 1) hx hb dX3_plays_86 (by decide) ?_
                cases h
                exact K
              · have h := pi_f c23 h
                refine lv_iconst (v := 2) hx hb dX3_plays_82 (by decide) ?_
                refine lv_goto (tgt := 87) hx hb dX3_plays_83 (by decide) ?_
                cases h
                exact K
          · have h := hj
            refine lv_if_eq (tgt := 75) hx hb dX3_plays_64 (by decide) (fun c20 => ?_) (fun c20 => ?_)
            · have h := pi_t c20 h
              refine lv_iconst (v := 0) hx hb dX3_plays_75 (by decide) ?_
              cases h
              exact K
            · have h := pi_f c20 h
              refine lv_iload_n hx hb dX3_plays_67 rfl (lv_at hl 0 rfl) ?_
              refine lv_if_lt (tgt := 75) hx hb dX3_plays_68 (by decide) (fun c21 => ?_) (fun c21 => ?_)
              · have h := pi_t c21 h
                refine lv_iconst (v := 0) hx hb dX3_plays_75 (by decide) ?_
                cases h
                exact K
              · have h := pi_f c21 h
                refine lv_iconst (v := 1) hx hb dX3_plays_71 (by decide) ?_
                refine lv_goto (tgt := 76) hx hb dX3_plays_72 (by decide) ?_
                cases h
                exact K
        · have h := hj
          refine lv_if_eq (tgt := 61) hx hb dX3_plays_51 (by decide) (fun c8 => ?_) (fun c8 => ?_)
          · have h := pi_t c8 h
            refine lv_iconst (v := 0) hx hb dX3_plays_61 (by decide) ?_
            cases h
            exact K _ _ _ ⟨hP, hS, lv_sub hl [0, 2] rfl⟩
          · have h := pi_f c8 h
            refine lv_aload_n hx hb dX3_plays_54 rfl (lv_at hl 2 rfl) ?_
            obtain ⟨⟨r10, sA_11, past_12, asShown_13, pasts_14⟩, e9, h⟩ := pb_some h
            refine m_calli (va_runV (As := []) (rest := []) ⟨hx, hb, hml, hown, hts⟩ (met_calls hD e9) (cwV 0 hts (lw_V q1606 q1608 qs64 q77 q1609) rfl rfl rfl hd_calls ⟨Nat.le_of_ble_eq_true rfl, Nat.le_of_ble_eq_true rfl⟩) (m_preV hK hP) rfl rfl hl.1 rfl (lv_room (Nat.le_of_ble_eq_true rfl)) dX3_plays_55 ⟨Nat.le_of_ble_eq_true rfl, Nat.le_of_ble_eq_true rfl⟩) hS (fun H locs hP hS => ?_)
            refine lv_goto (tgt := 62) hx hb dX3_plays_58 (by decide) ?_
            cases h
            exact K _ _ _ ⟨hP, hS, lv_sub hl [0, 2] rfl⟩
set_option maxHeartbeats 4000000 in
set_option maxRecDepth 100000 in
theorem met_plays {l : Launch} {D : va_G} {dA : ClassId} {a : Nat → Nat} {sA past held text parted asShown told : Nat → Int32} {pasts runs typed spot from_ reason cause orders order : Int32} {A : Nat → Prop} (hD : mDD A dA a) {nf : Nat} {b : Bool} {sA' : Nat → Int32} {past' : Nat → Int32} {asShown' : Nat → Int32} {told' : Nat → Int32} {pasts' : Int32} {runs' : Int32} {spot' : Int32} {from_' : Int32} {reason' : Int32} {cause' : Int32} {orders' : Int32} {order' : Int32} (h : m_plays nf sA past text asShown told pasts runs typed spot from_ reason cause orders order  = some (b, sA', past', asShown', told', pasts', runs', spot', from_', reason', cause', orders', order')) : Met l yX3_plays (ws_ yX3_plays cX3_plays 4 (some .boolean)) ({ frames := 6, cells := 0, slots := 0, locals := 122 } : Room) (mPc [.ref (a 0)] D dA a sA past held text parted asShown told pasts runs typed spot from_ reason cause orders order) (va_Qi (fun r2 (_ : Unit) => r2 = (bi b)) (fun _ t => va_P D gCl (mW dA a sA' past' held text parted asShown' told' pasts' runs' typed spot' from_' reason' cause' orders' order') t.heap) A) 0 0 A := by
  refine Met.ofW (cc := cX3_plays) (maxL := 4) (ret := (some .boolean)) (by decide) rfl ?_
  intro p e s m args below meth c s₁ B hml hv
  obtain ⟨rfl, hP, hK⟩ := hv
  have hx := B.exec
  have hb := B.bytes
  have hr := B.returns
  have hts := atoms_spec (ws := ws_ yX3_plays cX3_plays 4 (some .boolean)) B.pre
  have hts : ∀ w ∈ lw_all, w.before _ s = true := fun w h => hts w (List.mem_cons_of_mem _ h)
  have hown : s.vm.findClass RX3 = some m.cls := findClass_of_methodNamed B.named
  have hlocks := B.notSynchronized
  have hS : va_S A s.heap s.heap [] := va_S.rf
  have hl := lv_entry ([.ref (a 0)]) (n := 4) (Nat.le_of_ble_eq_true rfl)
  rw [lg_entry_eq]
  generalize (lg_sl ([.ref (a 0)]) ++ List.replicate (4 - (lg_sl ([.ref (a 0)])).length) Slot.unset).toArray = ls at hl ⊢
  have hl : lv_has ls 4 [(0, .ref (a 0))] := hl
  unfold m_plays at h
  refine lv_aload_n hx hb dX3_plays_0 rfl (lv_at hl 0 rfl) ?_
  refine lv_iconst (v := 1) hx hb dX3_plays_1 (by decide) ?_
  refine va_put (ci := 3) (v := .int (1 : Int32)) (ty := .boolean) (C := RX3) (T := TX3) (N := 16) hx hb hts in_X3 tyX3 tyX3_ok nmX3 hown hK hP (hD _ _ _ _ _ _ _ _ _ _ _ _ _ _ _ _) hS 0 rfl rfl 4 (by decide) (hts _ q1277) (fun _ h9 => h9) rfl (by decide +kernel) rfl rfl (Nat.le_of_ble_eq_true rfl) dX3_plays_2 (fun H locs hP _ hS => ?_)
  have hP : va_P D gCl (mW dA a sA past held text parted asShown told pasts (1 : Int32) typed spot from_ reason cause orders order) H := hP
  refine lv_aload_n hx hb dX3_plays_5 rfl (lv_at hl 0 rfl) ?_
  refine lv_iconst (v := 0) hx hb dX3_plays_6 (by decide) ?_
  refine va_put (ci := 3) (v := .int (0 : Int32)) (ty := .int) (C := RX3) (T := TX3) (N := 16) hx hb hts in_X3 tyX3 tyX3_ok nmX3 hown hK hP (hD _ _ _ _ _ _ _ _ _ _ _ _ _ _ _ _) hS 0 rfl rfl 9 (by decide) (hts _ q1282) (fun _ h9 => h9) rfl (by decide +kernel) rfl rfl (Nat.le_of_ble_eq_true rfl) dX3_plays_7 (fun H locs hP _ hS => ?_)
  have hP : va_P D gCl (mW dA a sA past held text parted asShown told pasts (1 : Int32) typed (0 : Int32) from_ reason cause orders order) H := hP
  refine lv_aload_n hx hb dX3_plays_10 rfl (lv_at hl 0 rfl) ?_
  refine lv_iconst (v := 0) hx hb dX3_plays_11 (by decide) ?_
  refine va_put (ci := 3) (v := .int (0 : Int32)) (ty := .int) (C := RX3) (T := TX3) (N := 16) hx hb hts in_X3 tyX3 tyX3_ok nmX3 hown hK hP (hD _ _ _ _ _ _ _ _ _ _ _ _ _ _ _ _) hS 0 rfl rfl 10 (by decide) (hts _ q1283) (fun _ h9 => h9) rfl (by decide +kernel) rfl rfl (Nat.le_of_ble_eq_true rfl) dX3_plays_12 (fun H locs hP _ hS => ?_)
  have hP : va_P D gCl (mW dA a sA past held text parted asShown told pasts (1 : Int32) typed (0 : Int32) (0 : Int32) reason cause orders order) H := hP
  refine lv_aload_n hx hb dX3_plays_15 rfl (lv_at hl 0 rfl) ?_
  refine lv_iconst (v := 0) hx hb dX3_plays_16 (by decide) ?_
  refine va_put (ci := 3) (v := .int (0 : Int32)) (ty := .int) (C := RX3) (T := TX3) (N := 16) hx hb hts in_X3 tyX3 tyX3_ok nmX3 hown hK hP (hD _ _ _ _ _ _ _ _ _ _ _ _ _ _ _ _) hS 0 rfl rfl 13 (by decide) (hts _ q1286) (fun _ h9 => h9) rfl (by decide +kernel) rfl rfl (Nat.le_of_ble_eq_true rfl) dX3_plays_17 (fun H locs hP _ hS => ?_)
  have hP : va_P D gCl (mW dA a sA past held text parted asShown told pasts (1 : Int32) typed (0 : Int32) (0 : Int32) reason cause (0 : Int32) order) H := hP
  refine lv_iconst (v := 1) hx hb dX3_plays_20 (by decide) ?_
  refine lv_istore_n (lv' := [(1, .int (1 : Int32)), (0, .ref (a 0))]) hx hb dX3_plays_21 rfl hl (by decide) rfl (fun ls hl => ?_)
  obtain ⟨⟨o1, sA_2, past_3, asShown_4, told_5, pasts_6, spot_7, from_8, reason_9, cause_10, orders_11, order_12⟩, e501, h⟩ := pb_some h
  refine lp_plays_1 hx hb hml hown hts hK hD _ _ _ _ _ _ _ _ _ _ _ _ _ _ _ e501 _ _ ls hP hS (lv_sub hl [0, 1] rfl) (fun H locs ls hP hS hl => ?_)
  refine lv_aload_n hx hb dX3_plays_124 rfl (lv_at hl 1 rfl) ?_
  refine lv_iconst (v := 0) hx hb dX3_plays_125 (by decide) ?_
  refine va_put (ci := 3) (v := .int (0 : Int32)) (ty := .boolean) (C := RX3) (T := TX3) (N := 16) hx hb hts in_X3 tyX3 tyX3_ok nmX3 hown hK hP (hD _ _ _ _ _ _ _ _ _ _ _ _ _ _ _ _) hS 0 rfl rfl 4 (by decide) (hts _ q1277) (fun _ h9 => h9) rfl (by decide +kernel) rfl rfl (Nat.le_of_ble_eq_true rfl) dX3_plays_126 (fun H locs hP _ hS => ?_)
  have hP : va_P D gCl (mW dA a sA_2 past_3 held text parted asShown_4 told_5 pasts_6 (0 : Int32) typed spot_7 from_8 reason_9 cause_10 orders_11 order_12) H := hP
  refine lv_iload_n hx hb dX3_plays_129 rfl (lv_at hl 0 rfl) ?_
  cases h
  exact W.zret hx hb hr (bi_nar _) (fun t ht hW => ⟨⟨_, (), rfl, rfl, (show va_P D gCl _ t.heap from by rw [ht]; exact hP)⟩, hS.F ht⟩) hS.2.2 dX3_plays_130
theorem hd_fault : yX3_fault.cls = RX3 ∧ yX3_fault.cls ≠ "java/lang/invoke/MethodHandle" ∧ yX3_fault.cls ≠ "java/lang/invoke/VarHandle" ∧ (parseMethodDescriptor yX3_fault.desc).map (fun d => d.parameters.length) = some 1 := by decide +kernel
set_option maxHeartbeats 4000000 in
set_option maxRecDepth 100000 in
theorem met_fault {l : Launch} {D : va_G} {dA : ClassId} {a : Nat → Nat} {sA past held text parted asShown told : Nat → Int32} {pasts runs typed spot from_ reason cause orders order : Int32} {A : Nat → Prop} (hD : mDD A dA a) {nf : Nat} {x1 : Int32} {r : Int32} {sA' : Nat → Int32} {past' : Nat → Int32} {held' : Nat → Int32} {asShown' : Nat → Int32} {told' : Nat → Int32} {pasts' : Int32} {runs' : Int32} {spot' : Int32} {from_' : Int32} {reason' : Int32} {cause' : Int32} {orders' : Int32} {order' : Int32} (h : m_fault nf sA past held text asShown told pasts runs typed spot from_ reason cause orders order x1 = some (r, sA', past', held', asShown', told', pasts', runs', spot', from_', reason', cause', orders', order')) : Met l yX3_fault (ws_ yX3_fault cX3_fault 3 (some .int)) ({ frames := 7, cells := 0, slots := 0, locals := 145 } : Room) (mPc [.ref (a 0), .int x1] D dA a sA past held text parted asShown told pasts runs typed spot from_ reason cause orders order) (va_Qi (fun r2 (_ : Unit) => r2 = r) (fun _ t => va_P D gCl (mW dA a sA' past' held' text parted asShown' told' pasts' runs' typed spot' from_' reason' cause' orders' order') t.heap) A) 0 0 A := by
  refine Met.ofW (cc := cX3_fault) (maxL := 3) (ret := (some .int)) (by decide) rfl ?_
  intro p e s m args below meth c s₁ B hml hv
  obtain ⟨rfl, hP, hK⟩ := hv
  have hx := B.exec
  have hb := B.bytes
  have hr := B.returns
  have hts := atoms_spec (ws := ws_ yX3_fault cX3_fault 3 (some .int)) B.pre
  have hts : ∀ w ∈ lw_all, w.before _ s = true := fun w h => hts w (List.mem_cons_of_mem _ h)
  have hown : s.vm.findClass RX3 = some m.cls := findClass_of_methodNamed B.named
  have hlocks := B.notSynchronized
  have hS : va_S A s.heap s.heap [] := va_S.rf
  have hl := lv_entry ([.ref (a 0), .int x1]) (n := 3) (Nat.le_of_ble_eq_true rfl)
  rw [lg_entry_eq]
  generalize (lg_sl ([.ref (a 0), .int x1]) ++ List.replicate (3 - (lg_sl ([.ref (a 0), .int x1])).length) Slot.unset).toArray = ls at hl ⊢
  have hl : lv_has ls 3 [(0, .ref (a 0)), (1, .int x1)] := hl
  unfold m_fault at h
  refine lv_iload_n hx hb dX3_fault_0 rfl (lv_at hl 1 rfl) ?_
  refine lv_iconst (v := 0) hx hb dX3_fault_1 (by decide) ?_
  refine lv_iconst (v := 2) hx hb dX3_fault_2 (by decide) ?_
  obtain ⟨b2, e1, h⟩ := pb_some h
  refine m_callR (W.runS (As := [.int x1, .int (0 : Int32), .int (2 : Int32)]) (rest := []) ⟨hx, hb, hml, hown, hts⟩ (met_in e1) (va_cwS 3 hts (lw_S q1326 q1327 q77 q1328) rfl rfl rfl hd_in ⟨Nat.le_of_ble_eq_true rfl, Nat.le_of_ble_eq_true rfl⟩) m_preS rfl rfl hl.1 rfl (lv_room (Nat.le_of_ble_eq_true rfl)) dX3_fault_3 ⟨Nat.le_of_ble_eq_true rfl, Nat.le_of_ble_eq_true rfl⟩) ?_
  refine lv_if_ne (tgt := 12) hx hb dX3_fault_6 (by decide) (fun c3 => ?_) (fun c3 => ?_)
  · have h := pi_f c3 h
    refine lv_aload_n hx hb dX3_fault_12 rfl (lv_at hl 0 rfl) ?_
    refine va_get (ci := 3) (v := .ref (a 1)) (C := RX3) (T := TX3) (N := 16) hx hb hts in_X3 hown hK hP 0 rfl rfl 0 (by decide) (hts _ q1273) (fun _ h9 => h9) rfl dX3_fault_13 ?_
    refine lv_aload_n hx hb dX3_fault_16 rfl (lv_at hl 0 rfl) ?_
    refine va_get (ci := 3) (v := .ref (a 3)) (C := RX3) (T := TX3) (N := 16) hx hb hts in_X3 hown hK hP 0 rfl rfl 2 (by decide) (hts _ q1275) (fun _ h9 => h9) rfl dX3_fault_17 ?_
    obtain ⟨held_5, e4, h⟩ := pb_some h
    refine m_callv (va_runS (As := [.ref (a 1), .ref (a 3)]) (rest := []) ⟨hx, hb, hml, hown, hts⟩ (met_copies_sA_held hD e4) (va_cwS 2 hts (lw_S q1580 q1581 q77 q1582) rfl rfl rfl hd_copies ⟨Nat.le_of_ble_eq_true rfl, Nat.le_of_ble_eq_true rfl⟩) (m_preW hK hP) rfl rfl hl.1 rfl (lv_room (Nat.le_of_ble_eq_true rfl)) dX3_fault_20 ⟨Nat.le_of_ble_eq_true rfl, Nat.le_of_ble_eq_true rfl⟩) hS (fun H locs hP hS => ?_)
    refine lv_aload_n hx hb dX3_fault_23 rfl (lv_at hl 0 rfl) ?_
    obtain ⟨⟨b7, sA_8, past_9, asShown_10, told_11, pasts_12, runs_13, spot_14, from_15, reason_16, cause_17, orders_18, order_19⟩, e6, h⟩ := pb_some h
    refine m_calli (va_runV (As := []) (rest := []) ⟨hx, hb, hml, hown, hts⟩ (met_plays hD e6) (cwV 0 hts (lw_V q1583 q1585 qs59 q77 q1586) rfl rfl rfl hd_plays ⟨Nat.le_of_ble_eq_true rfl, Nat.le_of_ble_eq_true rfl⟩) (m_preV hK hP) rfl rfl hl.1 rfl (lv_room (Nat.le_of_ble_eq_true rfl)) dX3_fault_24 ⟨Nat.le_of_ble_eq_true rfl, Nat.le_of_ble_eq_true rfl⟩) hS (fun H locs hP hS => ?_)
    refine lv_istore_n (lv' := [(2, .int (bi b7)), (0, .ref (a 0)), (1, .int x1)]) hx hb dX3_fault_27 rfl hl (by decide) rfl (fun ls hl => ?_)
    refine lv_aload_n hx hb dX3_fault_28 rfl (lv_at hl 1 rfl) ?_
    refine va_get (ci := 3) (v := .ref (a 3)) (C := RX3) (T := TX3) (N := 16) hx hb hts in_X3 hown hK hP 0 rfl rfl 2 (by decide) (hts _ q1275) (fun _ h9 => h9) rfl dX3_fault_29 ?_
    refine lv_aload_n hx hb dX3_fault_32 rfl (lv_at hl 1 rfl) ?_
    refine va_get (ci := 3) (v := .ref (a 1)) (C := RX3) (T := TX3) (N := 16) hx hb hts in_X3 hown hK hP 0 rfl rfl 0 (by decide) (hts _ q1273) (fun _ h9 => h9) rfl dX3_fault_33 ?_
    obtain ⟨sA_21, e20, h⟩ := pb_some h
    refine m_callv (va_runS (As := [.ref (a 3), .ref (a 1)]) (rest := []) ⟨hx, hb, hml, hown, hts⟩ (met_copies_held_sA hD e20) (va_cwS 2 hts (lw_S q1580 q1581 q77 q1582) rfl rfl rfl hd_copies ⟨Nat.le_of_ble_eq_true rfl, Nat.le_of_ble_eq_true rfl⟩) (m_preW hK hP) rfl rfl hl.1 rfl (lv_room (Nat.le_of_ble_eq_true rfl)) dX3_fault_36 ⟨Nat.le_of_ble_eq_true rfl, Nat.le_of_ble_eq_true rfl⟩) hS (fun H locs hP hS => ?_)
    refine lv_iload_n hx hb dX3_fault_39 rfl (lv_at hl 0 rfl) ?_
    refine lv_if_eq (tgt := 48) hx hb dX3_fault_40 (by decide) (fun c22 => ?_) (fun c22 => ?_)
    · have h := pi_t c22 h
      refine lv_iload_n hx hb dX3_fault_48 rfl (lv_at hl 2 rfl) ?_
      refine lv_if_ne (tgt := 59) hx hb dX3_fault_49 (by decide) (fun c23 => ?_) (fun c23 => ?_)
      · have h := pi_f c23 h
        refine lv_iload_n hx hb dX3_fault_59 rfl (lv_at hl 2 rfl) ?_
        refine lv_iconst (v := 1) hx hb dX3_fault_60 (by decide) ?_
        refine lv_icmp_ne (tgt := 71) hx hb dX3_fault_61 (by decide) (fun c24 => ?_) (fun c24 => ?_)
        · have h := pi_f c24 h
          refine lv_aload_n hx hb dX3_fault_71 rfl (lv_at hl 1 rfl) ?_
          refine va_get (ci := 3) (v := .int cause_17) (C := RX3) (T := TX3) (N := 16) hx hb hts in_X3 hown hK hP 0 rfl rfl 12 (by decide) (hts _ q1285) (fun _ h9 => h9) rfl dX3_fault_72 ?_
          cases h
          exact W.iret hx hb hr (fun t ht hW => ⟨⟨_, (), rfl, rfl, (show va_P D gCl _ t.heap from by rw [ht]; exact hP)⟩, hS.F ht⟩) hS.2.2 dX3_fault_75
        · have h := pi_t c24 h
          refine lv_aload_n hx hb dX3_fault_64 rfl (lv_at hl 1 rfl) ?_
          refine va_get (ci := 3) (v := .int reason_16) (C := RX3) (T := TX3) (N := 16) hx hb hts in_X3 hown hK hP 0 rfl rfl 11 (by decide) (hts _ q1284) (fun _ h9 => h9) rfl dX3_fault_65 ?_
          refine lv_goto (tgt := 75) hx hb dX3_fault_68 (by decide) ?_
          cases h
          exact W.iret hx hb hr (fun t ht hW => ⟨⟨_, (), rfl, rfl, (show va_P D gCl _ t.heap from by rw [ht]; exact hP)⟩, hS.F ht⟩) hS.2.2 dX3_fault_75
      · have h := pi_t c23 h
        refine lv_aload_n hx hb dX3_fault_52 rfl (lv_at hl 1 rfl) ?_
        refine va_get (ci := 3) (v := .int from_15) (C := RX3) (T := TX3) (N := 16) hx hb hts in_X3 hown hK hP 0 rfl rfl 10 (by decide) (hts _ q1283) (fun _ h9 => h9) rfl dX3_fault_53 ?_
        refine lv_goto (tgt := 75) hx hb dX3_fault_56 (by decide) ?_
        cases h
        exact W.iret hx hb hr (fun t ht hW => ⟨⟨_, (), rfl, rfl, (show va_P D gCl _ t.heap from by rw [ht]; exact hP)⟩, hS.F ht⟩) hS.2.2 dX3_fault_75
    · have h := pi_f c22 h
      refine lv_ldc hx hb hown (hts _ q1430) dX3_fault_43 ?_
      refine lv_goto (tgt := 75) hx hb dX3_fault_45 (by decide) ?_
      cases h
      exact W.iret hx hb hr (fun t ht hW => ⟨⟨_, (), rfl, rfl, (show va_P D gCl _ t.heap from by rw [ht]; exact hP)⟩, hS.F ht⟩) hS.2.2 dX3_fault_75
  · have h := pi_t c3 h
    refine lv_ldc hx hb hown (hts _ q1329) dX3_fault_9 ?_
    cases h
    exact W.iret hx hb hr (fun t ht hW => ⟨⟨_, (), rfl, rfl, (show va_P D gCl _ t.heap from by rw [ht]; exact hP)⟩, hS.F ht⟩) hS.2.2 dX3_fault_11
theorem hd_play : yX3_play.cls = RX3 ∧ yX3_play.cls ≠ "java/lang/invoke/MethodHandle" ∧ yX3_play.cls ≠ "java/lang/invoke/VarHandle" ∧ (parseMethodDescriptor yX3_play.desc).map (fun d => d.parameters.length) = some 0 := by decide +kernel
set_option maxHeartbeats 4000000 in
set_option maxRecDepth 100000 in
theorem met_play {l : Launch} {D : va_G} {dA : ClassId} {a : Nat → Nat} {sA past held text parted asShown told : Nat → Int32} {pasts runs typed spot from_ reason cause orders order : Int32} {A : Nat → Prop} (hD : mDD A dA a) {nf : Nat} {r : Int32} {sA' : Nat → Int32} {past' : Nat → Int32} {held' : Nat → Int32} {asShown' : Nat → Int32} {told' : Nat → Int32} {pasts' : Int32} {runs' : Int32} {spot' : Int32} {from_' : Int32} {reason' : Int32} {cause' : Int32} {orders' : Int32} {order' : Int32} (h : m_play nf sA past held text asShown told pasts runs typed spot from_ reason cause orders order  = some (r, sA', past', held', asShown', told', pasts', runs', spot', from_', reason', cause', orders', order')) : Met l yX3_play (ws_ yX3_play cX3_play 2 (some .int)) ({ frames := 7, cells := 0, slots := 0, locals := 145 } : Room) (mPc [.ref (a 0)] D dA a sA past held text parted asShown told pasts runs typed spot from_ reason cause orders order) (va_Qi (fun r2 (_ : Unit) => r2 = r) (fun _ t => va_P D gCl (mW dA a sA' past' held' text parted asShown' told' pasts' runs' typed spot' from_' reason' cause' orders' order') t.heap) A) 0 0 A := by
  refine Met.ofW (cc := cX3_play) (maxL := 2) (ret := (some .int)) (by decide) rfl ?_
  intro p e s m args below meth c s₁ B hml hv
  obtain ⟨rfl, hP, hK⟩ := hv
  have hx := B.exec
  have hb := B.bytes
  have hr := B.returns
  have hts := atoms_spec (ws := ws_ yX3_play cX3_play 2 (some .int)) B.pre
  have hts : ∀ w ∈ lw_all, w.before _ s = true := fun w h => hts w (List.mem_cons_of_mem _ h)
  have hown : s.vm.findClass RX3 = some m.cls := findClass_of_methodNamed B.named
  have hlocks := B.notSynchronized
  have hS : va_S A s.heap s.heap [] := va_S.rf
  have hl := lv_entry ([.ref (a 0)]) (n := 2) (Nat.le_of_ble_eq_true rfl)
  rw [lg_entry_eq]
  generalize (lg_sl ([.ref (a 0)]) ++ List.replicate (2 - (lg_sl ([.ref (a 0)])).length) Slot.unset).toArray = ls at hl ⊢
  have hl : lv_has ls 2 [(0, .ref (a 0))] := hl
  unfold m_play at h
  refine lv_aload_n hx hb dX3_play_0 rfl (lv_at hl 0 rfl) ?_
  refine va_get (ci := 3) (v := .ref (a 1)) (C := RX3) (T := TX3) (N := 16) hx hb hts in_X3 hown hK hP 0 rfl rfl 0 (by decide) (hts _ q1273) (fun _ h9 => h9) rfl dX3_play_1 ?_
  refine lv_aload_n hx hb dX3_play_4 rfl (lv_at hl 0 rfl) ?_
  refine va_get (ci := 3) (v := .ref (a 3)) (C := RX3) (T := TX3) (N := 16) hx hb hts in_X3 hown hK hP 0 rfl rfl 2 (by decide) (hts _ q1275) (fun _ h9 => h9) rfl dX3_play_5 ?_
  obtain ⟨held_2, e1, h⟩ := pb_some h
  refine m_callv (va_runS (As := [.ref (a 1), .ref (a 3)]) (rest := []) ⟨hx, hb, hml, hown, hts⟩ (met_copies_sA_held hD e1) (va_cwS 2 hts (lw_S q1580 q1581 q77 q1582) rfl rfl rfl hd_copies ⟨Nat.le_of_ble_eq_true rfl, Nat.le_of_ble_eq_true rfl⟩) (m_preW hK hP) rfl rfl hl.1 rfl (lv_room (Nat.le_of_ble_eq_true rfl)) dX3_play_8 ⟨Nat.le_of_ble_eq_true rfl, Nat.le_of_ble_eq_true rfl⟩) hS (fun H locs hP hS => ?_)
  refine lv_aload_n hx hb dX3_play_11 rfl (lv_at hl 0 rfl) ?_
  obtain ⟨⟨b4, sA_5, past_6, asShown_7, told_8, pasts_9, runs_10, spot_11, from_12, reason_13, cause_14, orders_15, order_16⟩, e3, h⟩ := pb_some h
  refine m_calli (va_runV (As := []) (rest := []) ⟨hx, hb, hml, hown, hts⟩ (met_plays hD e3) (cwV 0 hts (lw_V q1583 q1585 qs59 q77 q1586) rfl rfl rfl hd_plays ⟨Nat.le_of_ble_eq_true rfl, Nat.le_of_ble_eq_true rfl⟩) (m_preV hK hP) rfl rfl hl.1 rfl (lv_room (Nat.le_of_ble_eq_true rfl)) dX3_play_12 ⟨Nat.le_of_ble_eq_true rfl, Nat.le_of_ble_eq_true rfl⟩) hS (fun H locs hP hS => ?_)
  refine lv_istore_n (lv' := [(1, .int (bi b4)), (0, .ref (a 0))]) hx hb dX3_play_15 rfl hl (by decide) rfl (fun ls hl => ?_)
  refine lv_aload_n hx hb dX3_play_16 rfl (lv_at hl 1 rfl) ?_
  refine va_get (ci := 3) (v := .ref (a 3)) (C := RX3) (T := TX3) (N := 16) hx hb hts in_X3 hown hK hP 0 rfl rfl 2 (by decide) (hts _ q1275) (fun _ h9 => h9) rfl dX3_play_17 ?_
  refine lv_aload_n hx hb dX3_play_20 rfl (lv_at hl 1 rfl) ?_
  refine va_get (ci := 3) (v := .ref (a 1)) (C := RX3) (T := TX3) (N := 16) hx hb hts in_X3 hown hK hP 0 rfl rfl 0 (by decide) (hts _ q1273) (fun _ h9 => h9) rfl dX3_play_21 ?_
  obtain ⟨sA_18, e17, h⟩ := pb_some h
  refine m_callv (va_runS (As := [.ref (a 3), .ref (a 1)]) (rest := []) ⟨hx, hb, hml, hown, hts⟩ (met_copies_held_sA hD e17) (va_cwS 2 hts (lw_S q1580 q1581 q77 q1582) rfl rfl rfl hd_copies ⟨Nat.le_of_ble_eq_true rfl, Nat.le_of_ble_eq_true rfl⟩) (m_preW hK hP) rfl rfl hl.1 rfl (lv_room (Nat.le_of_ble_eq_true rfl)) dX3_play_24 ⟨Nat.le_of_ble_eq_true rfl, Nat.le_of_ble_eq_true rfl⟩) hS (fun H locs hP hS => ?_)
  refine lv_iload_n hx hb dX3_play_27 rfl (lv_at hl 0 rfl) ?_
  refine lv_if_ne (tgt := 34) hx hb dX3_play_28 (by decide) (fun c19 => ?_) (fun c19 => ?_)
  · have h := pi_f c19 h
    refine lv_aload_n hx hb dX3_play_34 rfl (lv_at hl 1 rfl) ?_
    obtain ⟨⟨past_21, pasts_22⟩, e20, h⟩ := pb_some h
    refine m_callv (va_runV (As := []) (rest := []) ⟨hx, hb, hml, hown, hts⟩ (met_changes hD e20) (cwV 0 hts (lw_V q1331 q1333 qs25 q77 q1334) rfl rfl rfl hd_changes ⟨Nat.le_of_ble_eq_true rfl, Nat.le_of_ble_eq_true rfl⟩) (m_preV hK hP) rfl rfl hl.1 rfl (lv_room (Nat.le_of_ble_eq_true rfl)) dX3_play_35 ⟨Nat.le_of_ble_eq_true rfl, Nat.le_of_ble_eq_true rfl⟩) hS (fun H locs hP hS => ?_)
    refine lv_aload_n hx hb dX3_play_38 rfl (lv_at hl 1 rfl) ?_
    obtain ⟨⟨b24, sA_25, past_26, asShown_27, told_28, pasts_29, runs_30, spot_31, from_32, reason_33, cause_34, orders_35, order_36⟩, e23, h⟩ := pb_some h
    refine m_calli (va_runV (As := []) (rest := []) ⟨hx, hb, hml, hown, hts⟩ (met_plays hD e23) (cwV 0 hts (lw_V q1583 q1585 qs59 q77 q1586) rfl rfl rfl hd_plays ⟨Nat.le_of_ble_eq_true rfl, Nat.le_of_ble_eq_true rfl⟩) (m_preV hK hP) rfl rfl hl.1 rfl (lv_room (Nat.le_of_ble_eq_true rfl)) dX3_play_39 ⟨Nat.le_of_ble_eq_true rfl, Nat.le_of_ble_eq_true rfl⟩) hS (fun H locs hP hS => ?_)
    refine lv_if_eq (tgt := 52) hx hb dX3_play_42 (by decide) (fun c37 => ?_) (fun c37 => ?_)
    · have h := pi_t c37 h
      refine lv_ldc hx hb hown (hts _ q1430) dX3_play_52 ?_
      cases h
      exact W.iret hx hb hr (fun t ht hW => ⟨⟨_, (), rfl, rfl, (show va_P D gCl _ t.heap from by rw [ht]; exact hP)⟩, hS.F ht⟩) hS.2.2 dX3_play_54
    · have h := pi_f c37 h
      refine lv_aload_n hx hb dX3_play_45 rfl (lv_at hl 1 rfl) ?_
      refine va_get (ci := 3) (v := .int orders_35) (C := RX3) (T := TX3) (N := 16) hx hb hts in_X3 hown hK hP 0 rfl rfl 13 (by decide) (hts _ q1286) (fun _ h9 => h9) rfl dX3_play_46 ?_
      refine lv_goto (tgt := 54) hx hb dX3_play_49 (by decide) ?_
      cases h
      exact W.iret hx hb hr (fun t ht hW => ⟨⟨_, (), rfl, rfl, (show va_P D gCl _ t.heap from by rw [ht]; exact hP)⟩, hS.F ht⟩) hS.2.2 dX3_play_54
  · have h := pi_t c19 h
    refine lv_ldc hx hb hown (hts _ q1385) dX3_play_31 ?_
    cases h
    exact W.iret hx hb hr (fun t ht hW => ⟨⟨_, (), rfl, rfl, (show va_P D gCl _ t.heap from by rw [ht]; exact hP)⟩, hS.F ht⟩) hS.2.2 dX3_play_33
