/-! LectureTurnsModel: walks, 0 (printed by wip/gen/gen_model.py) -/
theorem hd_J18_isNaN : yJ18_isNaN.cls ≠ "java/lang/invoke/MethodHandle" ∧ yJ18_isNaN.cls ≠ "java/lang/invoke/VarHandle" ∧ (parseMethodDescriptor yJ18_isNaN.desc).map (fun d => d.parameters.length) = some 1 := by decide +kernel
set_option maxHeartbeats 4000000 in
set_option maxRecDepth 100000 in
theorem met_J18_isNaN {l : Launch}  {x0 : UInt32} {b : Bool}  (h : m_J18_isNaN  x0 = some b) : Met l yJ18_isNaN (ws_ yJ18_isNaN cJ18_isNaN 1 (some .boolean)) ({ frames := 1, cells := 0, slots := 0, locals := 12 } : Room) (va_Pc [.float x0] (fun _ => True)) (QcRead (bi b)) 0 0 (fun _ => False) := by
  refine va_MetF (cc := cJ18_isNaN) (maxL := 1) (ret := (some .boolean)) (by decide +kernel) rfl ?_
  intro p e s m args below meth c s₁ B hml hv
  obtain ⟨rfl, -⟩ := hv
  have hx := B.exec
  have hb := B.bytes
  have hr := B.returns
  have hts := atoms_spec (ws := ws_ yJ18_isNaN cJ18_isNaN 1 (some .boolean)) B.pre
  have hts : ∀ w ∈ lw_all, w.before _ s = true := fun w h => hts w (List.mem_cons_of_mem _ h)
  have hown : s.vm.findClass RJ18 = some m.cls := findClass_of_methodNamed B.named
  have hlocks := B.notSynchronized
  have hl := lv_entry ([.float x0]) (n := 1) (Nat.le_of_ble_eq_true rfl)
  rw [lg_entry_eq]
  generalize (lg_sl ([.float x0]) ++ List.replicate (1 - (lg_sl ([.float x0])).length) Slot.unset).toArray = ls at hl ⊢
  have hl : lv_has ls 1 [(0, .float x0)] := hl
  unfold m_J18_isNaN at h
  refine lv_fload_n hx hb dJ18_isNaN_0 rfl (lv_at hl 0 rfl) ?_
  refine lv_fload_n hx hb dJ18_isNaN_1 rfl (lv_at hl 0 rfl) ?_
  refine lv_fcmp hx hb dJ18_isNaN_2 ?_
  refine lv_if_eq (tgt := 10) hx hb dJ18_isNaN_3 (by decide) (fun c1 => ?_) (fun c1 => ?_)
  · have h := pi_t c1 h
    refine lv_iconst (v := 0) hx hb dJ18_isNaN_10 (by decide) ?_
    cases h
    exact W.zret hx hb hr rfl (fun t ht hW => ⟨rfl, ht⟩) (fun q hq => absurd hq List.not_mem_nil) dJ18_isNaN_11
  · have h := pi_f c1 h
    refine lv_iconst (v := 1) hx hb dJ18_isNaN_6 (by decide) ?_
    refine lv_goto (tgt := 11) hx hb dJ18_isNaN_7 (by decide) ?_
    cases h
    exact W.zret hx hb hr rfl (fun t ht hW => ⟨rfl, ht⟩) (fun q hq => absurd hq List.not_mem_nil) dJ18_isNaN_11
theorem hd_J18_floatToIntBits : yJ18_floatToIntBits.cls ≠ "java/lang/invoke/MethodHandle" ∧ yJ18_floatToIntBits.cls ≠ "java/lang/invoke/VarHandle" ∧ (parseMethodDescriptor yJ18_floatToIntBits.desc).map (fun d => d.parameters.length) = some 1 := by decide +kernel
set_option maxHeartbeats 4000000 in
set_option maxRecDepth 100000 in
theorem met_J18_floatToIntBits {l : Launch}  {x0 : UInt32} {r : Int32}  (h : m_J18_floatToIntBits  x0 = some r) : Met l yJ18_floatToIntBits (ws_ yJ18_floatToIntBits cJ18_floatToIntBits 1 (some .int)) ({ frames := 2, cells := 0, slots := 0, locals := 32 } : Room) (va_Pc [.float x0] (fun _ => True)) (QcRead r) 0 0 (fun _ => False) := by
  refine va_MetF (cc := cJ18_floatToIntBits) (maxL := 1) (ret := (some .int)) (by decide +kernel) rfl ?_
  intro p e s m args below meth c s₁ B hml hv
  obtain ⟨rfl, -⟩ := hv
  have hx := B.exec
  have hb := B.bytes
  have hr := B.returns
  have hts := atoms_spec (ws := ws_ yJ18_floatToIntBits cJ18_floatToIntBits 1 (some .int)) B.pre
  have hts : ∀ w ∈ lw_all, w.before _ s = true := fun w h => hts w (List.mem_cons_of_mem _ h)
  have hown : s.vm.findClass RJ18 = some m.cls := findClass_of_methodNamed B.named
  have hlocks := B.notSynchronized
  have hl := lv_entry ([.float x0]) (n := 1) (Nat.le_of_ble_eq_true rfl)
  rw [lg_entry_eq]
  generalize (lg_sl ([.float x0]) ++ List.replicate (1 - (lg_sl ([.float x0])).length) Slot.unset).toArray = ls at hl ⊢
  have hl : lv_has ls 1 [(0, .float x0)] := hl
  unfold m_J18_floatToIntBits at h
  refine lv_fload_n hx hb dJ18_floatToIntBits_0 rfl (lv_at hl 0 rfl) ?_
  obtain ⟨b2, e1, h⟩ := pb_some h
  refine m_callR (W.runS (As := [.float x0]) (rest := []) ⟨hx, hb, hml, hown, hts⟩ (met_J18_isNaN e1) (va_cwS 1 hts (lw_S q880 q881 q93 q882) rfl rfl rfl hd_J18_isNaN ⟨Nat.le_of_ble_eq_true rfl, Nat.le_of_ble_eq_true rfl⟩) m_preS rfl rfl hl.1 rfl (lv_room (Nat.le_of_ble_eq_true rfl)) dJ18_floatToIntBits_1 ⟨Nat.le_of_ble_eq_true rfl, Nat.le_of_ble_eq_true rfl⟩) ?_
  refine lv_if_ne (tgt := 12) hx hb dJ18_floatToIntBits_4 (by decide) (fun c3 => ?_) (fun c3 => ?_)
  · have h := pi_f c3 h
    refine lv_ldc hx hb hown (hts _ q886) dJ18_floatToIntBits_12 ?_
    cases h
    exact W.iret hx hb hr (fun t ht hW => ⟨rfl, ht⟩) (fun q hq => absurd hq List.not_mem_nil) dJ18_floatToIntBits_14
  · have h := pi_t c3 h
    refine lv_fload_n hx hb dJ18_floatToIntBits_7 rfl (lv_at hl 0 rfl) ?_
    refine vn_f2i hx hb (hml.trans hl.1.symm) hown (hts _ q883) (hts _ q885) (hts _ q884) (hts _ q93) (Nat.le_of_ble_eq_true rfl) (Nat.le_of_ble_eq_true rfl) dJ18_floatToIntBits_8 ?_
    cases h
    exact W.iret hx hb hr (fun t ht hW => ⟨rfl, ht⟩) (fun q hq => absurd hq List.not_mem_nil) dJ18_floatToIntBits_11
theorem hd_changes : yX3_changes.cls = RX3 ∧ yX3_changes.cls ≠ "java/lang/invoke/MethodHandle" ∧ yX3_changes.cls ≠ "java/lang/invoke/VarHandle" ∧ (parseMethodDescriptor yX3_changes.desc).map (fun d => d.parameters.length) = some 0 := by decide +kernel
set_option maxHeartbeats 4000000 in
set_option maxRecDepth 100000 in
theorem lp_changes_1 {p : Program} {l : Launch} {e : Env} {s : State} {m : MethodId} {args : Array Value} {below : List Frame} {meth : Method} {c : Code} {D : va_G} {dA : ClassId} {a : Nat → Nat} {Q : State → Prop} (hx : p.tables.exec = Jvm.exec) (hb : c.code = cX3_changes) (hml : c.maxLocals = 2) (hown : s.vm.findClass RX3 = some m.cls) (hts : ∀ w ∈ lw_all, w.before args s = true) {H0 : Heap} {A : Nat → Prop} {sA : Nat → Int32} {held : Nat → Int32} {text : Nat → Int32} {parted : Nat → Int32} {asShown : Nat → Int32} {told : Nat → Int32} {pasts : Int32} {runs : Int32} {typed : Int32} {spot : Int32} {from_ : Int32} {reason : Int32} {cause : Int32} {orders : Int32} {order : Int32} (hK : va_K D gCl [(dA, .int)] s) (hD : mDD A dA a)  (nf : Nat) : ∀ (n : Nat) (y1 : Int32) (past : Nat → Int32) (z : (Nat → Int32)), m_changes_L1 nf  n y1 past = some z → ∀ (H : Heap) (locs : List Loc) (ls : Array Slot), va_P D gCl (mW dA a sA past held text parted asShown told pasts runs typed spot from_ reason cause orders order) H → va_S A H0 H locs → lv_has ls 2 [(1, .int y1), (0, .ref (a 0))] → (∀ (H : Heap) (locs : List Loc) (ls : Array Slot), va_P D gCl (mW dA a sA z held text parted asShown told pasts runs typed spot from_ reason cause orders order) H → va_S A H0 H locs → lv_has ls 2 [(0, .ref (a 0))] → W p l e ({ frames := 1, cells := 0, slots := 0, locals := 12 } : Room) s m args below meth c H locs 0 0 Q (F0 m 47 ls [])) → W p l e ({ frames := 1, cells := 0, slots := 0, locals := 12 } : Room) s m args below meth c H locs 0 0 Q (F0 m 18 ls []) := by
  intro n
  induction n with
  | zero => intro y1 past z h H locs ls hP hS hl K; exact absurd h (by simp [m_changes_L1])
  | succ n ih =>
    intro y1 past z h H locs ls hP hS hl K
    unfold m_changes_L1 at h
    refine lv_iload_n hx hb dX3_changes_18 rfl (lv_at hl 0 rfl) ?_
    refine lv_sipush (v := 852) hx hb dX3_changes_19 (by decide) ?_
    refine lv_icmp_ge (tgt := 47) hx hb dX3_changes_22 (by decide) (fun c1 => ?_) (fun c1 => ?_)
    · have h := pi_t c1 h
      cases h
      exact K H locs ls hP hS (lv_sub hl [1] rfl)
    · have h := pi_f c1 h
      refine lv_aload_n hx hb dX3_changes_25 rfl (lv_at hl 1 rfl) ?_
      refine va_get (ci := 3) (v := .ref (a 2)) (C := RX3) (T := TX3) (N := 16) hx hb hts in_X3 hown hK hP 0 rfl rfl 1 (by decide) (hts _ q1274) (fun _ h9 => h9) rfl dX3_changes_26 ?_
      refine lv_iload_n hx hb dX3_changes_29 rfl (lv_at hl 0 rfl) ?_
      refine lv_aload_n hx hb dX3_changes_30 rfl (lv_at hl 1 rfl) ?_
      refine va_get (ci := 3) (v := .ref (a 2)) (C := RX3) (T := TX3) (N := 16) hx hb hts in_X3 hown hK hP 0 rfl rfl 1 (by decide) (hts _ q1274) (fun _ h9 => h9) rfl dX3_changes_31 ?_
      refine lv_iload_n hx hb dX3_changes_34 rfl (lv_at hl 0 rfl) ?_
      refine lv_sipush (v := 284) hx hb dX3_changes_35 (by decide) ?_
      refine lv_iadd hx hb dX3_changes_38 ?_
      obtain ⟨g2, h⟩ := pg_some h
      refine va_iald hx hb hK hP 2 0 rfl rfl g2 dX3_changes_39 ?_
      obtain ⟨g3, h⟩ := pg_some h
      refine va_iast hx hb hK hP (hD _ _ _ _ _ _ _ _ _ _ _ _ _ _ _ _) hS 2 0 rfl rfl g3 dX3_changes_40 (fun H locs hP _ hS => ?_)
      have hP : va_P D gCl (mW dA a sA (upd past y1.toNatClampNeg (past (y1 + (284 : Int32)).toNatClampNeg)) held text parted asShown told pasts runs typed spot from_ reason cause orders order) H := hP
      refine lv_iinc (v := (y1 + (1 : Int32))) (lv' := [(1, .int (y1 + (1 : Int32))), (0, .ref (a 0))]) hx hb dX3_changes_41 hl (k := 0) rfl (by rfl) (by decide) rfl (fun ls hl => ?_)
      refine lv_goto (tgt := 18) hx hb dX3_changes_44 (by decide) ?_
      exact ih _ _ _ h H locs ls hP hS (lv_sub hl [0, 1] rfl) K
set_option maxHeartbeats 4000000 in
set_option maxRecDepth 100000 in
theorem lp_changes_2 {p : Program} {l : Launch} {e : Env} {s : State} {m : MethodId} {args : Array Value} {below : List Frame} {meth : Method} {c : Code} {D : va_G} {dA : ClassId} {a : Nat → Nat} {Q : State → Prop} (hx : p.tables.exec = Jvm.exec) (hb : c.code = cX3_changes) (hml : c.maxLocals = 2) (hown : s.vm.findClass RX3 = some m.cls) (hts : ∀ w ∈ lw_all, w.before args s = true) {H0 : Heap} {A : Nat → Prop} {sA : Nat → Int32} {held : Nat → Int32} {text : Nat → Int32} {parted : Nat → Int32} {asShown : Nat → Int32} {told : Nat → Int32} {pasts : Int32} {runs : Int32} {typed : Int32} {spot : Int32} {from_ : Int32} {reason : Int32} {cause : Int32} {orders : Int32} {order : Int32} (hK : va_K D gCl [(dA, .int)] s) (hD : mDD A dA a)  (nf : Nat) : ∀ (n : Nat) (y1 : Int32) (past : Nat → Int32) (z : (Nat → Int32)), m_changes_L2 nf sA pasts n y1 past = some z → ∀ (H : Heap) (locs : List Loc) (ls : Array Slot), va_P D gCl (mW dA a sA past held text parted asShown told pasts runs typed spot from_ reason cause orders order) H → va_S A H0 H locs → lv_has ls 2 [(1, .int y1), (0, .ref (a 0))] → (∀ (H : Heap) (locs : List Loc) (ls : Array Slot), va_P D gCl (mW dA a sA z held text parted asShown told pasts runs typed spot from_ reason cause orders order) H → va_S A H0 H locs → lv_has ls 2 [(0, .ref (a 0))] → W p l e ({ frames := 1, cells := 0, slots := 0, locals := 12 } : Room) s m args below meth c H locs 0 0 Q (F0 m 93 ls [])) → W p l e ({ frames := 1, cells := 0, slots := 0, locals := 12 } : Room) s m args below meth c H locs 0 0 Q (F0 m 59 ls []) := by
  intro n
  induction n with
  | zero => intro y1 past z h H locs ls hP hS hl K; exact absurd h (by simp [m_changes_L2])
  | succ n ih =>
    intro y1 past z h H locs ls hP hS hl K
    unfold m_changes_L2 at h
    refine lv_iload_n hx hb dX3_changes_59 rfl (lv_at hl 0 rfl) ?_
    refine lv_sipush (v := 284) hx hb dX3_changes_60 (by decide) ?_
    refine lv_icmp_ge (tgt := 93) hx hb dX3_changes_63 (by decide) (fun c1 => ?_) (fun c1 => ?_)
    · have h := pi_t c1 h
      cases h
      exact K H locs ls hP hS (lv_sub hl [1] rfl)
    · have h := pi_f c1 h
      refine lv_aload_n hx hb dX3_changes_66 rfl (lv_at hl 1 rfl) ?_
      refine va_get (ci := 3) (v := .ref (a 2)) (C := RX3) (T := TX3) (N := 16) hx hb hts in_X3 hown hK hP 0 rfl rfl 1 (by decide) (hts _ q1274) (fun _ h9 => h9) rfl dX3_changes_67 ?_
      refine lv_sipush (v := 284) hx hb dX3_changes_70 (by decide) ?_
      refine lv_aload_n hx hb dX3_changes_73 rfl (lv_at hl 1 rfl) ?_
      refine va_get (ci := 3) (v := .int pasts) (C := RX3) (T := TX3) (N := 16) hx hb hts in_X3 hown hK hP 0 rfl rfl 3 (by decide) (hts _ q1276) (fun _ h9 => h9) rfl dX3_changes_74 ?_
      refine lv_imul hx hb dX3_changes_77 ?_
      refine lv_iload_n hx hb dX3_changes_78 rfl (lv_at hl 0 rfl) ?_
      refine lv_iadd hx hb dX3_changes_79 ?_
      refine lv_aload_n hx hb dX3_changes_80 rfl (lv_at hl 1 rfl) ?_
      refine va_get (ci := 3) (v := .ref (a 1)) (C := RX3) (T := TX3) (N := 16) hx hb hts in_X3 hown hK hP 0 rfl rfl 0 (by decide) (hts _ q1273) (fun _ h9 => h9) rfl dX3_changes_81 ?_
      refine lv_iload_n hx hb dX3_changes_84 rfl (lv_at hl 0 rfl) ?_
      obtain ⟨g2, h⟩ := pg_some h
      refine va_iald hx hb hK hP 1 0 rfl rfl g2 dX3_changes_85 ?_
      obtain ⟨g3, h⟩ := pg_some h
      refine va_iast hx hb hK hP (hD _ _ _ _ _ _ _ _ _ _ _ _ _ _ _ _) hS 2 0 rfl rfl g3 dX3_changes_86 (fun H locs hP _ hS => ?_)
      have hP : va_P D gCl (mW dA a sA (upd past (((284 : Int32) * pasts) + y1).toNatClampNeg (sA y1.toNatClampNeg)) held text parted asShown told pasts runs typed spot from_ reason cause orders order) H := hP
      refine lv_iinc (v := (y1 + (1 : Int32))) (lv' := [(1, .int (y1 + (1 : Int32))), (0, .ref (a 0))]) hx hb dX3_changes_87 hl (k := 0) rfl (by rfl) (by decide) rfl (fun ls hl => ?_)
      refine lv_goto (tgt := 59) hx hb dX3_changes_90 (by decide) ?_
      exact ih _ _ _ h H locs ls hP hS (lv_sub hl [0, 1] rfl) K
set_option maxHeartbeats 4000000 in
set_option maxRecDepth 100000 in
theorem met_changes {l : Launch} {D : va_G} {dA : ClassId} {a : Nat → Nat} {sA past held text parted asShown told : Nat → Int32} {pasts runs typed spot from_ reason cause orders order : Int32} {A : Nat → Prop} (hD : mDD A dA a) {nf : Nat}  {past' : Nat → Int32} {pasts' : Int32} (h : m_changes nf sA past pasts runs  = some (past', pasts')) : Met l yX3_changes (ws_ yX3_changes cX3_changes 2 none) ({ frames := 1, cells := 0, slots := 0, locals := 12 } : Room) (mPc [.ref (a 0)] D dA a sA past held text parted asShown told pasts runs typed spot from_ reason cause orders order) (va_Qv (fun _ => True) (fun (_ : Unit) t => va_P D gCl (mW dA a sA past' held text parted asShown told pasts' runs typed spot from_ reason cause orders order) t.heap) A) 0 0 A := by
  refine Met.ofW (cc := cX3_changes) (maxL := 2) (ret := none) (by decide) rfl ?_
  intro p e s m args below meth c s₁ B hml hv
  obtain ⟨rfl, hP, hK⟩ := hv
  have hx := B.exec
  have hb := B.bytes
  have hr := B.returns
  have hts := atoms_spec (ws := ws_ yX3_changes cX3_changes 2 none) B.pre
  have hts : ∀ w ∈ lw_all, w.before _ s = true := fun w h => hts w (List.mem_cons_of_mem _ h)
  have hown : s.vm.findClass RX3 = some m.cls := findClass_of_methodNamed B.named
  have hlocks := B.notSynchronized
  have hS : va_S A s.heap s.heap [] := va_S.rf
  have hl := lv_entry ([.ref (a 0)]) (n := 2) (Nat.le_of_ble_eq_true rfl)
  rw [lg_entry_eq]
  generalize (lg_sl ([.ref (a 0)]) ++ List.replicate (2 - (lg_sl ([.ref (a 0)])).length) Slot.unset).toArray = ls at hl ⊢
  have hl : lv_has ls 2 [(0, .ref (a 0))] := hl
  unfold m_changes at h
  refine lv_aload_n hx hb dX3_changes_0 rfl (lv_at hl 0 rfl) ?_
  refine va_get (ci := 3) (v := .int runs) (C := RX3) (T := TX3) (N := 16) hx hb hts in_X3 hown hK hP 0 rfl rfl 4 (by decide) (hts _ q1277) (fun _ h9 => h9) rfl dX3_changes_1 ?_
  refine lv_if_eq (tgt := 8) hx hb dX3_changes_4 (by decide) (fun c1 => ?_) (fun c1 => ?_)
  · have h := pi_t c1 h
    refine lv_aload_n hx hb dX3_changes_8 rfl (lv_at hl 0 rfl) ?_
    refine va_get (ci := 3) (v := .int pasts) (C := RX3) (T := TX3) (N := 16) hx hb hts in_X3 hown hK hP 0 rfl rfl 3 (by decide) (hts _ q1276) (fun _ h9 => h9) rfl dX3_changes_9 ?_
    refine lv_iconst (v := 4) hx hb dX3_changes_12 (by decide) ?_
    obtain ⟨⟨past_4, pasts_5⟩, hj, h⟩ := pb_some h
    refine W.cutG (G := fun H locs ls => va_P D gCl (mW dA a sA past_4 held text parted asShown told pasts_5 runs typed spot from_ reason cause orders order) H ∧ va_S A s.heap H locs ∧ lv_has ls 2 [(0, .ref (a 0))]) (pc' := 57) (st' := []) (fun H locs ls hG => ?_) (fun K => ?_)
    · obtain ⟨hP, hS, hl⟩ := hG
      refine lv_iconst (v := 0) hx hb dX3_changes_57 (by decide) ?_
      refine lv_istore_n (lv' := [(1, .int (0 : Int32)), (0, .ref (a 0))]) hx hb dX3_changes_58 rfl hl (by decide) rfl (fun ls hl => ?_)
      obtain ⟨past_6, e501, h⟩ := pb_some h
      refine lp_changes_2 hx hb hml hown hts hK hD _ _ _ _ _ e501 _ _ ls hP hS (lv_sub hl [0, 1] rfl) (fun H locs ls hP hS hl => ?_)
      refine lv_aload_n hx hb dX3_changes_93 rfl (lv_at hl 0 rfl) ?_
      refine lv_dup hx hb dX3_changes_94 rfl ?_
      refine va_get (ci := 3) (v := .int pasts_5) (C := RX3) (T := TX3) (N := 16) hx hb hts in_X3 hown hK hP 0 rfl rfl 3 (by decide) (hts _ q1276) (fun _ h9 => h9) rfl dX3_changes_95 ?_
      refine lv_iconst (v := 1) hx hb dX3_changes_98 (by decide) ?_
      refine lv_iadd hx hb dX3_changes_99 ?_
      refine va_put (ci := 3) (v := .int (pasts_5 + (1 : Int32))) (ty := .int) (C := RX3) (T := TX3) (N := 16) hx hb hts in_X3 tyX3 tyX3_ok nmX3 hown hK hP (hD _ _ _ _ _ _ _ _ _ _ _ _ _ _ _ _) hS 0 rfl rfl 3 (by decide) (hts _ q1276) (fun _ h9 => h9) rfl (by decide +kernel) rfl rfl (Nat.le_of_ble_eq_true rfl) dX3_changes_100 (fun H locs hP _ hS => ?_)
      have hP : va_P D gCl (mW dA a sA past_6 held text parted asShown told (pasts_5 + (1 : Int32)) runs typed spot from_ reason cause orders order) H := hP
      cases h
      exact W.vret hx hb hr (fun t ht hW => ⟨⟨(), rfl, trivial, (show va_P D gCl _ t.heap from by rw [ht]; exact hP)⟩, hS.F ht⟩) hS.2.2 dX3_changes_103
    · have h := hj
      refine lv_icmp_ne (tgt := 57) hx hb dX3_changes_13 (by decide) (fun c2 => ?_) (fun c2 => ?_)
      · have h := pi_f c2 h
        cases h
        exact K _ _ _ ⟨hP, hS, lv_sub hl [0] rfl⟩
      · have h := pi_t c2 h
        refine lv_iconst (v := 0) hx hb dX3_changes_16 (by decide) ?_
        refine lv_istore_n (lv' := [(1, .int (0 : Int32)), (0, .ref (a 0))]) hx hb dX3_changes_17 rfl hl (by decide) rfl (fun ls hl => ?_)
        obtain ⟨past_3, e502, h⟩ := pb_some h
        refine lp_changes_1 hx hb hml hown hts hK hD _ _ _ _ _ e502 _ _ ls hP hS (lv_sub hl [0, 1] rfl) (fun H locs ls hP hS hl => ?_)
        refine lv_aload_n hx hb dX3_changes_47 rfl (lv_at hl 0 rfl) ?_
        refine lv_dup hx hb dX3_changes_48 rfl ?_
        refine va_get (ci := 3) (v := .int pasts) (C := RX3) (T := TX3) (N := 16) hx hb hts in_X3 hown hK hP 0 rfl rfl 3 (by decide) (hts _ q1276) (fun _ h9 => h9) rfl dX3_changes_49 ?_
        refine lv_iconst (v := 1) hx hb dX3_changes_52 (by decide) ?_
        refine lv_isub hx hb dX3_changes_53 ?_
        refine va_put (ci := 3) (v := .int (pasts - (1 : Int32))) (ty := .int) (C := RX3) (T := TX3) (N := 16) hx hb hts in_X3 tyX3 tyX3_ok nmX3 hown hK hP (hD _ _ _ _ _ _ _ _ _ _ _ _ _ _ _ _) hS 0 rfl rfl 3 (by decide) (hts _ q1276) (fun _ h9 => h9) rfl (by decide +kernel) rfl rfl (Nat.le_of_ble_eq_true rfl) dX3_changes_54 (fun H locs hP _ hS => ?_)
        have hP : va_P D gCl (mW dA a sA past_3 held text parted asShown told (pasts - (1 : Int32)) runs typed spot from_ reason cause orders order) H := hP
        cases h
        exact K _ _ _ ⟨hP, hS, lv_sub hl [0] rfl⟩
  · have h := pi_f c1 h
    cases h
    exact W.vret hx hb hr (fun t ht hW => ⟨⟨(), rfl, trivial, (show va_P D gCl _ t.heap from by rw [ht]; exact hP)⟩, hS.F ht⟩) hS.2.2 dX3_changes_7
theorem hd_in : yX3_in.cls ≠ "java/lang/invoke/MethodHandle" ∧ yX3_in.cls ≠ "java/lang/invoke/VarHandle" ∧ (parseMethodDescriptor yX3_in.desc).map (fun d => d.parameters.length) = some 3 := by decide +kernel
set_option maxHeartbeats 4000000 in
set_option maxRecDepth 100000 in
theorem met_in {l : Launch}  {x0 : Int32} {x1 : Int32} {x2 : Int32} {b : Bool}  (h : m_in  x0 x1 x2 = some b) : Met l yX3_in (ws_ yX3_in cX3_in 3 (some .boolean)) ({ frames := 1, cells := 0, slots := 0, locals := 12 } : Room) (va_Pc [.int x0, .int x1, .int x2] (fun _ => True)) (QcRead (bi b)) 0 0 (fun _ => False) := by
  refine Met.ofW (cc := cX3_in) (maxL := 3) (ret := (some .boolean)) (by decide) rfl ?_
  intro p e s m args below meth c s₁ B hml hv
  obtain ⟨rfl, -⟩ := hv
  have hx := B.exec
  have hb := B.bytes
  have hr := B.returns
  have hts := atoms_spec (ws := ws_ yX3_in cX3_in 3 (some .boolean)) B.pre
  have hts : ∀ w ∈ lw_all, w.before _ s = true := fun w h => hts w (List.mem_cons_of_mem _ h)
  have hown : s.vm.findClass RX3 = some m.cls := findClass_of_methodNamed B.named
  have hlocks := B.notSynchronized
  have hl := lv_entry ([.int x0, .int x1, .int x2]) (n := 3) (Nat.le_of_ble_eq_true rfl)
  rw [lg_entry_eq]
  generalize (lg_sl ([.int x0, .int x1, .int x2]) ++ List.replicate (3 - (lg_sl ([.int x0, .int x1, .int x2])).length) Slot.unset).toArray = ls at hl ⊢
  have hl : lv_has ls 3 [(0, .int x0), (1, .int x1), (2, .int x2)] := hl
  unfold m_in at h
  refine lv_iload_n hx hb dX3_in_0 rfl (lv_at hl 0 rfl) ?_
  refine lv_iload_n hx hb dX3_in_1 rfl (lv_at hl 1 rfl) ?_
  refine lv_icmp_lt (tgt := 14) hx hb dX3_in_2 (by decide) (fun c1 => ?_) (fun c1 => ?_)
  · have h := pi_t c1 h
    refine lv_iconst (v := 0) hx hb dX3_in_14 (by decide) ?_
    cases h
    exact W.zret hx hb hr rfl (fun t ht hW => ⟨rfl, ht⟩) (fun q hq => absurd hq List.not_mem_nil) dX3_in_15
  · have h := pi_f c1 h
    refine lv_iload_n hx hb dX3_in_5 rfl (lv_at hl 0 rfl) ?_
    refine lv_iload_n hx hb dX3_in_6 rfl (lv_at hl 2 rfl) ?_
    refine lv_icmp_gt (tgt := 14) hx hb dX3_in_7 (by decide) (fun c2 => ?_) (fun c2 => ?_)
    · have h := pi_t c2 h
      refine lv_iconst (v := 0) hx hb dX3_in_14 (by decide) ?_
      cases h
      exact W.zret hx hb hr rfl (fun t ht hW => ⟨rfl, ht⟩) (fun q hq => absurd hq List.not_mem_nil) dX3_in_15
    · have h := pi_f c2 h
      refine lv_iconst (v := 1) hx hb dX3_in_10 (by decide) ?_
      refine lv_goto (tgt := 15) hx hb dX3_in_11 (by decide) ?_
      cases h
      exact W.zret hx hb hr rfl (fun t ht hW => ⟨rfl, ht⟩) (fun q hq => absurd hq List.not_mem_nil) dX3_in_15
theorem hd_of : yX3_of.cls = RX3 ∧ yX3_of.cls ≠ "java/lang/invoke/MethodHandle" ∧ yX3_of.cls ≠ "java/lang/invoke/VarHandle" ∧ (parseMethodDescriptor yX3_of.desc).map (fun d => d.parameters.length) = some 2 := by decide +kernel
set_option maxHeartbeats 4000000 in
set_option maxRecDepth 100000 in
theorem met_of {l : Launch} {D : va_G} {dA : ClassId} {a : Nat → Nat} {sA past held text parted asShown told : Nat → Int32} {pasts runs typed spot from_ reason cause orders order : Int32} {x1 : Int32} {x2 : Int32} {r : Int32}  (h : m_of sA x1 x2 = some r) : Met l yX3_of (ws_ yX3_of cX3_of 3 (some .int)) ({ frames := 1, cells := 0, slots := 0, locals := 12 } : Room) (mPc [.ref (a 0), .int x1, .int x2] D dA a sA past held text parted asShown told pasts runs typed spot from_ reason cause orders order) (QcRead r) 0 0 (fun _ => False) := by
  refine Met.ofW (cc := cX3_of) (maxL := 3) (ret := (some .int)) (by decide) rfl ?_
  intro p e s m args below meth c s₁ B hml hv
  obtain ⟨rfl, hP, hK⟩ := hv
  have hx := B.exec
  have hb := B.bytes
  have hr := B.returns
  have hts := atoms_spec (ws := ws_ yX3_of cX3_of 3 (some .int)) B.pre
  have hts : ∀ w ∈ lw_all, w.before _ s = true := fun w h => hts w (List.mem_cons_of_mem _ h)
  have hown : s.vm.findClass RX3 = some m.cls := findClass_of_methodNamed B.named
  have hlocks := B.notSynchronized
  have hl := lv_entry ([.ref (a 0), .int x1, .int x2]) (n := 3) (Nat.le_of_ble_eq_true rfl)
  rw [lg_entry_eq]
  generalize (lg_sl ([.ref (a 0), .int x1, .int x2]) ++ List.replicate (3 - (lg_sl ([.ref (a 0), .int x1, .int x2])).length) Slot.unset).toArray = ls at hl ⊢
  have hl : lv_has ls 3 [(0, .ref (a 0)), (1, .int x1), (2, .int x2)] := hl
  unfold m_of at h
  refine lv_aload_n hx hb dX3_of_0 rfl (lv_at hl 0 rfl) ?_
  refine va_get (ci := 3) (v := .ref (a 1)) (C := RX3) (T := TX3) (N := 16) hx hb hts in_X3 hown hK hP 0 rfl rfl 0 (by decide) (hts _ q1273) (fun _ h9 => h9) rfl dX3_of_1 ?_
  refine lv_bipush (v := 13) hx hb dX3_of_4 (by decide) ?_
  refine lv_iload_n hx hb dX3_of_6 rfl (lv_at hl 1 rfl) ?_
  refine lv_imul hx hb dX3_of_7 ?_
  refine lv_iload_n hx hb dX3_of_8 rfl (lv_at hl 2 rfl) ?_
  refine lv_iadd hx hb dX3_of_9 ?_
  obtain ⟨g1, h⟩ := pg_some h
  refine va_iald hx hb hK hP 1 0 rfl rfl g1 dX3_of_10 ?_
  cases h
  exact W.iret hx hb hr (fun t ht hW => ⟨rfl, ht⟩) (fun q hq => absurd hq List.not_mem_nil) dX3_of_11
theorem hd_opens : yX3_opens.cls = RX3 ∧ yX3_opens.cls ≠ "java/lang/invoke/MethodHandle" ∧ yX3_opens.cls ≠ "java/lang/invoke/VarHandle" ∧ (parseMethodDescriptor yX3_opens.desc).map (fun d => d.parameters.length) = some 1 := by decide +kernel
set_option maxHeartbeats 4000000 in
set_option maxRecDepth 100000 in
theorem lp_opens_1 {p : Program} {l : Launch} {e : Env} {s : State} {m : MethodId} {args : Array Value} {below : List Frame} {meth : Method} {c : Code} {D : va_G} {dA : ClassId} {a : Nat → Nat} {Q : State → Prop} (hx : p.tables.exec = Jvm.exec) (hb : c.code = cX3_opens) (hml : c.maxLocals = 4) (hown : s.vm.findClass RX3 = some m.cls) (hts : ∀ w ∈ lw_all, w.before args s = true) {H : Heap} {locs : List Loc} {sA : Nat → Int32} {past : Nat → Int32} {held : Nat → Int32} {text : Nat → Int32} {parted : Nat → Int32} {asShown : Nat → Int32} {told : Nat → Int32} {pasts : Int32} {runs : Int32} {typed : Int32} {spot : Int32} {from_ : Int32} {reason : Int32} {cause : Int32} {orders : Int32} {order : Int32} (hK : va_K D gCl [(dA, .int)] s) (hP : va_P D gCl (mW dA a sA past held text parted asShown told pasts runs typed spot from_ reason cause orders order) H) {x1 : Int32} (nf : Nat) : ∀ (n : Nat) (y2 : Int32) (z : Int32), m_opens_L1 nf sA x1 n y2 = some z → ∀ ls : Array Slot, lv_has ls 4 [(2, .int y2), (0, .ref (a 0)), (1, .int x1)] → (∀ ls : Array Slot, lv_has ls 4 [(2, .int z), (0, .ref (a 0)), (1, .int x1)] → W p l e ({ frames := 2, cells := 0, slots := 0, locals := 34 } : Room) s m args below meth c H locs 0 0 Q (F0 m 31 ls [])) → W p l e ({ frames := 2, cells := 0, slots := 0, locals := 34 } : Room) s m args below meth c H locs 0 0 Q (F0 m 9 ls []) := by
  intro n
  induction n with
  | zero => intro y2 z h ls hl K; exact absurd h (by simp [m_opens_L1])
  | succ n ih =>
    intro y2 z h ls hl K
    unfold m_opens_L1 at h
    refine lv_iload_n hx hb dX3_opens_9 rfl (lv_at hl 0 rfl) ?_
    refine lv_if_le (tgt := 31) hx hb dX3_opens_10 (by decide) (fun c1 => ?_) (fun c1 => ?_)
    · have h := pi_t c1 h
      cases h
      exact K ls (lv_sub hl [0, 1, 2] rfl)
    · have h := pi_f c1 h
      refine lv_aload_n hx hb dX3_opens_13 rfl (lv_at hl 1 rfl) ?_
      refine lv_iload_n hx hb dX3_opens_14 rfl (lv_at hl 0 rfl) ?_
      refine lv_iconst (v := 1) hx hb dX3_opens_15 (by decide) ?_
      refine lv_isub hx hb dX3_opens_16 ?_
      refine lv_iconst (v := 0) hx hb dX3_opens_17 (by decide) ?_
      obtain ⟨r3, e2, h⟩ := pb_some h
      refine m_callR (W.runV (As := [.int (y2 - (1 : Int32)), .int (0 : Int32)]) (rest := []) ⟨hx, hb, hml, hown, hts⟩ (met_of e2) (cwV 2 hts (lw_V q1339 q1341 qs27 q77 q1342) rfl rfl rfl hd_of ⟨Nat.le_of_ble_eq_true rfl, Nat.le_of_ble_eq_true rfl⟩) (m_preV hK hP) rfl rfl hl.1 rfl (lv_room (Nat.le_of_ble_eq_true rfl)) dX3_opens_18 ⟨Nat.le_of_ble_eq_true rfl, Nat.le_of_ble_eq_true rfl⟩) ?_
      refine lv_iload_n hx hb dX3_opens_21 rfl (lv_at hl 2 rfl) ?_
      refine lv_icmp_le (tgt := 31) hx hb dX3_opens_22 (by decide) (fun c4 => ?_) (fun c4 => ?_)
      · have h := pi_t c4 h
        cases h
        exact K ls (lv_sub hl [0, 1, 2] rfl)
      · have h := pi_f c4 h
        refine lv_iinc (v := (y2 + (-1 : Int32))) (lv' := [(2, .int (y2 + (-1 : Int32))), (0, .ref (a 0)), (1, .int x1)]) hx hb dX3_opens_25 hl (k := 0) rfl (by rfl) (by decide) rfl (fun ls hl => ?_)
        refine lv_goto (tgt := 9) hx hb dX3_opens_28 (by decide) ?_
        exact ih _ _ h ls (lv_sub hl [0, 1, 2] rfl) K
set_option maxHeartbeats 4000000 in
set_option maxRecDepth 100000 in
theorem lp_opens_2 {p : Program} {l : Launch} {e : Env} {s : State} {m : MethodId} {args : Array Value} {below : List Frame} {meth : Method} {c : Code} {D : va_G} {dA : ClassId} {a : Nat → Nat} {Q : State → Prop} (hx : p.tables.exec = Jvm.exec) (hb : c.code = cX3_opens) (hml : c.maxLocals = 4) (hown : s.vm.findClass RX3 = some m.cls) (hts : ∀ w ∈ lw_all, w.before args s = true) {H0 : Heap} {A : Nat → Prop} {past : Nat → Int32} {held : Nat → Int32} {text : Nat → Int32} {parted : Nat → Int32} {asShown : Nat → Int32} {told : Nat → Int32} {pasts : Int32} {runs : Int32} {typed : Int32} {spot : Int32} {from_ : Int32} {reason : Int32} {cause : Int32} {orders : Int32} {order : Int32} (hK : va_K D gCl [(dA, .int)] s) (hD : mDD A dA a) {x2 : Int32} (nf : Nat) : ∀ (n : Nat) (y3 : Int32) (sA : Nat → Int32) (z : (Nat → Int32)), m_opens_L2 nf x2 n y3 sA = some z → ∀ (H : Heap) (locs : List Loc) (ls : Array Slot), va_P D gCl (mW dA a sA past held text parted asShown told pasts runs typed spot from_ reason cause orders order) H → va_S A H0 H locs → lv_has ls 4 [(3, .int y3), (2, .int x2), (0, .ref (a 0))] → (∀ (H : Heap) (locs : List Loc) (ls : Array Slot), va_P D gCl (mW dA a z past held text parted asShown told pasts runs typed spot from_ reason cause orders order) H → va_S A H0 H locs → lv_has ls 4 [(2, .int x2), (0, .ref (a 0))] → W p l e ({ frames := 2, cells := 0, slots := 0, locals := 34 } : Room) s m args below meth c H locs 0 0 Q (F0 m 74 ls [])) → W p l e ({ frames := 2, cells := 0, slots := 0, locals := 34 } : Room) s m args below meth c H locs 0 0 Q (F0 m 45 ls []) := by
  intro n
  induction n with
  | zero => intro y3 sA z h H locs ls hP hS hl K; exact absurd h (by simp [m_opens_L2])
  | succ n ih =>
    intro y3 sA z h H locs ls hP hS hl K
    unfold m_opens_L2 at h
    refine lv_iload_n hx hb dX3_opens_45 rfl (lv_at hl 0 rfl) ?_
    refine lv_bipush (v := 13) hx hb dX3_opens_46 (by decide) ?_
    refine lv_iload_n hx hb dX3_opens_48 rfl (lv_at hl 1 rfl) ?_
    refine lv_imul hx hb dX3_opens_49 ?_
    refine lv_icmp_lt (tgt := 74) hx hb dX3_opens_50 (by decide) (fun c1 => ?_) (fun c1 => ?_)
    · have h := pi_t c1 h
      cases h
      exact K H locs ls hP hS (lv_sub hl [1, 2] rfl)
    · have h := pi_f c1 h
      refine lv_aload_n hx hb dX3_opens_53 rfl (lv_at hl 2 rfl) ?_
      refine va_get (ci := 3) (v := .ref (a 1)) (C := RX3) (T := TX3) (N := 16) hx hb hts in_X3 hown hK hP 0 rfl rfl 0 (by decide) (hts _ q1273) (fun _ h9 => h9) rfl dX3_opens_54 ?_
      refine lv_iload_n hx hb dX3_opens_57 rfl (lv_at hl 0 rfl) ?_
      refine lv_bipush (v := 13) hx hb dX3_opens_58 (by decide) ?_
      refine lv_iadd hx hb dX3_opens_60 ?_
      refine lv_aload_n hx hb dX3_opens_61 rfl (lv_at hl 2 rfl) ?_
      refine va_get (ci := 3) (v := .ref (a 1)) (C := RX3) (T := TX3) (N := 16) hx hb hts in_X3 hown hK hP 0 rfl rfl 0 (by decide) (hts _ q1273) (fun _ h9 => h9) rfl dX3_opens_62 ?_
      refine lv_iload_n hx hb dX3_opens_65 rfl (lv_at hl 0 rfl) ?_
      obtain ⟨g2, h⟩ := pg_some h
      refine va_iald hx hb hK hP 1 0 rfl rfl g2 dX3_opens_66 ?_
      obtain ⟨g3, h⟩ := pg_some h
      refine va_iast hx hb hK hP (hD _ _ _ _ _ _ _ _ _ _ _ _ _ _ _ _) hS 1 0 rfl rfl g3 dX3_opens_67 (fun H locs hP _ hS => ?_)
      have hP : va_P D gCl (mW dA a (upd sA (y3 + (13 : Int32)).toNatClampNeg (sA y3.toNatClampNeg)) past held text parted asShown told pasts runs typed spot from_ reason cause orders order) H := hP
      refine lv_iinc (v := (y3 + (-1 : Int32))) (lv' := [(3, .int (y3 + (-1 : Int32))), (2, .int x2), (0, .ref (a 0))]) hx hb dX3_opens_68 hl (k := 0) rfl (by rfl) (by decide) rfl (fun ls hl => ?_)
      refine lv_goto (tgt := 45) hx hb dX3_opens_71 (by decide) ?_
      exact ih _ _ _ h H locs ls hP hS (lv_sub hl [0, 1, 2] rfl) K
set_option maxHeartbeats 4000000 in
set_option maxRecDepth 100000 in
theorem met_opens {l : Launch} {D : va_G} {dA : ClassId} {a : Nat → Nat} {sA past held text parted asShown told : Nat → Int32} {pasts runs typed spot from_ reason cause orders order : Int32} {A : Nat → Prop} (hD : mDD A dA a) {nf : Nat} {x1 : Int32} {r : Int32} {sA' : Nat → Int32} (h : m_opens nf sA x1 = some (r, sA')) : Met l yX3_opens (ws_ yX3_opens cX3_opens 4 (some .int)) ({ frames := 2, cells := 0, slots := 0, locals := 34 } : Room) (mPc [.ref (a 0), .int x1] D dA a sA past held text parted asShown told pasts runs typed spot from_ reason cause orders order) (va_Qi (fun r2 (_ : Unit) => r2 = r) (fun _ t => va_P D gCl (mW dA a sA' past held text parted asShown told pasts runs typed spot from_ reason cause orders order) t.heap) A) 0 0 A := by
  refine Met.ofW (cc := cX3_opens) (maxL := 4) (ret := (some .int)) (by decide) rfl ?_
  intro p e s m args below meth c s₁ B hml hv
  obtain ⟨rfl, hP, hK⟩ := hv
  have hx := B.exec
  have hb := B.bytes
  have hr := B.returns
  have hts := atoms_spec (ws := ws_ yX3_opens cX3_opens 4 (some .int)) B.pre
  have hts : ∀ w ∈ lw_all, w.before _ s = true := fun w h => hts w (List.mem_cons_of_mem _ h)
  have hown : s.vm.findClass RX3 = some m.cls := findClass_of_methodNamed B.named
  have hlocks := B.notSynchronized
  have hS : va_S A s.heap s.heap [] := va_S.rf
  have hl := lv_entry ([.ref (a 0), .int x1]) (n := 4) (Nat.le_of_ble_eq_true rfl)
  rw [lg_entry_eq]
  generalize (lg_sl ([.ref (a 0), .int x1]) ++ List.replicate (4 - (lg_sl ([.ref (a 0), .int x1])).length) Slot.unset).toArray = ls at hl ⊢
  have hl : lv_has ls 4 [(0, .ref (a 0)), (1, .int x1)] := hl
  unfold m_opens at h
  refine lv_aload_n hx hb dX3_opens_0 rfl (lv_at hl 0 rfl) ?_
  refine va_get (ci := 3) (v := .ref (a 1)) (C := RX3) (T := TX3) (N := 16) hx hb hts in_X3 hown hK hP 0 rfl rfl 0 (by decide) (hts _ q1273) (fun _ h9 => h9) rfl dX3_opens_1 ?_
  refine lv_sipush (v := 282) hx hb dX3_opens_4 (by decide) ?_
  refine m_iald (k := 282) hx hb hK hP 1 0 rfl rfl (by decide) (by decide) dX3_opens_7 ?_
  refine lv_istore_n (lv' := [(2, .int (sA 282)), (0, .ref (a 0)), (1, .int x1)]) hx hb dX3_opens_8 rfl hl (by decide) rfl (fun ls hl => ?_)
  obtain ⟨o1, e501, h⟩ := pb_some h
  refine lp_opens_1 hx hb hml hown hts hK hP _ _ _ _ e501 ls (lv_sub hl [0, 1, 2] rfl) (fun ls hl => ?_)
  refine lv_bipush (v := 13) hx hb dX3_opens_31 (by decide) ?_
  refine lv_aload_n hx hb dX3_opens_33 rfl (lv_at hl 1 rfl) ?_
  refine va_get (ci := 3) (v := .ref (a 1)) (C := RX3) (T := TX3) (N := 16) hx hb hts in_X3 hown hK hP 0 rfl rfl 0 (by decide) (hts _ q1273) (fun _ h9 => h9) rfl dX3_opens_34 ?_
  refine lv_sipush (v := 282) hx hb dX3_opens_37 (by decide) ?_
  refine m_iald (k := 282) hx hb hK hP 1 0 rfl rfl (by decide) (by decide) dX3_opens_40 ?_
  refine lv_imul hx hb dX3_opens_41 ?_
  refine lv_iconst (v := 1) hx hb dX3_opens_42 (by decide) ?_
  refine lv_isub hx hb dX3_opens_43 ?_
  refine lv_istore_n (lv' := [(3, .int (((13 : Int32) * (sA 282)) - (1 : Int32))), (2, .int o1), (0, .ref (a 0)), (1, .int x1)]) hx hb dX3_opens_44 rfl hl (by decide) rfl (fun ls hl => ?_)
  obtain ⟨sA_2, e502, h⟩ := pb_some h
  refine lp_opens_2 hx hb hml hown hts hK hD _ _ _ _ _ e502 _ _ ls hP hS (lv_sub hl [0, 1, 2] rfl) (fun H locs ls hP hS hl => ?_)
  refine lv_aload_n hx hb dX3_opens_74 rfl (lv_at hl 1 rfl) ?_
  refine va_get (ci := 3) (v := .ref (a 1)) (C := RX3) (T := TX3) (N := 16) hx hb hts in_X3 hown hK hP 0 rfl rfl 0 (by decide) (hts _ q1273) (fun _ h9 => h9) rfl dX3_opens_75 ?_
  refine lv_sipush (v := 282) hx hb dX3_opens_78 (by decide) ?_
  refine lv_dup2_11 hx hb dX3_opens_81 rfl rfl ?_
  refine m_iald (k := 282) hx hb hK hP 1 0 rfl rfl (by decide) (by decide) dX3_opens_82 ?_
  refine lv_iconst (v := 1) hx hb dX3_opens_83 (by decide) ?_
  refine lv_iadd hx hb dX3_opens_84 ?_
  refine m_iast (k := 282) hx hb hK hP (hD _ _ _ _ _ _ _ _ _ _ _ _ _ _ _ _) hS 1 0 rfl rfl (by decide) (by decide) dX3_opens_85 (fun H locs hP _ hS => ?_)
  have hP : va_P D gCl (mW dA a (upd sA_2 282 ((sA_2 282) + (1 : Int32))) past held text parted asShown told pasts runs typed spot from_ reason cause orders order) H := hP
  refine lv_iload_n hx hb dX3_opens_86 rfl (lv_at hl 0 rfl) ?_
  cases h
  exact W.iret hx hb hr (fun t ht hW => ⟨⟨_, (), rfl, rfl, (show va_P D gCl _ t.heap from by rw [ht]; exact hP)⟩, hS.F ht⟩) hS.2.2 dX3_opens_87
theorem hd_sets : yX3_sets.cls = RX3 ∧ yX3_sets.cls ≠ "java/lang/invoke/MethodHandle" ∧ yX3_sets.cls ≠ "java/lang/invoke/VarHandle" ∧ (parseMethodDescriptor yX3_sets.desc).map (fun d => d.parameters.length) = some 3 := by decide +kernel
set_option maxHeartbeats 4000000 in
set_option maxRecDepth 100000 in
theorem met_sets {l : Launch} {D : va_G} {dA : ClassId} {a : Nat → Nat} {sA past held text parted asShown told : Nat → Int32} {pasts runs typed spot from_ reason cause orders order : Int32} {A : Nat → Prop} (hD : mDD A dA a) {x1 : Int32} {x2 : Int32} {x3 : Int32}  {sA' : Nat → Int32} (h : m_sets sA x1 x2 x3 = some sA') : Met l yX3_sets (ws_ yX3_sets cX3_sets 4 none) ({ frames := 1, cells := 0, slots := 0, locals := 12 } : Room) (mPc [.ref (a 0), .int x1, .int x2, .int x3] D dA a sA past held text parted asShown told pasts runs typed spot from_ reason cause orders order) (va_Qv (fun _ => True) (fun (_ : Unit) t => va_P D gCl (mW dA a sA' past held text parted asShown told pasts runs typed spot from_ reason cause orders order) t.heap) A) 0 0 A := by
  refine Met.ofW (cc := cX3_sets) (maxL := 4) (ret := none) (by decide) rfl ?_
  intro p e s m args below meth c s₁ B hml hv
  obtain ⟨rfl, hP, hK⟩ := hv
  have hx := B.exec
  have hb := B.bytes
  have hr := B.returns
  have hts := atoms_spec (ws := ws_ yX3_sets cX3_sets 4 none) B.pre
  have hts : ∀ w ∈ lw_all, w.before _ s = true := fun w h => hts w (List.mem_cons_of_mem _ h)
  have hown : s.vm.findClass RX3 = some m.cls := findClass_of_methodNamed B.named
  have hlocks := B.notSynchronized
  have hS : va_S A s.heap s.heap [] := va_S.rf
  have hl := lv_entry ([.ref (a 0), .int x1, .int x2, .int x3]) (n := 4) (Nat.le_of_ble_eq_true rfl)
  rw [lg_entry_eq]
  generalize (lg_sl ([.ref (a 0), .int x1, .int x2, .int x3]) ++ List.replicate (4 - (lg_sl ([.ref (a 0), .int x1, .int x2, .int x3])).length) Slot.unset).toArray = ls at hl ⊢
  have hl : lv_has ls 4 [(0, .ref (a 0)), (1, .int x1), (2, .int x2), (3, .int x3)] := hl
  unfold m_sets at h
  refine lv_aload_n hx hb dX3_sets_0 rfl (lv_at hl 0 rfl) ?_
  refine va_get (ci := 3) (v := .ref (a 1)) (C := RX3) (T := TX3) (N := 16) hx hb hts in_X3 hown hK hP 0 rfl rfl 0 (by decide) (hts _ q1273) (fun _ h9 => h9) rfl dX3_sets_1 ?_
  refine lv_bipush (v := 13) hx hb dX3_sets_4 (by decide) ?_
  refine lv_iload_n hx hb dX3_sets_6 rfl (lv_at hl 1 rfl) ?_
  refine lv_imul hx hb dX3_sets_7 ?_
  refine lv_iload_n hx hb dX3_sets_8 rfl (lv_at hl 2 rfl) ?_
  refine lv_iadd hx hb dX3_sets_9 ?_
  refine lv_iload_n hx hb dX3_sets_10 rfl (lv_at hl 3 rfl) ?_
  obtain ⟨g1, h⟩ := pg_some h
  refine va_iast hx hb hK hP (hD _ _ _ _ _ _ _ _ _ _ _ _ _ _ _ _) hS 1 0 rfl rfl g1 dX3_sets_11 (fun H locs hP _ hS => ?_)
  have hP : va_P D gCl (mW dA a (upd sA (((13 : Int32) * x1) + x2).toNatClampNeg x3) past held text parted asShown told pasts runs typed spot from_ reason cause orders order) H := hP
  cases h
  exact W.vret hx hb hr (fun t ht hW => ⟨⟨(), rfl, trivial, (show va_P D gCl _ t.heap from by rw [ht]; exact hP)⟩, hS.F ht⟩) hS.2.2 dX3_sets_12
theorem hd_far : yX3_far.cls ≠ "java/lang/invoke/MethodHandle" ∧ yX3_far.cls ≠ "java/lang/invoke/VarHandle" ∧ (parseMethodDescriptor yX3_far.desc).map (fun d => d.parameters.length) = some 2 := by decide +kernel
set_option maxHeartbeats 4000000 in
set_option maxRecDepth 100000 in
theorem met_far {l : Launch}  {x0 : Int32} {x1 : Int32} {r : Int32}  (h : m_far  x0 x1 = some r) : Met l yX3_far (ws_ yX3_far cX3_far 2 (some .int)) ({ frames := 1, cells := 0, slots := 0, locals := 12 } : Room) (va_Pc [.int x0, .int x1] (fun _ => True)) (QcRead r) 0 0 (fun _ => False) := by
  refine Met.ofW (cc := cX3_far) (maxL := 2) (ret := (some .int)) (by decide) rfl ?_
  intro p e s m args below meth c s₁ B hml hv
  obtain ⟨rfl, -⟩ := hv
  have hx := B.exec
  have hb := B.bytes
  have hr := B.returns
  have hts := atoms_spec (ws := ws_ yX3_far cX3_far 2 (some .int)) B.pre
  have hts : ∀ w ∈ lw_all, w.before _ s = true := fun w h => hts w (List.mem_cons_of_mem _ h)
  have hown : s.vm.findClass RX3 = some m.cls := findClass_of_methodNamed B.named
  have hlocks := B.notSynchronized
  have hl := lv_entry ([.int x0, .int x1]) (n := 2) (Nat.le_of_ble_eq_true rfl)
  rw [lg_entry_eq]
  generalize (lg_sl ([.int x0, .int x1]) ++ List.replicate (2 - (lg_sl ([.int x0, .int x1])).length) Slot.unset).toArray = ls at hl ⊢
  have hl : lv_has ls 2 [(0, .int x0), (1, .int x1)] := hl
  unfold m_far at h
  refine lv_iload_n hx hb dX3_far_0 rfl (lv_at hl 0 rfl) ?_
  refine lv_iload_n hx hb dX3_far_1 rfl (lv_at hl 1 rfl) ?_
  refine lv_icmp_ge (tgt := 11) hx hb dX3_far_2 (by decide) (fun c1 => ?_) (fun c1 => ?_)
  · have h := pi_t c1 h
    refine lv_iload_n hx hb dX3_far_11 rfl (lv_at hl 0 rfl) ?_
    refine lv_iload_n hx hb dX3_far_12 rfl (lv_at hl 1 rfl) ?_
    refine lv_isub hx hb dX3_far_13 ?_
    cases h
    exact W.iret hx hb hr (fun t ht hW => ⟨rfl, ht⟩) (fun q hq => absurd hq List.not_mem_nil) dX3_far_14
  · have h := pi_f c1 h
    refine lv_iload_n hx hb dX3_far_5 rfl (lv_at hl 1 rfl) ?_
    refine lv_iload_n hx hb dX3_far_6 rfl (lv_at hl 0 rfl) ?_
    refine lv_isub hx hb dX3_far_7 ?_
    refine lv_goto (tgt := 14) hx hb dX3_far_8 (by decide) ?_
    cases h
    exact W.iret hx hb hr (fun t ht hW => ⟨rfl, ht⟩) (fun q hq => absurd hq List.not_mem_nil) dX3_far_14
theorem hd_voiceFor : yX3_voiceFor.cls = RX3 ∧ yX3_voiceFor.cls ≠ "java/lang/invoke/MethodHandle" ∧ yX3_voiceFor.cls ≠ "java/lang/invoke/VarHandle" ∧ (parseMethodDescriptor yX3_voiceFor.desc).map (fun d => d.parameters.length) = some 1 := by decide +kernel
set_option maxHeartbeats 4000000 in
set_option maxRecDepth 100000 in
theorem lp_voiceFor_1 {p : Program} {l : Launch} {e : Env} {s : State} {m : MethodId} {args : Array Value} {below : List Frame} {meth : Method} {c : Code} {D : va_G} {dA : ClassId} {a : Nat → Nat} {Q : State → Prop} (hx : p.tables.exec = Jvm.exec) (hb : c.code = cX3_voiceFor) (hml : c.maxLocals = 5) (hown : s.vm.findClass RX3 = some m.cls) (hts : ∀ w ∈ lw_all, w.before args s = true) {H : Heap} {locs : List Loc} {sA : Nat → Int32} {past : Nat → Int32} {held : Nat → Int32} {text : Nat → Int32} {parted : Nat → Int32} {asShown : Nat → Int32} {told : Nat → Int32} {pasts : Int32} {runs : Int32} {typed : Int32} {spot : Int32} {from_ : Int32} {reason : Int32} {cause : Int32} {orders : Int32} {order : Int32} (hK : va_K D gCl [(dA, .int)] s) (hP : va_P D gCl (mW dA a sA past held text parted asShown told pasts runs typed spot from_ reason cause orders order) H) {x1 : Int32} (nf : Nat) : ∀ (n : Nat) (y3 : Int32) (y2 : Int32) (z : Int32), m_voiceFor_L1 nf sA x1 n y3 y2 = some z → ∀ ls : Array Slot, lv_has ls 5 [(3, .int y3), (2, .int y2), (0, .ref (a 0)), (1, .int x1)] → (∀ ls : Array Slot, lv_has ls 5 [(2, .int z), (0, .ref (a 0)), (1, .int x1)] → W p l e ({ frames := 2, cells := 0, slots := 0, locals := 33 } : Room) s m args below meth c H locs 0 0 Q (F0 m 107 ls [])) → W p l e ({ frames := 2, cells := 0, slots := 0, locals := 33 } : Room) s m args below meth c H locs 0 0 Q (F0 m 4 ls []) := by
  intro n
  induction n with
  | zero => intro y3 y2 z h ls hl K; exact absurd h (by simp [m_voiceFor_L1])
  | succ n ih =>
    intro y3 y2 z h ls hl K
    unfold m_voiceFor_L1 at h
    refine lv_iload_n hx hb dX3_voiceFor_4 rfl (lv_at hl 0 rfl) ?_
    refine lv_bipush (v := 6) hx hb dX3_voiceFor_5 (by decide) ?_
    refine lv_icmp_ge (tgt := 107) hx hb dX3_voiceFor_7 (by decide) (fun c1 => ?_) (fun c1 => ?_)
    · have h := pi_t c1 h
      cases h
      exact K ls (lv_sub hl [1, 2, 3] rfl)
    · have h := pi_f c1 h
      refine lv_aload_n hx hb dX3_voiceFor_10 rfl (lv_at hl 2 rfl) ?_
      refine va_get (ci := 3) (v := .ref (a 1)) (C := RX3) (T := TX3) (N := 16) hx hb hts in_X3 hown hK hP 0 rfl rfl 0 (by decide) (hts _ q1273) (fun _ h9 => h9) rfl dX3_voiceFor_11 ?_
      refine lv_sipush (v := 276) hx hb dX3_voiceFor_14 (by decide) ?_
      refine lv_iload_n hx hb dX3_voiceFor_17 rfl (lv_at hl 0 rfl) ?_
      refine lv_iadd hx hb dX3_voiceFor_18 ?_
      obtain ⟨g2, h⟩ := pg_some h
      refine va_iald hx hb hK hP 1 0 rfl rfl g2 dX3_voiceFor_19 ?_
      obtain ⟨j7, hj, h⟩ := pb_some h
      refine W.cut (g' := F0 m 53 ls [.int (bi j7)]) ?_ (fun K => ?_)
      · refine lv_istore (lv' := [(4, .int (bi j7)), (3, .int y3), (2, .int y2), (0, .ref (a 0)), (1, .int x1)]) hx hb dX3_voiceFor_53 hl (by decide) rfl (fun ls hl => ?_)
        refine lv_iload hx hb dX3_voiceFor_55 (lv_at hl 0 rfl) ?_
        obtain ⟨j16, hj, h⟩ := pb_some h
        refine W.cut (g' := F0 m 100 ls [.int j16]) ?_ (fun K => ?_)
        · refine lv_istore_n (lv' := [(2, .int j16), (4, .int (bi j7)), (3, .int y3), (0, .ref (a 0)), (1, .int x1)]) hx hb dX3_voiceFor_100 rfl hl (by decide) rfl (fun ls hl => ?_)
          refine lv_iinc (v := (y3 + (1 : Int32))) (lv' := [(3, .int (y3 + (1 : Int32))), (2, .int j16), (4, .int (bi j7)), (0, .ref (a 0)), (1, .int x1)]) hx hb dX3_voiceFor_101 hl (k := 2) rfl (by rfl) (by decide) rfl (fun ls hl => ?_)
          refine lv_goto (tgt := 4) hx hb dX3_voiceFor_104 (by decide) ?_
          exact ih _ _ _ h ls (lv_sub hl [0, 1, 3, 4] rfl) K
        · have h := hj
          refine lv_if_eq (tgt := 99) hx hb dX3_voiceFor_57 (by decide) (fun c8 => ?_) (fun c8 => ?_)
          · have h := pi_t c8 h
            refine lv_iload_n hx hb dX3_voiceFor_99 rfl (lv_at hl 2 rfl) ?_
            cases h
            exact K
          · have h := pi_f c8 h
            refine lv_iload_n hx hb dX3_voiceFor_60 rfl (lv_at hl 2 rfl) ?_
            refine lv_if_lt (tgt := 95) hx hb dX3_voiceFor_61 (by decide) (fun c9 => ?_) (fun c9 => ?_)
            · have h := pi_t c9 h
              refine lv_iload_n hx hb dX3_voiceFor_95 rfl (lv_at hl 1 rfl) ?_
              refine lv_goto (tgt := 100) hx hb dX3_voiceFor_96 (by decide) ?_
              cases h
              exact K
            · have h := pi_f c9 h
              refine lv_aload_n hx hb dX3_voiceFor_64 rfl (lv_at hl 3 rfl) ?_
              refine va_get (ci := 3) (v := .ref (a 1)) (C := RX3) (T := TX3) (N := 16) hx hb hts in_X3 hown hK hP 0 rfl rfl 0 (by decide) (hts _ q1273) (fun _ h9 => h9) rfl dX3_voiceFor_65 ?_
              refine lv_sipush (v := 276) hx hb dX3_voiceFor_68 (by decide) ?_
              refine lv_iload_n hx hb dX3_voiceFor_71 rfl (lv_at hl 1 rfl) ?_
              refine lv_iadd hx hb dX3_voiceFor_72 ?_
              refine va_iald hx hb hK hP 1 0 rfl rfl g2 dX3_voiceFor_73 ?_
              refine lv_iload_n hx hb dX3_voiceFor_74 rfl (lv_at hl 4 rfl) ?_
              obtain ⟨r11, e10, h⟩ := pb_some h
              refine m_callR (W.runS (As := [.int (sA ((276 : Int32) + y3).toNatClampNeg), .int x1]) (rest := []) ⟨hx, hb, hml, hown, hts⟩ (met_far e10) (va_cwS 2 hts (lw_S q1351 q1352 q77 q1353) rfl rfl rfl hd_far ⟨Nat.le_of_ble_eq_true rfl, Nat.le_of_ble_eq_true rfl⟩) m_preS rfl rfl hl.1 rfl (lv_room (Nat.le_of_ble_eq_true rfl)) dX3_voiceFor_75 ⟨Nat.le_of_ble_eq_true rfl, Nat.le_of_ble_eq_true rfl⟩) ?_
              refine lv_aload_n hx hb dX3_voiceFor_78 rfl (lv_at hl 3 rfl) ?_
              refine va_get (ci := 3) (v := .ref (a 1)) (C := RX3) (T := TX3) (N := 16) hx hb hts in_X3 hown hK hP 0 rfl rfl 0 (by decide) (hts _ q1273) (fun _ h9 => h9) rfl dX3_voiceFor_79 ?_
              refine lv_sipush (v := 276) hx hb dX3_voiceFor_82 (by decide) ?_
              refine lv_iload_n hx hb dX3_voiceFor_85 rfl (lv_at hl 2 rfl) ?_
              refine lv_iadd hx hb dX3_voiceFor_86 ?_
              obtain ⟨g12, h⟩ := pg_some h
              refine va_iald hx hb hK hP 1 0 rfl rfl g12 dX3_voiceFor_87 ?_
              refine lv_iload_n hx hb dX3_voiceFor_88 rfl (lv_at hl 4 rfl) ?_
              obtain ⟨r14, e13, h⟩ := pb_some h
              refine m_callR (W.runS (As := [.int (sA ((276 : Int32) + y2).toNatClampNeg), .int x1]) (rest := [.int r11]) ⟨hx, hb, hml, hown, hts⟩ (met_far e13) (va_cwS 2 hts (lw_S q1351 q1352 q77 q1353) rfl rfl rfl hd_far ⟨Nat.le_of_ble_eq_true rfl, Nat.le_of_ble_eq_true rfl⟩) m_preS rfl rfl hl.1 rfl (lv_room (Nat.le_of_ble_eq_true rfl)) dX3_voiceFor_89 ⟨Nat.le_of_ble_eq_true rfl, Nat.le_of_ble_eq_true rfl⟩) ?_
              refine lv_icmp_ge (tgt := 99) hx hb dX3_voiceFor_92 (by decide) (fun c15 => ?_) (fun c15 => ?_)
              · have h := pi_t c15 h
                refine lv_iload_n hx hb dX3_voiceFor_99 rfl (lv_at hl 2 rfl) ?_
                cases h
                exact K
              · have h := pi_f c15 h
                refine lv_iload_n hx hb dX3_voiceFor_95 rfl (lv_at hl 1 rfl) ?_
                refine lv_goto (tgt := 100) hx hb dX3_voiceFor_96 (by decide) ?_
                cases h
                exact K
      · have h := hj
        refine lv_if_le (tgt := 52) hx hb dX3_voiceFor_20 (by decide) (fun c3 => ?_) (fun c3 => ?_)
        · have h := pi_t c3 h
          refine lv_iconst (v := 0) hx hb dX3_voiceFor_52 (by decide) ?_
          cases h
          exact K
        · have h := pi_f c3 h
          refine lv_aload_n hx hb dX3_voiceFor_23 rfl (lv_at hl 2 rfl) ?_
          refine va_get (ci := 3) (v := .ref (a 1)) (C := RX3) (T := TX3) (N := 16) hx hb hts in_X3 hown hK hP 0 rfl rfl 0 (by decide) (hts _ q1273) (fun _ h9 => h9) rfl dX3_voiceFor_24 ?_
          refine lv_sipush (v := 276) hx hb dX3_voiceFor_27 (by decide) ?_
          refine lv_iload_n hx hb dX3_voiceFor_30 rfl (lv_at hl 0 rfl) ?_
          refine lv_iadd hx hb dX3_voiceFor_31 ?_
          refine va_iald hx hb hK hP 1 0 rfl rfl g2 dX3_voiceFor_32 ?_
          refine lv_iload_n hx hb dX3_voiceFor_33 rfl (lv_at hl 3 rfl) ?_
          obtain ⟨r5, e4, h⟩ := pb_some h
          refine m_callR (W.runS (As := [.int (sA ((276 : Int32) + y3).toNatClampNeg), .int x1]) (rest := []) ⟨hx, hb, hml, hown, hts⟩ (met_far e4) (va_cwS 2 hts (lw_S q1351 q1352 q77 q1353) rfl rfl rfl hd_far ⟨Nat.le_of_ble_eq_true rfl, Nat.le_of_ble_eq_true rfl⟩) m_preS rfl rfl hl.1 rfl (lv_room (Nat.le_of_ble_eq_true rfl)) dX3_voiceFor_34 ⟨Nat.le_of_ble_eq_true rfl, Nat.le_of_ble_eq_true rfl⟩) ?_
          refine lv_aload_n hx hb dX3_voiceFor_37 rfl (lv_at hl 2 rfl) ?_
          refine va_get (ci := 3) (v := .ref (a 1)) (C := RX3) (T := TX3) (N := 16) hx hb hts in_X3 hown hK hP 0 rfl rfl 0 (by decide) (hts _ q1273) (fun _ h9 => h9) rfl dX3_voiceFor_38 ?_
          refine lv_sipush (v := 283) hx hb dX3_voiceFor_41 (by decide) ?_
          refine m_iald (k := 283) hx hb hK hP 1 0 rfl rfl (by decide) (by decide) dX3_voiceFor_44 ?_
          refine lv_icmp_gt (tgt := 52) hx hb dX3_voiceFor_45 (by decide) (fun c6 => ?_) (fun c6 => ?_)
          · have h := pi_t c6 h
            refine lv_iconst (v := 0) hx hb dX3_voiceFor_52 (by decide) ?_
            cases h
            exact K
          · have h := pi_f c6 h
            refine lv_iconst (v := 1) hx hb dX3_voiceFor_48 (by decide) ?_
            refine lv_goto (tgt := 53) hx hb dX3_voiceFor_49 (by decide) ?_
            cases h
            exact K
set_option maxHeartbeats 4000000 in
set_option maxRecDepth 100000 in
theorem met_voiceFor {l : Launch} {D : va_G} {dA : ClassId} {a : Nat → Nat} {sA past held text parted asShown told : Nat → Int32} {pasts runs typed spot from_ reason cause orders order : Int32} {nf : Nat} {x1 : Int32} {r : Int32}  (h : m_voiceFor nf sA x1 = some r) : Met l yX3_voiceFor (ws_ yX3_voiceFor cX3_voiceFor 5 (some .int)) ({ frames := 2, cells := 0, slots := 0, locals := 33 } : Room) (mPc [.ref (a 0), .int x1] D dA a sA past held text parted asShown told pasts runs typed spot from_ reason cause orders order) (QcRead r) 0 0 (fun _ => False) := by
  refine Met.ofW (cc := cX3_voiceFor) (maxL := 5) (ret := (some .int)) (by decide) rfl ?_
  intro p e s m args below meth c s₁ B hml hv
  obtain ⟨rfl, hP, hK⟩ := hv
  have hx := B.exec
  have hb := B.bytes
  have hr := B.returns
  have hts := atoms_spec (ws := ws_ yX3_voiceFor cX3_voiceFor 5 (some .int)) B.pre
  have hts : ∀ w ∈ lw_all, w.before _ s = true := fun w h => hts w (List.mem_cons_of_mem _ h)
  have hown : s.vm.findClass RX3 = some m.cls := findClass_of_methodNamed B.named
  have hlocks := B.notSynchronized
  have hl := lv_entry ([.ref (a 0), .int x1]) (n := 5) (Nat.le_of_ble_eq_true rfl)
  rw [lg_entry_eq]
  generalize (lg_sl ([.ref (a 0), .int x1]) ++ List.replicate (5 - (lg_sl ([.ref (a 0), .int x1])).length) Slot.unset).toArray = ls at hl ⊢
  have hl : lv_has ls 5 [(0, .ref (a 0)), (1, .int x1)] := hl
  unfold m_voiceFor at h
  refine lv_iconst (v := -1) hx hb dX3_voiceFor_0 (by decide) ?_
  refine lv_istore_n (lv' := [(2, .int (-1 : Int32)), (0, .ref (a 0)), (1, .int x1)]) hx hb dX3_voiceFor_1 rfl hl (by decide) rfl (fun ls hl => ?_)
  refine lv_iconst (v := 0) hx hb dX3_voiceFor_2 (by decide) ?_
  refine lv_istore_n (lv' := [(3, .int (0 : Int32)), (2, .int (-1 : Int32)), (0, .ref (a 0)), (1, .int x1)]) hx hb dX3_voiceFor_3 rfl hl (by decide) rfl (fun ls hl => ?_)
  obtain ⟨o1, e501, h⟩ := pb_some h
  refine lp_voiceFor_1 hx hb hml hown hts hK hP _ _ _ _ _ e501 ls (lv_sub hl [0, 1, 2, 3] rfl) (fun ls hl => ?_)
  refine lv_iload_n hx hb dX3_voiceFor_107 rfl (lv_at hl 0 rfl) ?_
  cases h
  exact W.iret hx hb hr (fun t ht hW => ⟨rfl, ht⟩) (fun q hq => absurd hq List.not_mem_nil) dX3_voiceFor_108
theorem hd_turn : yX3_turn.cls = RX3 ∧ yX3_turn.cls ≠ "java/lang/invoke/MethodHandle" ∧ yX3_turn.cls ≠ "java/lang/invoke/VarHandle" ∧ (parseMethodDescriptor yX3_turn.desc).map (fun d => d.parameters.length) = some 3 := by decide +kernel
set_option maxHeartbeats 4000000 in
set_option maxRecDepth 100000 in
theorem met_turn {l : Launch} {D : va_G} {dA : ClassId} {a : Nat → Nat} {sA past held text parted asShown told : Nat → Int32} {pasts runs typed spot from_ reason cause orders order : Int32} {A : Nat → Prop} (hD : mDD A dA a) {nf : Nat} {x1 : Int32} {x2 : Int32} {x3 : Int32} {r : Int32} {sA' : Nat → Int32} {past' : Nat → Int32} {pasts' : Int32} (h : m_turn nf sA past pasts runs x1 x2 x3 = some (r, sA', past', pasts')) : Met l yX3_turn (ws_ yX3_turn cX3_turn 5 (some .int)) ({ frames := 3, cells := 0, slots := 0, locals := 57 } : Room) (mPc [.ref (a 0), .int x1, .int x2, .int x3] D dA a sA past held text parted asShown told pasts runs typed spot from_ reason cause orders order) (va_Qi (fun r2 (_ : Unit) => r2 = r) (fun _ t => va_P D gCl (mW dA a sA' past' held text parted asShown told pasts' runs typed spot from_ reason cause orders order) t.heap) A) 0 0 A := by
  refine Met.ofW (cc := cX3_turn) (maxL := 5) (ret := (some .int)) (by decide) rfl ?_
  intro p e s m args below meth c s₁ B hml hv
  obtain ⟨rfl, hP, hK⟩ := hv
  have hx := B.exec
  have hb := B.bytes
  have hr := B.returns
  have hts := atoms_spec (ws := ws_ yX3_turn cX3_turn 5 (some .int)) B.pre
  have hts : ∀ w ∈ lw_all, w.before _ s = true := fun w h => hts w (List.mem_cons_of_mem _ h)
  have hown : s.vm.findClass RX3 = some m.cls := findClass_of_methodNamed B.named
  have hlocks := B.notSynchronized
  have hS : va_S A s.heap s.heap [] := va_S.rf
  have hl := lv_entry ([.ref (a 0), .int x1, .int x2, .int x3]) (n := 5) (Nat.le_of_ble_eq_true rfl)
  rw [lg_entry_eq]
  generalize (lg_sl ([.ref (a 0), .int x1, .int x2, .int x3]) ++ List.replicate (5 - (lg_sl ([.ref (a 0), .int x1, .int x2, .int x3])).length) Slot.unset).toArray = ls at hl ⊢
  have hl : lv_has ls 5 [(0, .ref (a 0)), (1, .int x1), (2, .int x2), (3, .int x3)] := hl
  unfold m_turn at h
  refine lv_iload_n hx hb dX3_turn_0 rfl (lv_at hl 1 rfl) ?_
  refine lv_iconst (v := 0) hx hb dX3_turn_1 (by decide) ?_
  refine lv_sipush (v := 1998) hx hb dX3_turn_2 (by decide) ?_
  obtain ⟨b2, e1, h⟩ := pb_some h
  refine m_callR (W.runS (As := [.int x1, .int (0 : Int32), .int (1998 : Int32)]) (rest := []) ⟨hx, hb, hml, hown, hts⟩ (met_in e1) (va_cwS 3 hts (lw_S q1326 q1327 q77 q1328) rfl rfl rfl hd_in ⟨Nat.le_of_ble_eq_true rfl, Nat.le_of_ble_eq_true rfl⟩) m_preS rfl rfl hl.1 rfl (lv_room (Nat.le_of_ble_eq_true rfl)) dX3_turn_5 ⟨Nat.le_of_ble_eq_true rfl, Nat.le_of_ble_eq_true rfl⟩) ?_
  refine lv_if_eq (tgt := 36) hx hb dX3_turn_8 (by decide) (fun c3 => ?_) (fun c3 => ?_)
  · have h := pi_t c3 h
    refine lv_ldc hx hb hown (hts _ q1329) dX3_turn_36 ?_
    cases h
    exact W.iret hx hb hr (fun t ht hW => ⟨⟨_, (), rfl, rfl, (show va_P D gCl _ t.heap from by rw [ht]; exact hP)⟩, hS.F ht⟩) hS.2.2 dX3_turn_38
  · have h := pi_f c3 h
    refine lv_iload_n hx hb dX3_turn_11 rfl (lv_at hl 2 rfl) ?_
    refine lv_iload_n hx hb dX3_turn_12 rfl (lv_at hl 1 rfl) ?_
    refine lv_iconst (v := 1) hx hb dX3_turn_13 (by decide) ?_
    refine lv_iadd hx hb dX3_turn_14 ?_
    refine lv_sipush (v := 1999) hx hb dX3_turn_15 (by decide) ?_
    obtain ⟨b5, e4, h⟩ := pb_some h
    refine m_callR (W.runS (As := [.int x2, .int (x1 + (1 : Int32)), .int (1999 : Int32)]) (rest := []) ⟨hx, hb, hml, hown, hts⟩ (met_in e4) (va_cwS 3 hts (lw_S q1326 q1327 q77 q1328) rfl rfl rfl hd_in ⟨Nat.le_of_ble_eq_true rfl, Nat.le_of_ble_eq_true rfl⟩) m_preS rfl rfl hl.1 rfl (lv_room (Nat.le_of_ble_eq_true rfl)) dX3_turn_18 ⟨Nat.le_of_ble_eq_true rfl, Nat.le_of_ble_eq_true rfl⟩) ?_
    refine lv_if_eq (tgt := 36) hx hb dX3_turn_21 (by decide) (fun c6 => ?_) (fun c6 => ?_)
    · have h := pi_t c6 h
      refine lv_ldc hx hb hown (hts _ q1329) dX3_turn_36 ?_
      cases h
      exact W.iret hx hb hr (fun t ht hW => ⟨⟨_, (), rfl, rfl, (show va_P D gCl _ t.heap from by rw [ht]; exact hP)⟩, hS.F ht⟩) hS.2.2 dX3_turn_38
    · have h := pi_f c6 h
      refine lv_iload_n hx hb dX3_turn_24 rfl (lv_at hl 3 rfl) ?_
      refine lv_bipush (v := 50) hx hb dX3_turn_25 (by decide) ?_
      refine lv_sipush (v := 500) hx hb dX3_turn_27 (by decide) ?_
      obtain ⟨b8, e7, h⟩ := pb_some h
      refine m_callR (W.runS (As := [.int x3, .int (50 : Int32), .int (500 : Int32)]) (rest := []) ⟨hx, hb, hml, hown, hts⟩ (met_in e7) (va_cwS 3 hts (lw_S q1326 q1327 q77 q1328) rfl rfl rfl hd_in ⟨Nat.le_of_ble_eq_true rfl, Nat.le_of_ble_eq_true rfl⟩) m_preS rfl rfl hl.1 rfl (lv_room (Nat.le_of_ble_eq_true rfl)) dX3_turn_30 ⟨Nat.le_of_ble_eq_true rfl, Nat.le_of_ble_eq_true rfl⟩) ?_
      refine lv_if_ne (tgt := 39) hx hb dX3_turn_33 (by decide) (fun c9 => ?_) (fun c9 => ?_)
      · have h := pi_f c9 h
        refine lv_aload_n hx hb dX3_turn_39 rfl (lv_at hl 0 rfl) ?_
        refine va_get (ci := 3) (v := .ref (a 1)) (C := RX3) (T := TX3) (N := 16) hx hb hts in_X3 hown hK hP 0 rfl rfl 0 (by decide) (hts _ q1273) (fun _ h9 => h9) rfl dX3_turn_40 ?_
        refine lv_sipush (v := 282) hx hb dX3_turn_43 (by decide) ?_
        refine m_iald (k := 282) hx hb hK hP 1 0 rfl rfl (by decide) (by decide) dX3_turn_46 ?_
        refine lv_bipush (v := 20) hx hb dX3_turn_47 (by decide) ?_
        refine lv_icmp_ne (tgt := 55) hx hb dX3_turn_49 (by decide) (fun c10 => ?_) (fun c10 => ?_)
        · have h := pi_f c10 h
          refine lv_aload_n hx hb dX3_turn_55 rfl (lv_at hl 0 rfl) ?_
          obtain ⟨⟨past_12, pasts_13⟩, e11, h⟩ := pb_some h
          refine m_callv (va_runV (As := []) (rest := []) ⟨hx, hb, hml, hown, hts⟩ (met_changes hD e11) (cwV 0 hts (lw_V q1331 q1333 qs25 q77 q1334) rfl rfl rfl hd_changes ⟨Nat.le_of_ble_eq_true rfl, Nat.le_of_ble_eq_true rfl⟩) (m_preV hK hP) rfl rfl hl.1 rfl (lv_room (Nat.le_of_ble_eq_true rfl)) dX3_turn_56 ⟨Nat.le_of_ble_eq_true rfl, Nat.le_of_ble_eq_true rfl⟩) hS (fun H locs hP hS => ?_)
          refine lv_aload_n hx hb dX3_turn_59 rfl (lv_at hl 0 rfl) ?_
          refine lv_iload_n hx hb dX3_turn_60 rfl (lv_at hl 1 rfl) ?_
          obtain ⟨⟨r15, sA_16⟩, e14, h⟩ := pb_some h
          refine m_calli (va_runV (As := [.int x1]) (rest := []) ⟨hx, hb, hml, hown, hts⟩ (met_opens hD e14) (cwV 1 hts (lw_V q1335 q1337 qs26 q77 q1338) rfl rfl rfl hd_opens ⟨Nat.le_of_ble_eq_true rfl, Nat.le_of_ble_eq_true rfl⟩) (m_preV hK hP) rfl rfl hl.1 rfl (lv_room (Nat.le_of_ble_eq_true rfl)) dX3_turn_61 ⟨Nat.le_of_ble_eq_true rfl, Nat.le_of_ble_eq_true rfl⟩) hS (fun H locs hP hS => ?_)
          refine lv_istore (lv' := [(4, .int r15), (0, .ref (a 0)), (1, .int x1), (2, .int x2), (3, .int x3)]) hx hb dX3_turn_64 hl (by decide) rfl (fun ls hl => ?_)
          refine lv_aload_n hx hb dX3_turn_66 rfl (lv_at hl 1 rfl) ?_
          refine lv_iload hx hb dX3_turn_67 (lv_at hl 0 rfl) ?_
          refine lv_iconst (v := 0) hx hb dX3_turn_69 (by decide) ?_
          refine lv_iload_n hx hb dX3_turn_70 rfl (lv_at hl 2 rfl) ?_
          obtain ⟨sA_18, e17, h⟩ := pb_some h
          refine m_callv (va_runV (As := [.int r15, .int (0 : Int32), .int x1]) (rest := []) ⟨hx, hb, hml, hown, hts⟩ (met_sets hD e17) (cwV 3 hts (lw_V q1343 q1345 qs28 q77 q1346) rfl rfl rfl hd_sets ⟨Nat.le_of_ble_eq_true rfl, Nat.le_of_ble_eq_true rfl⟩) (m_preV hK hP) rfl rfl hl.1 rfl (lv_room (Nat.le_of_ble_eq_true rfl)) dX3_turn_71 ⟨Nat.le_of_ble_eq_true rfl, Nat.le_of_ble_eq_true rfl⟩) hS (fun H locs hP hS => ?_)
          refine lv_aload_n hx hb dX3_turn_74 rfl (lv_at hl 1 rfl) ?_
          refine lv_iload hx hb dX3_turn_75 (lv_at hl 0 rfl) ?_
          refine lv_iconst (v := 1) hx hb dX3_turn_77 (by decide) ?_
          refine lv_iload_n hx hb dX3_turn_78 rfl (lv_at hl 3 rfl) ?_
          obtain ⟨sA_20, e19, h⟩ := pb_some h
          refine m_callv (va_runV (As := [.int r15, .int (1 : Int32), .int x2]) (rest := []) ⟨hx, hb, hml, hown, hts⟩ (met_sets hD e19) (cwV 3 hts (lw_V q1343 q1345 qs28 q77 q1346) rfl rfl rfl hd_sets ⟨Nat.le_of_ble_eq_true rfl, Nat.le_of_ble_eq_true rfl⟩) (m_preV hK hP) rfl rfl hl.1 rfl (lv_room (Nat.le_of_ble_eq_true rfl)) dX3_turn_79 ⟨Nat.le_of_ble_eq_true rfl, Nat.le_of_ble_eq_true rfl⟩) hS (fun H locs hP hS => ?_)
          refine lv_aload_n hx hb dX3_turn_82 rfl (lv_at hl 1 rfl) ?_
          refine lv_iload hx hb dX3_turn_83 (lv_at hl 0 rfl) ?_
          refine lv_iconst (v := 2) hx hb dX3_turn_85 (by decide) ?_
          refine lv_iload_n hx hb dX3_turn_86 rfl (lv_at hl 4 rfl) ?_
          obtain ⟨sA_22, e21, h⟩ := pb_some h
          refine m_callv (va_runV (As := [.int r15, .int (2 : Int32), .int x3]) (rest := []) ⟨hx, hb, hml, hown, hts⟩ (met_sets hD e21) (cwV 3 hts (lw_V q1343 q1345 qs28 q77 q1346) rfl rfl rfl hd_sets ⟨Nat.le_of_ble_eq_true rfl, Nat.le_of_ble_eq_true rfl⟩) (m_preV hK hP) rfl rfl hl.1 rfl (lv_room (Nat.le_of_ble_eq_true rfl)) dX3_turn_87 ⟨Nat.le_of_ble_eq_true rfl, Nat.le_of_ble_eq_true rfl⟩) hS (fun H locs hP hS => ?_)
          refine lv_aload_n hx hb dX3_turn_90 rfl (lv_at hl 1 rfl) ?_
          refine lv_iload hx hb dX3_turn_91 (lv_at hl 0 rfl) ?_
          refine lv_iconst (v := 3) hx hb dX3_turn_93 (by decide) ?_
          refine lv_aload_n hx hb dX3_turn_94 rfl (lv_at hl 1 rfl) ?_
          refine lv_iload_n hx hb dX3_turn_95 rfl (lv_at hl 4 rfl) ?_
          obtain ⟨r24, e23, h⟩ := pb_some h
          refine m_callR (W.runV (As := [.int x3]) (rest := [.int (3 : Int32), .int r15, .ref (a 0)]) ⟨hx, hb, hml, hown, hts⟩ (met_voiceFor e23) (cwV 1 hts (lw_V q1347 q1349 qs29 q77 q1350) rfl rfl rfl hd_voiceFor ⟨Nat.le_of_ble_eq_true rfl, Nat.le_of_ble_eq_true rfl⟩) (m_preV hK hP) rfl rfl hl.1 rfl (lv_room (Nat.le_of_ble_eq_true rfl)) dX3_turn_96 ⟨Nat.le_of_ble_eq_true rfl, Nat.le_of_ble_eq_true rfl⟩) ?_
          obtain ⟨sA_26, e25, h⟩ := pb_some h
          refine m_callv (va_runV (As := [.int r15, .int (3 : Int32), .int r24]) (rest := []) ⟨hx, hb, hml, hown, hts⟩ (met_sets hD e25) (cwV 3 hts (lw_V q1343 q1345 qs28 q77 q1346) rfl rfl rfl hd_sets ⟨Nat.le_of_ble_eq_true rfl, Nat.le_of_ble_eq_true rfl⟩) (m_preV hK hP) rfl rfl hl.1 rfl (lv_room (Nat.le_of_ble_eq_true rfl)) dX3_turn_99 ⟨Nat.le_of_ble_eq_true rfl, Nat.le_of_ble_eq_true rfl⟩) hS (fun H locs hP hS => ?_)
          refine lv_aload_n hx hb dX3_turn_102 rfl (lv_at hl 1 rfl) ?_
          refine lv_iload hx hb dX3_turn_103 (lv_at hl 0 rfl) ?_
          refine lv_iconst (v := 4) hx hb dX3_turn_105 (by decide) ?_
          refine lv_iconst (v := 0) hx hb dX3_turn_106 (by decide) ?_
          obtain ⟨sA_28, e27, h⟩ := pb_some h
          refine m_callv (va_runV (As := [.int r15, .int (4 : Int32), .int (0 : Int32)]) (rest := []) ⟨hx, hb, hml, hown, hts⟩ (met_sets hD e27) (cwV 3 hts (lw_V q1343 q1345 qs28 q77 q1346) rfl rfl rfl hd_sets ⟨Nat.le_of_ble_eq_true rfl, Nat.le_of_ble_eq_true rfl⟩) (m_preV hK hP) rfl rfl hl.1 rfl (lv_room (Nat.le_of_ble_eq_true rfl)) dX3_turn_107 ⟨Nat.le_of_ble_eq_true rfl, Nat.le_of_ble_eq_true rfl⟩) hS (fun H locs hP hS => ?_)
          refine lv_iload hx hb dX3_turn_110 (lv_at hl 0 rfl) ?_
          cases h
          exact W.iret hx hb hr (fun t ht hW => ⟨⟨_, (), rfl, rfl, (show va_P D gCl _ t.heap from by rw [ht]; exact hP)⟩, hS.F ht⟩) hS.2.2 dX3_turn_112
        · have h := pi_t c10 h
          refine lv_ldc hx hb hown (hts _ q1330) dX3_turn_52 ?_
          cases h
          exact W.iret hx hb hr (fun t ht hW => ⟨⟨_, (), rfl, rfl, (show va_P D gCl _ t.heap from by rw [ht]; exact hP)⟩, hS.F ht⟩) hS.2.2 dX3_turn_54
      · have h := pi_t c9 h
        refine lv_ldc hx hb hown (hts _ q1329) dX3_turn_36 ?_
        cases h
        exact W.iret hx hb hr (fun t ht hW => ⟨⟨_, (), rfl, rfl, (show va_P D gCl _ t.heap from by rw [ht]; exact hP)⟩, hS.F ht⟩) hS.2.2 dX3_turn_38
theorem hd_isTerm : yX3_isTerm.cls ≠ "java/lang/invoke/MethodHandle" ∧ yX3_isTerm.cls ≠ "java/lang/invoke/VarHandle" ∧ (parseMethodDescriptor yX3_isTerm.desc).map (fun d => d.parameters.length) = some 1 := by decide +kernel
set_option maxHeartbeats 4000000 in
set_option maxRecDepth 100000 in
theorem met_isTerm {l : Launch}  {x0 : Int32} {b : Bool}  (h : m_isTerm  x0 = some b) : Met l yX3_isTerm (ws_ yX3_isTerm cX3_isTerm 1 (some .boolean)) ({ frames := 2, cells := 0, slots := 0, locals := 34 } : Room) (va_Pc [.int x0] (fun _ => True)) (QcRead (bi b)) 0 0 (fun _ => False) := by
  refine Met.ofW (cc := cX3_isTerm) (maxL := 1) (ret := (some .boolean)) (by decide) rfl ?_
  intro p e s m args below meth c s₁ B hml hv
  obtain ⟨rfl, -⟩ := hv
  have hx := B.exec
  have hb := B.bytes
  have hr := B.returns
  have hts := atoms_spec (ws := ws_ yX3_isTerm cX3_isTerm 1 (some .boolean)) B.pre
  have hts : ∀ w ∈ lw_all, w.before _ s = true := fun w h => hts w (List.mem_cons_of_mem _ h)
  have hown : s.vm.findClass RX3 = some m.cls := findClass_of_methodNamed B.named
  have hlocks := B.notSynchronized
  have hl := lv_entry ([.int x0]) (n := 1) (Nat.le_of_ble_eq_true rfl)
  rw [lg_entry_eq]
  generalize (lg_sl ([.int x0]) ++ List.replicate (1 - (lg_sl ([.int x0])).length) Slot.unset).toArray = ls at hl ⊢
  have hl : lv_has ls 1 [(0, .int x0)] := hl
  unfold m_isTerm at h
  refine lv_iload_n hx hb dX3_isTerm_0 rfl (lv_at hl 0 rfl) ?_
  refine lv_iconst (v := 0) hx hb dX3_isTerm_1 (by decide) ?_
  refine lv_bipush (v := 15) hx hb dX3_isTerm_2 (by decide) ?_
  obtain ⟨b2, e1, h⟩ := pb_some h
  refine m_callR (W.runS (As := [.int x0, .int (0 : Int32), .int (15 : Int32)]) (rest := []) ⟨hx, hb, hml, hown, hts⟩ (met_in e1) (va_cwS 3 hts (lw_S q1326 q1327 q77 q1328) rfl rfl rfl hd_in ⟨Nat.le_of_ble_eq_true rfl, Nat.le_of_ble_eq_true rfl⟩) m_preS rfl rfl hl.1 rfl (lv_room (Nat.le_of_ble_eq_true rfl)) dX3_isTerm_4 ⟨Nat.le_of_ble_eq_true rfl, Nat.le_of_ble_eq_true rfl⟩) ?_
  cases h
  exact W.zret hx hb hr (bi_nar _) (fun t ht hW => ⟨rfl, ht⟩) (fun q hq => absurd hq List.not_mem_nil) dX3_isTerm_7
theorem hd_isTurn : yX3_isTurn.cls = RX3 ∧ yX3_isTurn.cls ≠ "java/lang/invoke/MethodHandle" ∧ yX3_isTurn.cls ≠ "java/lang/invoke/VarHandle" ∧ (parseMethodDescriptor yX3_isTurn.desc).map (fun d => d.parameters.length) = some 1 := by decide +kernel
set_option maxHeartbeats 4000000 in
set_option maxRecDepth 100000 in
theorem met_isTurn {l : Launch} {D : va_G} {dA : ClassId} {a : Nat → Nat} {sA past held text parted asShown told : Nat → Int32} {pasts runs typed spot from_ reason cause orders order : Int32} {x1 : Int32} {b : Bool}  (h : m_isTurn sA x1 = some b) : Met l yX3_isTurn (ws_ yX3_isTurn cX3_isTurn 2 (some .boolean)) ({ frames := 1, cells := 0, slots := 0, locals := 12 } : Room) (mPc [.ref (a 0), .int x1] D dA a sA past held text parted asShown told pasts runs typed spot from_ reason cause orders order) (QcRead (bi b)) 0 0 (fun _ => False) := by
  refine Met.ofW (cc := cX3_isTurn) (maxL := 2) (ret := (some .boolean)) (by decide) rfl ?_
  intro p e s m args below meth c s₁ B hml hv
  obtain ⟨rfl, hP, hK⟩ := hv
  have hx := B.exec
  have hb := B.bytes
  have hr := B.returns
  have hts := atoms_spec (ws := ws_ yX3_isTurn cX3_isTurn 2 (some .boolean)) B.pre
  have hts : ∀ w ∈ lw_all, w.before _ s = true := fun w h => hts w (List.mem_cons_of_mem _ h)
  have hown : s.vm.findClass RX3 = some m.cls := findClass_of_methodNamed B.named
  have hlocks := B.notSynchronized
  have hl := lv_entry ([.ref (a 0), .int x1]) (n := 2) (Nat.le_of_ble_eq_true rfl)
  rw [lg_entry_eq]
  generalize (lg_sl ([.ref (a 0), .int x1]) ++ List.replicate (2 - (lg_sl ([.ref (a 0), .int x1])).length) Slot.unset).toArray = ls at hl ⊢
  have hl : lv_has ls 2 [(0, .ref (a 0)), (1, .int x1)] := hl
  unfold m_isTurn at h
  refine lv_iload_n hx hb dX3_isTurn_0 rfl (lv_at hl 1 rfl) ?_
  refine lv_if_lt (tgt := 20) hx hb dX3_isTurn_1 (by decide) (fun c1 => ?_) (fun c1 => ?_)
  · have h := pi_t c1 h
    refine lv_iconst (v := 0) hx hb dX3_isTurn_20 (by decide) ?_
    cases h
    exact W.zret hx hb hr rfl (fun t ht hW => ⟨rfl, ht⟩) (fun q hq => absurd hq List.not_mem_nil) dX3_isTurn_21
  · have h := pi_f c1 h
    refine lv_iload_n hx hb dX3_isTurn_4 rfl (lv_at hl 1 rfl) ?_
    refine lv_aload_n hx hb dX3_isTurn_5 rfl (lv_at hl 0 rfl) ?_
    refine va_get (ci := 3) (v := .ref (a 1)) (C := RX3) (T := TX3) (N := 16) hx hb hts in_X3 hown hK hP 0 rfl rfl 0 (by decide) (hts _ q1273) (fun _ h9 => h9) rfl dX3_isTurn_6 ?_
    refine lv_sipush (v := 282) hx hb dX3_isTurn_9 (by decide) ?_
    refine m_iald (k := 282) hx hb hK hP 1 0 rfl rfl (by decide) (by decide) dX3_isTurn_12 ?_
    refine lv_icmp_ge (tgt := 20) hx hb dX3_isTurn_13 (by decide) (fun c2 => ?_) (fun c2 => ?_)
    · have h := pi_t c2 h
      refine lv_iconst (v := 0) hx hb dX3_isTurn_20 (by decide) ?_
      cases h
      exact W.zret hx hb hr rfl (fun t ht hW => ⟨rfl, ht⟩) (fun q hq => absurd hq List.not_mem_nil) dX3_isTurn_21
    · have h := pi_f c2 h
      refine lv_iconst (v := 1) hx hb dX3_isTurn_16 (by decide) ?_
      refine lv_goto (tgt := 21) hx hb dX3_isTurn_17 (by decide) ?_
      cases h
      exact W.zret hx hb hr rfl (fun t ht hW => ⟨rfl, ht⟩) (fun q hq => absurd hq List.not_mem_nil) dX3_isTurn_21
theorem hd_say : yX3_say.cls = RX3 ∧ yX3_say.cls ≠ "java/lang/invoke/MethodHandle" ∧ yX3_say.cls ≠ "java/lang/invoke/VarHandle" ∧ (parseMethodDescriptor yX3_say.desc).map (fun d => d.parameters.length) = some 2 := by decide +kernel
set_option maxHeartbeats 4000000 in
set_option maxRecDepth 100000 in
theorem met_say {l : Launch} {D : va_G} {dA : ClassId} {a : Nat → Nat} {sA past held text parted asShown told : Nat → Int32} {pasts runs typed spot from_ reason cause orders order : Int32} {A : Nat → Prop} (hD : mDD A dA a) {nf : Nat} {x1 : Int32} {x2 : Int32} {r : Int32} {sA' : Nat → Int32} {past' : Nat → Int32} {pasts' : Int32} (h : m_say nf sA past pasts runs x1 x2 = some (r, sA', past', pasts')) : Met l yX3_say (ws_ yX3_say cX3_say 4 (some .int)) ({ frames := 3, cells := 0, slots := 0, locals := 54 } : Room) (mPc [.ref (a 0), .int x1, .int x2] D dA a sA past held text parted asShown told pasts runs typed spot from_ reason cause orders order) (va_Qi (fun r2 (_ : Unit) => r2 = r) (fun _ t => va_P D gCl (mW dA a sA' past' held text parted asShown told pasts' runs typed spot from_ reason cause orders order) t.heap) A) 0 0 A := by
  refine Met.ofW (cc := cX3_say) (maxL := 4) (ret := (some .int)) (by decide) rfl ?_
  intro p e s m args below meth c s₁ B hml hv
  obtain ⟨rfl, hP, hK⟩ := hv
  have hx := B.exec
  have hb := B.bytes
  have hr := B.returns
  have hts := atoms_spec (ws := ws_ yX3_say cX3_say 4 (some .int)) B.pre
  have hts : ∀ w ∈ lw_all, w.before _ s = true := fun w h => hts w (List.mem_cons_of_mem _ h)
  have hown : s.vm.findClass RX3 = some m.cls := findClass_of_methodNamed B.named
  have hlocks := B.notSynchronized
  have hS : va_S A s.heap s.heap [] := va_S.rf
  have hl := lv_entry ([.ref (a 0), .int x1, .int x2]) (n := 4) (Nat.le_of_ble_eq_true rfl)
  rw [lg_entry_eq]
  generalize (lg_sl ([.ref (a 0), .int x1, .int x2]) ++ List.replicate (4 - (lg_sl ([.ref (a 0), .int x1, .int x2])).length) Slot.unset).toArray = ls at hl ⊢
  have hl : lv_has ls 4 [(0, .ref (a 0)), (1, .int x1), (2, .int x2)] := hl
  unfold m_say at h
  refine lv_aload_n hx hb dX3_say_0 rfl (lv_at hl 0 rfl) ?_
  refine lv_iload_n hx hb dX3_say_1 rfl (lv_at hl 1 rfl) ?_
  obtain ⟨b2, e1, h⟩ := pb_some h
  refine m_callR (W.runV (As := [.int x1]) (rest := []) ⟨hx, hb, hml, hown, hts⟩ (met_isTurn e1) (cwV 1 hts (lw_V q1358 q1360 qs30 q77 q1361) rfl rfl rfl hd_isTurn ⟨Nat.le_of_ble_eq_true rfl, Nat.le_of_ble_eq_true rfl⟩) (m_preV hK hP) rfl rfl hl.1 rfl (lv_room (Nat.le_of_ble_eq_true rfl)) dX3_say_2 ⟨Nat.le_of_ble_eq_true rfl, Nat.le_of_ble_eq_true rfl⟩) ?_
  refine lv_if_eq (tgt := 15) hx hb dX3_say_5 (by decide) (fun c3 => ?_) (fun c3 => ?_)
  · have h := pi_t c3 h
    refine lv_ldc hx hb hown (hts _ q1329) dX3_say_15 ?_
    cases h
    exact W.iret hx hb hr (fun t ht hW => ⟨⟨_, (), rfl, rfl, (show va_P D gCl _ t.heap from by rw [ht]; exact hP)⟩, hS.F ht⟩) hS.2.2 dX3_say_17
  · have h := pi_f c3 h
    refine lv_iload_n hx hb dX3_say_8 rfl (lv_at hl 2 rfl) ?_
    obtain ⟨b5, e4, h⟩ := pb_some h
    refine m_callR (W.runS (As := [.int x2]) (rest := []) ⟨hx, hb, hml, hown, hts⟩ (met_isTerm e4) (va_cwS 1 hts (lw_S q1362 q1363 q77 q1364) rfl rfl rfl hd_isTerm ⟨Nat.le_of_ble_eq_true rfl, Nat.le_of_ble_eq_true rfl⟩) m_preS rfl rfl hl.1 rfl (lv_room (Nat.le_of_ble_eq_true rfl)) dX3_say_9 ⟨Nat.le_of_ble_eq_true rfl, Nat.le_of_ble_eq_true rfl⟩) ?_
    refine lv_if_ne (tgt := 18) hx hb dX3_say_12 (by decide) (fun c6 => ?_) (fun c6 => ?_)
    · have h := pi_f c6 h
      refine lv_aload_n hx hb dX3_say_18 rfl (lv_at hl 0 rfl) ?_
      refine lv_iload_n hx hb dX3_say_19 rfl (lv_at hl 1 rfl) ?_
      refine lv_iconst (v := 4) hx hb dX3_say_20 (by decide) ?_
      obtain ⟨r8, e7, h⟩ := pb_some h
      refine m_callR (W.runV (As := [.int x1, .int (4 : Int32)]) (rest := []) ⟨hx, hb, hml, hown, hts⟩ (met_of e7) (cwV 2 hts (lw_V q1339 q1341 qs27 q77 q1342) rfl rfl rfl hd_of ⟨Nat.le_of_ble_eq_true rfl, Nat.le_of_ble_eq_true rfl⟩) (m_preV hK hP) rfl rfl hl.1 rfl (lv_room (Nat.le_of_ble_eq_true rfl)) dX3_say_21 ⟨Nat.le_of_ble_eq_true rfl, Nat.le_of_ble_eq_true rfl⟩) ?_
      refine lv_istore_n (lv' := [(3, .int r8), (0, .ref (a 0)), (1, .int x1), (2, .int x2)]) hx hb dX3_say_24 rfl hl (by decide) rfl (fun ls hl => ?_)
      refine lv_iload_n hx hb dX3_say_25 rfl (lv_at hl 0 rfl) ?_
      refine lv_bipush (v := 8) hx hb dX3_say_26 (by decide) ?_
      refine lv_icmp_ne (tgt := 34) hx hb dX3_say_28 (by decide) (fun c9 => ?_) (fun c9 => ?_)
      · have h := pi_f c9 h
        refine lv_aload_n hx hb dX3_say_34 rfl (lv_at hl 1 rfl) ?_
        obtain ⟨⟨past_11, pasts_12⟩, e10, h⟩ := pb_some h
        refine m_callv (va_runV (As := []) (rest := []) ⟨hx, hb, hml, hown, hts⟩ (met_changes hD e10) (cwV 0 hts (lw_V q1331 q1333 qs25 q77 q1334) rfl rfl rfl hd_changes ⟨Nat.le_of_ble_eq_true rfl, Nat.le_of_ble_eq_true rfl⟩) (m_preV hK hP) rfl rfl hl.1 rfl (lv_room (Nat.le_of_ble_eq_true rfl)) dX3_say_35 ⟨Nat.le_of_ble_eq_true rfl, Nat.le_of_ble_eq_true rfl⟩) hS (fun H locs hP hS => ?_)
        refine lv_aload_n hx hb dX3_say_38 rfl (lv_at hl 1 rfl) ?_
        refine lv_iload_n hx hb dX3_say_39 rfl (lv_at hl 2 rfl) ?_
        refine lv_iconst (v := 5) hx hb dX3_say_40 (by decide) ?_
        refine lv_iload_n hx hb dX3_say_41 rfl (lv_at hl 0 rfl) ?_
        refine lv_iadd hx hb dX3_say_42 ?_
        refine lv_iload_n hx hb dX3_say_43 rfl (lv_at hl 3 rfl) ?_
        obtain ⟨sA_14, e13, h⟩ := pb_some h
        refine m_callv (va_runV (As := [.int x1, .int ((5 : Int32) + r8), .int x2]) (rest := []) ⟨hx, hb, hml, hown, hts⟩ (met_sets hD e13) (cwV 3 hts (lw_V q1343 q1345 qs28 q77 q1346) rfl rfl rfl hd_sets ⟨Nat.le_of_ble_eq_true rfl, Nat.le_of_ble_eq_true rfl⟩) (m_preV hK hP) rfl rfl hl.1 rfl (lv_room (Nat.le_of_ble_eq_true rfl)) dX3_say_44 ⟨Nat.le_of_ble_eq_true rfl, Nat.le_of_ble_eq_true rfl⟩) hS (fun H locs hP hS => ?_)
        refine lv_aload_n hx hb dX3_say_47 rfl (lv_at hl 1 rfl) ?_
        refine lv_iload_n hx hb dX3_say_48 rfl (lv_at hl 2 rfl) ?_
        refine lv_iconst (v := 4) hx hb dX3_say_49 (by decide) ?_
        refine lv_iload_n hx hb dX3_say_50 rfl (lv_at hl 0 rfl) ?_
        refine lv_iconst (v := 1) hx hb dX3_say_51 (by decide) ?_
        refine lv_iadd hx hb dX3_say_52 ?_
        obtain ⟨sA_16, e15, h⟩ := pb_some h
        refine m_callv (va_runV (As := [.int x1, .int (4 : Int32), .int (r8 + (1 : Int32))]) (rest := []) ⟨hx, hb, hml, hown, hts⟩ (met_sets hD e15) (cwV 3 hts (lw_V q1343 q1345 qs28 q77 q1346) rfl rfl rfl hd_sets ⟨Nat.le_of_ble_eq_true rfl, Nat.le_of_ble_eq_true rfl⟩) (m_preV hK hP) rfl rfl hl.1 rfl (lv_room (Nat.le_of_ble_eq_true rfl)) dX3_say_53 ⟨Nat.le_of_ble_eq_true rfl, Nat.le_of_ble_eq_true rfl⟩) hS (fun H locs hP hS => ?_)
        refine lv_iload_n hx hb dX3_say_56 rfl (lv_at hl 0 rfl) ?_
        refine lv_iconst (v := 1) hx hb dX3_say_57 (by decide) ?_
        refine lv_iadd hx hb dX3_say_58 ?_
        cases h
        exact W.iret hx hb hr (fun t ht hW => ⟨⟨_, (), rfl, rfl, (show va_P D gCl _ t.heap from by rw [ht]; exact hP)⟩, hS.F ht⟩) hS.2.2 dX3_say_59
      · have h := pi_t c9 h
        refine lv_ldc hx hb hown (hts _ q1330) dX3_say_31 ?_
        cases h
        exact W.iret hx hb hr (fun t ht hW => ⟨⟨_, (), rfl, rfl, (show va_P D gCl _ t.heap from by rw [ht]; exact hP)⟩, hS.F ht⟩) hS.2.2 dX3_say_33
    · have h := pi_t c6 h
      refine lv_ldc hx hb hown (hts _ q1329) dX3_say_15 ?_
      cases h
      exact W.iret hx hb hr (fun t ht hW => ⟨⟨_, (), rfl, rfl, (show va_P D gCl _ t.heap from by rw [ht]; exact hP)⟩, hS.F ht⟩) hS.2.2 dX3_say_17
theorem hd_part : yX3_part.cls = RX3 ∧ yX3_part.cls ≠ "java/lang/invoke/MethodHandle" ∧ yX3_part.cls ≠ "java/lang/invoke/VarHandle" ∧ (parseMethodDescriptor yX3_part.desc).map (fun d => d.parameters.length) = some 3 := by decide +kernel
set_option maxHeartbeats 4000000 in
set_option maxRecDepth 100000 in
theorem lp_part_1 {p : Program} {l : Launch} {e : Env} {s : State} {m : MethodId} {args : Array Value} {below : List Frame} {meth : Method} {c : Code} {D : va_G} {dA : ClassId} {a : Nat → Nat} {Q : State → Prop} (hx : p.tables.exec = Jvm.exec) (hb : c.code = cX3_part) (hml : c.maxLocals = 6) (hown : s.vm.findClass RX3 = some m.cls) (hts : ∀ w ∈ lw_all, w.before args s = true) {H0 : Heap} {A : Nat → Prop} {sA : Nat → Int32} {past : Nat → Int32} {held : Nat → Int32} {text : Nat → Int32} {asShown : Nat → Int32} {told : Nat → Int32} {pasts : Int32} {runs : Int32} {typed : Int32} {spot : Int32} {from_ : Int32} {reason : Int32} {cause : Int32} {orders : Int32} {order : Int32} (hK : va_K D gCl [(dA, .int)] s) (hD : mDD A dA a) {x1 : Int32} {x2 : Int32} {x3 : Int32} (nf : Nat) : ∀ (n : Nat) (y4 : Int32) (parted : Nat → Int32) (z : (Nat → Int32)), m_part_L1 nf sA x1 n y4 parted = some z → ∀ (H : Heap) (locs : List Loc) (ls : Array Slot), va_P D gCl (mW dA a sA past held text parted asShown told pasts runs typed spot from_ reason cause orders order) H → va_S A H0 H locs → lv_has ls 6 [(4, .int y4), (0, .ref (a 0)), (1, .int x1), (2, .int x2), (3, .int x3)] → (∀ (H : Heap) (locs : List Loc) (ls : Array Slot), va_P D gCl (mW dA a sA past held text z asShown told pasts runs typed spot from_ reason cause orders order) H → va_S A H0 H locs → lv_has ls 6 [(0, .ref (a 0)), (1, .int x1), (2, .int x2), (3, .int x3)] → W p l e ({ frames := 3, cells := 0, slots := 0, locals := 57 } : Room) s m args below meth c H locs 0 0 Q (F0 m 95 ls [])) → W p l e ({ frames := 3, cells := 0, slots := 0, locals := 57 } : Room) s m args below meth c H locs 0 0 Q (F0 m 68 ls []) := by
  intro n
  induction n with
  | zero => intro y4 parted z h H locs ls hP hS hl K; exact absurd h (by simp [m_part_L1])
  | succ n ih =>
    intro y4 parted z h H locs ls hP hS hl K
    unfold m_part_L1 at h
    refine lv_iload hx hb dX3_part_68 (lv_at hl 0 rfl) ?_
    refine lv_bipush (v := 13) hx hb dX3_part_70 (by decide) ?_
    refine lv_icmp_ge (tgt := 95) hx hb dX3_part_72 (by decide) (fun c1 => ?_) (fun c1 => ?_)
    · have h := pi_t c1 h
      cases h
      exact K H locs ls hP hS (lv_sub hl [1, 2, 3, 4] rfl)
    · have h := pi_f c1 h
      refine lv_aload_n hx hb dX3_part_75 rfl (lv_at hl 1 rfl) ?_
      refine va_get (ci := 3) (v := .ref (a 5)) (C := RX3) (T := TX3) (N := 16) hx hb hts in_X3 hown hK hP 0 rfl rfl 7 (by decide) (hts _ q1280) (fun _ h9 => h9) rfl dX3_part_76 ?_
      refine lv_iload hx hb dX3_part_79 (lv_at hl 0 rfl) ?_
      refine lv_aload_n hx hb dX3_part_81 rfl (lv_at hl 1 rfl) ?_
      refine lv_iload_n hx hb dX3_part_82 rfl (lv_at hl 2 rfl) ?_
      refine lv_iload hx hb dX3_part_83 (lv_at hl 0 rfl) ?_
      obtain ⟨r3, e2, h⟩ := pb_some h
      refine m_callR (W.runV (As := [.int x1, .int y4]) (rest := [.int y4, .ref (a 5)]) ⟨hx, hb, hml, hown, hts⟩ (met_of e2) (cwV 2 hts (lw_V q1339 q1341 qs27 q77 q1342) rfl rfl rfl hd_of ⟨Nat.le_of_ble_eq_true rfl, Nat.le_of_ble_eq_true rfl⟩) (m_preV hK hP) rfl rfl hl.1 rfl (lv_room (Nat.le_of_ble_eq_true rfl)) dX3_part_85 ⟨Nat.le_of_ble_eq_true rfl, Nat.le_of_ble_eq_true rfl⟩) ?_
      obtain ⟨g4, h⟩ := pg_some h
      refine va_iast hx hb hK hP (hD _ _ _ _ _ _ _ _ _ _ _ _ _ _ _ _) hS 5 0 rfl rfl g4 dX3_part_88 (fun H locs hP _ hS => ?_)
      have hP : va_P D gCl (mW dA a sA past held text (upd parted y4.toNatClampNeg r3) asShown told pasts runs typed spot from_ reason cause orders order) H := hP
      refine lv_iinc (v := (y4 + (1 : Int32))) (lv' := [(4, .int (y4 + (1 : Int32))), (0, .ref (a 0)), (1, .int x1), (2, .int x2), (3, .int x3)]) hx hb dX3_part_89 hl (k := 0) rfl (by rfl) (by decide) rfl (fun ls hl => ?_)
      refine lv_goto (tgt := 68) hx hb dX3_part_92 (by decide) ?_
      exact ih _ _ _ h H locs ls hP hS (lv_sub hl [0, 1, 2, 3, 4] rfl) K
set_option maxHeartbeats 4000000 in
set_option maxRecDepth 100000 in
theorem lp_part_2 {p : Program} {l : Launch} {e : Env} {s : State} {m : MethodId} {args : Array Value} {below : List Frame} {meth : Method} {c : Code} {D : va_G} {dA : ClassId} {a : Nat → Nat} {Q : State → Prop} (hx : p.tables.exec = Jvm.exec) (hb : c.code = cX3_part) (hml : c.maxLocals = 6) (hown : s.vm.findClass RX3 = some m.cls) (hts : ∀ w ∈ lw_all, w.before args s = true) {H0 : Heap} {A : Nat → Prop} {past : Nat → Int32} {held : Nat → Int32} {text : Nat → Int32} {parted : Nat → Int32} {asShown : Nat → Int32} {told : Nat → Int32} {pasts : Int32} {runs : Int32} {typed : Int32} {spot : Int32} {from_ : Int32} {reason : Int32} {cause : Int32} {orders : Int32} {order : Int32} (hK : va_K D gCl [(dA, .int)] s) (hD : mDD A dA a) {x4 : Int32} {x2 : Int32} {x3 : Int32} (nf : Nat) : ∀ (n : Nat) (y5 : Int32) (sA : Nat → Int32) (z : (Nat → Int32)), m_part_L2 nf parted x4 n y5 sA = some z → ∀ (H : Heap) (locs : List Loc) (ls : Array Slot), va_P D gCl (mW dA a sA past held text parted asShown told pasts runs typed spot from_ reason cause orders order) H → va_S A H0 H locs → lv_has ls 6 [(5, .int y5), (4, .int x4), (0, .ref (a 0)), (2, .int x2), (3, .int x3)] → (∀ (H : Heap) (locs : List Loc) (ls : Array Slot), va_P D gCl (mW dA a z past held text parted asShown told pasts runs typed spot from_ reason cause orders order) H → va_S A H0 H locs → lv_has ls 6 [(4, .int x4), (0, .ref (a 0)), (2, .int x2), (3, .int x3)] → W p l e ({ frames := 3, cells := 0, slots := 0, locals := 57 } : Room) s m args below meth c H locs 0 0 Q (F0 m 147 ls [])) → W p l e ({ frames := 3, cells := 0, slots := 0, locals := 57 } : Room) s m args below meth c H locs 0 0 Q (F0 m 119 ls []) := by
  intro n
  induction n with
  | zero => intro y5 sA z h H locs ls hP hS hl K; exact absurd h (by simp [m_part_L2])
  | succ n ih =>
    intro y5 sA z h H locs ls hP hS hl K
    unfold m_part_L2 at h
    refine lv_iload hx hb dX3_part_119 (lv_at hl 0 rfl) ?_
    refine lv_bipush (v := 13) hx hb dX3_part_121 (by decide) ?_
    refine lv_icmp_ge (tgt := 147) hx hb dX3_part_123 (by decide) (fun c1 => ?_) (fun c1 => ?_)
    · have h := pi_t c1 h
      cases h
      exact K H locs ls hP hS (lv_sub hl [1, 2, 3, 4] rfl)
    · have h := pi_f c1 h
      refine lv_aload_n hx hb dX3_part_126 rfl (lv_at hl 2 rfl) ?_
      refine lv_iload hx hb dX3_part_127 (lv_at hl 1 rfl) ?_
      refine lv_iload hx hb dX3_part_129 (lv_at hl 0 rfl) ?_
      refine lv_aload_n hx hb dX3_part_131 rfl (lv_at hl 2 rfl) ?_
      refine va_get (ci := 3) (v := .ref (a 5)) (C := RX3) (T := TX3) (N := 16) hx hb hts in_X3 hown hK hP 0 rfl rfl 7 (by decide) (hts _ q1280) (fun _ h9 => h9) rfl dX3_part_132 ?_
      refine lv_iload hx hb dX3_part_135 (lv_at hl 0 rfl) ?_
      obtain ⟨g2, h⟩ := pg_some h
      refine va_iald hx hb hK hP 5 0 rfl rfl g2 dX3_part_137 ?_
      obtain ⟨sA_4, e3, h⟩ := pb_some h
      refine m_callv (va_runV (As := [.int x4, .int y5, .int (parted y5.toNatClampNeg)]) (rest := []) ⟨hx, hb, hml, hown, hts⟩ (met_sets hD e3) (cwV 3 hts (lw_V q1343 q1345 qs28 q77 q1346) rfl rfl rfl hd_sets ⟨Nat.le_of_ble_eq_true rfl, Nat.le_of_ble_eq_true rfl⟩) (m_preV hK hP) rfl rfl hl.1 rfl (lv_room (Nat.le_of_ble_eq_true rfl)) dX3_part_138 ⟨Nat.le_of_ble_eq_true rfl, Nat.le_of_ble_eq_true rfl⟩) hS (fun H locs hP hS => ?_)
      refine lv_iinc (v := (y5 + (1 : Int32))) (lv' := [(5, .int (y5 + (1 : Int32))), (4, .int x4), (0, .ref (a 0)), (2, .int x2), (3, .int x3)]) hx hb dX3_part_141 hl (k := 0) rfl (by rfl) (by decide) rfl (fun ls hl => ?_)
      refine lv_goto (tgt := 119) hx hb dX3_part_144 (by decide) ?_
      exact ih _ _ _ h H locs ls hP hS (lv_sub hl [0, 1, 2, 3, 4] rfl) K
set_option maxHeartbeats 4000000 in
set_option maxRecDepth 100000 in
theorem lp_part_3 {p : Program} {l : Launch} {e : Env} {s : State} {m : MethodId} {args : Array Value} {below : List Frame} {meth : Method} {c : Code} {D : va_G} {dA : ClassId} {a : Nat → Nat} {Q : State → Prop} (hx : p.tables.exec = Jvm.exec) (hb : c.code = cX3_part) (hml : c.maxLocals = 6) (hown : s.vm.findClass RX3 = some m.cls) (hts : ∀ w ∈ lw_all, w.before args s = true) {H0 : Heap} {A : Nat → Prop} {past : Nat → Int32} {held : Nat → Int32} {text : Nat → Int32} {parted : Nat → Int32} {asShown : Nat → Int32} {told : Nat → Int32} {pasts : Int32} {runs : Int32} {typed : Int32} {spot : Int32} {from_ : Int32} {reason : Int32} {cause : Int32} {orders : Int32} {order : Int32} (hK : va_K D gCl [(dA, .int)] s) (hD : mDD A dA a) {x4 : Int32} {x3 : Int32} (nf : Nat) : ∀ (n : Nat) (y5 : Int32) (sA : Nat → Int32) (z : (Nat → Int32)), m_part_L3 nf parted x4 x3 n y5 sA = some z → ∀ (H : Heap) (locs : List Loc) (ls : Array Slot), va_P D gCl (mW dA a sA past held text parted asShown told pasts runs typed spot from_ reason cause orders order) H → va_S A H0 H locs → lv_has ls 6 [(5, .int y5), (4, .int x4), (0, .ref (a 0)), (3, .int x3)] → (∀ (H : Heap) (locs : List Loc) (ls : Array Slot), va_P D gCl (mW dA a z past held text parted asShown told pasts runs typed spot from_ reason cause orders order) H → va_S A H0 H locs → lv_has ls 6 [(4, .int x4), (0, .ref (a 0)), (3, .int x3)] → W p l e ({ frames := 3, cells := 0, slots := 0, locals := 57 } : Room) s m args below meth c H locs 0 0 Q (F0 m 211 ls [])) → W p l e ({ frames := 3, cells := 0, slots := 0, locals := 57 } : Room) s m args below meth c H locs 0 0 Q (F0 m 173 ls []) := by
  intro n
  induction n with
  | zero => intro y5 sA z h H locs ls hP hS hl K; exact absurd h (by simp [m_part_L3])
  | succ n ih =>
    intro y5 sA z h H locs ls hP hS hl K
    unfold m_part_L3 at h
    refine lv_iload hx hb dX3_part_173 (lv_at hl 0 rfl) ?_
    refine lv_aload_n hx hb dX3_part_175 rfl (lv_at hl 2 rfl) ?_
    refine va_get (ci := 3) (v := .ref (a 5)) (C := RX3) (T := TX3) (N := 16) hx hb hts in_X3 hown hK hP 0 rfl rfl 7 (by decide) (hts _ q1280) (fun _ h9 => h9) rfl dX3_part_176 ?_
    refine lv_iconst (v := 4) hx hb dX3_part_179 (by decide) ?_
    refine m_iald (k := 4) hx hb hK hP 5 0 rfl rfl (by decide) (by decide) dX3_part_180 ?_
    refine lv_icmp_ge (tgt := 211) hx hb dX3_part_181 (by decide) (fun c1 => ?_) (fun c1 => ?_)
    · have h := pi_t c1 h
      cases h
      exact K H locs ls hP hS (lv_sub hl [1, 2, 3] rfl)
    · have h := pi_f c1 h
      refine lv_aload_n hx hb dX3_part_184 rfl (lv_at hl 2 rfl) ?_
      refine lv_iload hx hb dX3_part_185 (lv_at hl 1 rfl) ?_
      refine lv_iconst (v := 5) hx hb dX3_part_187 (by decide) ?_
      refine lv_iload hx hb dX3_part_188 (lv_at hl 0 rfl) ?_
      refine lv_iadd hx hb dX3_part_190 ?_
      refine lv_iload_n hx hb dX3_part_191 rfl (lv_at hl 3 rfl) ?_
      refine lv_isub hx hb dX3_part_192 ?_
      refine lv_aload_n hx hb dX3_part_193 rfl (lv_at hl 2 rfl) ?_
      refine va_get (ci := 3) (v := .ref (a 5)) (C := RX3) (T := TX3) (N := 16) hx hb hts in_X3 hown hK hP 0 rfl rfl 7 (by decide) (hts _ q1280) (fun _ h9 => h9) rfl dX3_part_194 ?_
      refine lv_iconst (v := 5) hx hb dX3_part_197 (by decide) ?_
      refine lv_iload hx hb dX3_part_198 (lv_at hl 0 rfl) ?_
      refine lv_iadd hx hb dX3_part_200 ?_
      obtain ⟨g2, h⟩ := pg_some h
      refine va_iald hx hb hK hP 5 0 rfl rfl g2 dX3_part_201 ?_
      obtain ⟨sA_4, e3, h⟩ := pb_some h
      refine m_callv (va_runV (As := [.int x4, .int (((5 : Int32) + y5) - x3), .int (parted ((5 : Int32) + y5).toNatClampNeg)]) (rest := []) ⟨hx, hb, hml, hown, hts⟩ (met_sets hD e3) (cwV 3 hts (lw_V q1343 q1345 qs28 q77 q1346) rfl rfl rfl hd_sets ⟨Nat.le_of_ble_eq_true rfl, Nat.le_of_ble_eq_true rfl⟩) (m_preV hK hP) rfl rfl hl.1 rfl (lv_room (Nat.le_of_ble_eq_true rfl)) dX3_part_202 ⟨Nat.le_of_ble_eq_true rfl, Nat.le_of_ble_eq_true rfl⟩) hS (fun H locs hP hS => ?_)
      refine lv_iinc (v := (y5 + (1 : Int32))) (lv' := [(5, .int (y5 + (1 : Int32))), (4, .int x4), (0, .ref (a 0)), (3, .int x3)]) hx hb dX3_part_205 hl (k := 0) rfl (by rfl) (by decide) rfl (fun ls hl => ?_)
      refine lv_goto (tgt := 173) hx hb dX3_part_208 (by decide) ?_
      exact ih _ _ _ h H locs ls hP hS (lv_sub hl [0, 1, 2, 3] rfl) K
set_option maxHeartbeats 4000000 in
set_option maxRecDepth 100000 in
theorem met_part {l : Launch} {D : va_G} {dA : ClassId} {a : Nat → Nat} {sA past held text parted asShown told : Nat → Int32} {pasts runs typed spot from_ reason cause orders order : Int32} {A : Nat → Prop} (hD : mDD A dA a) {nf : Nat} {x1 : Int32} {x2 : Int32} {x3 : Int32} {r : Int32} {sA' : Nat → Int32} {past' : Nat → Int32} {parted' : Nat → Int32} {pasts' : Int32} (h : m_part nf sA past parted pasts runs x1 x2 x3 = some (r, sA', past', parted', pasts')) : Met l yX3_part (ws_ yX3_part cX3_part 6 (some .int)) ({ frames := 3, cells := 0, slots := 0, locals := 57 } : Room) (mPc [.ref (a 0), .int x1, .int x2, .int x3] D dA a sA past held text parted asShown told pasts runs typed spot from_ reason cause orders order) (va_Qi (fun r2 (_ : Unit) => r2 = r) (fun _ t => va_P D gCl (mW dA a sA' past' held text parted' asShown told pasts' runs typed spot from_ reason cause orders order) t.heap) A) 0 0 A := by
  refine Met.ofW (cc := cX3_part) (maxL := 6) (ret := (some .int)) (by decide) rfl ?_
  intro p e s m args below meth c s₁ B hml hv
  obtain ⟨rfl, hP, hK⟩ := hv
  have hx := B.exec
  have hb := B.bytes
  have hr := B.returns
  have hts := atoms_spec (ws := ws_ yX3_part cX3_part 6 (some .int)) B.pre
  have hts : ∀ w ∈ lw_all, w.before _ s = true := fun w h => hts w (List.mem_cons_of_mem _ h)
  have hown : s.vm.findClass RX3 = some m.cls := findClass_of_methodNamed B.named
  have hlocks := B.notSynchronized
  have hS : va_S A s.heap s.heap [] := va_S.rf
  have hl := lv_entry ([.ref (a 0), .int x1, .int x2, .int x3]) (n := 6) (Nat.le_of_ble_eq_true rfl)
  rw [lg_entry_eq]
  generalize (lg_sl ([.ref (a 0), .int x1, .int x2, .int x3]) ++ List.replicate (6 - (lg_sl ([.ref (a 0), .int x1, .int x2, .int x3])).length) Slot.unset).toArray = ls at hl ⊢
  have hl : lv_has ls 6 [(0, .ref (a 0)), (1, .int x1), (2, .int x2), (3, .int x3)] := hl
  unfold m_part at h
  refine lv_aload_n hx hb dX3_part_0 rfl (lv_at hl 0 rfl) ?_
  refine lv_iload_n hx hb dX3_part_1 rfl (lv_at hl 1 rfl) ?_
  obtain ⟨b2, e1, h⟩ := pb_some h
  refine m_callR (W.runV (As := [.int x1]) (rest := []) ⟨hx, hb, hml, hown, hts⟩ (met_isTurn e1) (cwV 1 hts (lw_V q1358 q1360 qs30 q77 q1361) rfl rfl rfl hd_isTurn ⟨Nat.le_of_ble_eq_true rfl, Nat.le_of_ble_eq_true rfl⟩) (m_preV hK hP) rfl rfl hl.1 rfl (lv_room (Nat.le_of_ble_eq_true rfl)) dX3_part_2 ⟨Nat.le_of_ble_eq_true rfl, Nat.le_of_ble_eq_true rfl⟩) ?_
  refine lv_if_eq (tgt := 42) hx hb dX3_part_5 (by decide) (fun c3 => ?_) (fun c3 => ?_)
  · have h := pi_t c3 h
    refine lv_ldc hx hb hown (hts _ q1329) dX3_part_42 ?_
    cases h
    exact W.iret hx hb hr (fun t ht hW => ⟨⟨_, (), rfl, rfl, (show va_P D gCl _ t.heap from by rw [ht]; exact hP)⟩, hS.F ht⟩) hS.2.2 dX3_part_44
  · have h := pi_f c3 h
    refine lv_iload_n hx hb dX3_part_8 rfl (lv_at hl 2 rfl) ?_
    refine lv_aload_n hx hb dX3_part_9 rfl (lv_at hl 0 rfl) ?_
    refine lv_iload_n hx hb dX3_part_10 rfl (lv_at hl 1 rfl) ?_
    refine lv_iconst (v := 0) hx hb dX3_part_11 (by decide) ?_
    obtain ⟨r5, e4, h⟩ := pb_some h
    refine m_callR (W.runV (As := [.int x1, .int (0 : Int32)]) (rest := [.int x2]) ⟨hx, hb, hml, hown, hts⟩ (met_of e4) (cwV 2 hts (lw_V q1339 q1341 qs27 q77 q1342) rfl rfl rfl hd_of ⟨Nat.le_of_ble_eq_true rfl, Nat.le_of_ble_eq_true rfl⟩) (m_preV hK hP) rfl rfl hl.1 rfl (lv_room (Nat.le_of_ble_eq_true rfl)) dX3_part_12 ⟨Nat.le_of_ble_eq_true rfl, Nat.le_of_ble_eq_true rfl⟩) ?_
    refine lv_icmp_le (tgt := 42) hx hb dX3_part_15 (by decide) (fun c6 => ?_) (fun c6 => ?_)
    · have h := pi_t c6 h
      refine lv_ldc hx hb hown (hts _ q1329) dX3_part_42 ?_
      cases h
      exact W.iret hx hb hr (fun t ht hW => ⟨⟨_, (), rfl, rfl, (show va_P D gCl _ t.heap from by rw [ht]; exact hP)⟩, hS.F ht⟩) hS.2.2 dX3_part_44
    · have h := pi_f c6 h
      refine lv_iload_n hx hb dX3_part_18 rfl (lv_at hl 2 rfl) ?_
      refine lv_aload_n hx hb dX3_part_19 rfl (lv_at hl 0 rfl) ?_
      refine lv_iload_n hx hb dX3_part_20 rfl (lv_at hl 1 rfl) ?_
      refine lv_iconst (v := 1) hx hb dX3_part_21 (by decide) ?_
      obtain ⟨r8, e7, h⟩ := pb_some h
      refine m_callR (W.runV (As := [.int x1, .int (1 : Int32)]) (rest := [.int x2]) ⟨hx, hb, hml, hown, hts⟩ (met_of e7) (cwV 2 hts (lw_V q1339 q1341 qs27 q77 q1342) rfl rfl rfl hd_of ⟨Nat.le_of_ble_eq_true rfl, Nat.le_of_ble_eq_true rfl⟩) (m_preV hK hP) rfl rfl hl.1 rfl (lv_room (Nat.le_of_ble_eq_true rfl)) dX3_part_22 ⟨Nat.le_of_ble_eq_true rfl, Nat.le_of_ble_eq_true rfl⟩) ?_
      refine lv_icmp_ge (tgt := 42) hx hb dX3_part_25 (by decide) (fun c9 => ?_) (fun c9 => ?_)
      · have h := pi_t c9 h
        refine lv_ldc hx hb hown (hts _ q1329) dX3_part_42 ?_
        cases h
        exact W.iret hx hb hr (fun t ht hW => ⟨⟨_, (), rfl, rfl, (show va_P D gCl _ t.heap from by rw [ht]; exact hP)⟩, hS.F ht⟩) hS.2.2 dX3_part_44
      · have h := pi_f c9 h
        refine lv_iload_n hx hb dX3_part_28 rfl (lv_at hl 3 rfl) ?_
        refine lv_iconst (v := 0) hx hb dX3_part_29 (by decide) ?_
        refine lv_aload_n hx hb dX3_part_30 rfl (lv_at hl 0 rfl) ?_
        refine lv_iload_n hx hb dX3_part_31 rfl (lv_at hl 1 rfl) ?_
        refine lv_iconst (v := 4) hx hb dX3_part_32 (by decide) ?_
        obtain ⟨r11, e10, h⟩ := pb_some h
        refine m_callR (W.runV (As := [.int x1, .int (4 : Int32)]) (rest := [.int (0 : Int32), .int x3]) ⟨hx, hb, hml, hown, hts⟩ (met_of e10) (cwV 2 hts (lw_V q1339 q1341 qs27 q77 q1342) rfl rfl rfl hd_of ⟨Nat.le_of_ble_eq_true rfl, Nat.le_of_ble_eq_true rfl⟩) (m_preV hK hP) rfl rfl hl.1 rfl (lv_room (Nat.le_of_ble_eq_true rfl)) dX3_part_33 ⟨Nat.le_of_ble_eq_true rfl, Nat.le_of_ble_eq_true rfl⟩) ?_
        obtain ⟨b13, e12, h⟩ := pb_some h
        refine m_callR (W.runS (As := [.int x3, .int (0 : Int32), .int r11]) (rest := []) ⟨hx, hb, hml, hown, hts⟩ (met_in e12) (va_cwS 3 hts (lw_S q1326 q1327 q77 q1328) rfl rfl rfl hd_in ⟨Nat.le_of_ble_eq_true rfl, Nat.le_of_ble_eq_true rfl⟩) m_preS rfl rfl hl.1 rfl (lv_room (Nat.le_of_ble_eq_true rfl)) dX3_part_36 ⟨Nat.le_of_ble_eq_true rfl, Nat.le_of_ble_eq_true rfl⟩) ?_
        refine lv_if_ne (tgt := 45) hx hb dX3_part_39 (by decide) (fun c14 => ?_) (fun c14 => ?_)
        · have h := pi_f c14 h
          refine lv_aload_n hx hb dX3_part_45 rfl (lv_at hl 0 rfl) ?_
          refine va_get (ci := 3) (v := .ref (a 1)) (C := RX3) (T := TX3) (N := 16) hx hb hts in_X3 hown hK hP 0 rfl rfl 0 (by decide) (hts _ q1273) (fun _ h9 => h9) rfl dX3_part_46 ?_
          refine lv_sipush (v := 282) hx hb dX3_part_49 (by decide) ?_
          refine m_iald (k := 282) hx hb hK hP 1 0 rfl rfl (by decide) (by decide) dX3_part_52 ?_
          refine lv_bipush (v := 20) hx hb dX3_part_53 (by decide) ?_
          refine lv_icmp_ne (tgt := 61) hx hb dX3_part_55 (by decide) (fun c15 => ?_) (fun c15 => ?_)
          · have h := pi_f c15 h
            refine lv_aload_n hx hb dX3_part_61 rfl (lv_at hl 0 rfl) ?_
            obtain ⟨⟨past_17, pasts_18⟩, e16, h⟩ := pb_some h
            refine m_callv (va_runV (As := []) (rest := []) ⟨hx, hb, hml, hown, hts⟩ (met_changes hD e16) (cwV 0 hts (lw_V q1331 q1333 qs25 q77 q1334) rfl rfl rfl hd_changes ⟨Nat.le_of_ble_eq_true rfl, Nat.le_of_ble_eq_true rfl⟩) (m_preV hK hP) rfl rfl hl.1 rfl (lv_room (Nat.le_of_ble_eq_true rfl)) dX3_part_62 ⟨Nat.le_of_ble_eq_true rfl, Nat.le_of_ble_eq_true rfl⟩) hS (fun H locs hP hS => ?_)
            refine lv_iconst (v := 0) hx hb dX3_part_65 (by decide) ?_
            refine lv_istore (lv' := [(4, .int (0 : Int32)), (0, .ref (a 0)), (1, .int x1), (2, .int x2), (3, .int x3)]) hx hb dX3_part_66 hl (by decide) rfl (fun ls hl => ?_)
            obtain ⟨parted_19, e501, h⟩ := pb_some h
            refine lp_part_1 hx hb hml hown hts hK hD _ _ _ _ _ e501 _ _ ls hP hS (lv_sub hl [0, 1, 2, 3, 4] rfl) (fun H locs ls hP hS hl => ?_)
            refine lv_aload_n hx hb dX3_part_95 rfl (lv_at hl 0 rfl) ?_
            refine lv_iload_n hx hb dX3_part_96 rfl (lv_at hl 1 rfl) ?_
            refine lv_iconst (v := 1) hx hb dX3_part_97 (by decide) ?_
            refine lv_iload_n hx hb dX3_part_98 rfl (lv_at hl 2 rfl) ?_
            obtain ⟨sA_21, e20, h⟩ := pb_some h
            refine m_callv (va_runV (As := [.int x1, .int (1 : Int32), .int x2]) (rest := []) ⟨hx, hb, hml, hown, hts⟩ (met_sets hD e20) (cwV 3 hts (lw_V q1343 q1345 qs28 q77 q1346) rfl rfl rfl hd_sets ⟨Nat.le_of_ble_eq_true rfl, Nat.le_of_ble_eq_true rfl⟩) (m_preV hK hP) rfl rfl hl.1 rfl (lv_room (Nat.le_of_ble_eq_true rfl)) dX3_part_99 ⟨Nat.le_of_ble_eq_true rfl, Nat.le_of_ble_eq_true rfl⟩) hS (fun H locs hP hS => ?_)
            refine lv_aload_n hx hb dX3_part_102 rfl (lv_at hl 0 rfl) ?_
            refine lv_iload_n hx hb dX3_part_103 rfl (lv_at hl 1 rfl) ?_
            refine lv_iconst (v := 4) hx hb dX3_part_104 (by decide) ?_
            refine lv_iload_n hx hb dX3_part_105 rfl (lv_at hl 3 rfl) ?_
            obtain ⟨sA_23, e22, h⟩ := pb_some h
            refine m_callv (va_runV (As := [.int x1, .int (4 : Int32), .int x3]) (rest := []) ⟨hx, hb, hml, hown, hts⟩ (met_sets hD e22) (cwV 3 hts (lw_V q1343 q1345 qs28 q77 q1346) rfl rfl rfl hd_sets ⟨Nat.le_of_ble_eq_true rfl, Nat.le_of_ble_eq_true rfl⟩) (m_preV hK hP) rfl rfl hl.1 rfl (lv_room (Nat.le_of_ble_eq_true rfl)) dX3_part_106 ⟨Nat.le_of_ble_eq_true rfl, Nat.le_of_ble_eq_true rfl⟩) hS (fun H locs hP hS => ?_)
            refine lv_aload_n hx hb dX3_part_109 rfl (lv_at hl 0 rfl) ?_
            refine lv_iload_n hx hb dX3_part_110 rfl (lv_at hl 2 rfl) ?_
            obtain ⟨⟨r25, sA_26⟩, e24, h⟩ := pb_some h
            refine m_calli (va_runV (As := [.int x2]) (rest := []) ⟨hx, hb, hml, hown, hts⟩ (met_opens hD e24) (cwV 1 hts (lw_V q1335 q1337 qs26 q77 q1338) rfl rfl rfl hd_opens ⟨Nat.le_of_ble_eq_true rfl, Nat.le_of_ble_eq_true rfl⟩) (m_preV hK hP) rfl rfl hl.1 rfl (lv_room (Nat.le_of_ble_eq_true rfl)) dX3_part_111 ⟨Nat.le_of_ble_eq_true rfl, Nat.le_of_ble_eq_true rfl⟩) hS (fun H locs hP hS => ?_)
            refine lv_istore (lv' := [(4, .int r25), (0, .ref (a 0)), (1, .int x1), (2, .int x2), (3, .int x3)]) hx hb dX3_part_114 hl (by decide) rfl (fun ls hl => ?_)
            refine lv_iconst (v := 0) hx hb dX3_part_116 (by decide) ?_
            refine lv_istore (lv' := [(5, .int (0 : Int32)), (4, .int r25), (0, .ref (a 0)), (1, .int x1), (2, .int x2), (3, .int x3)]) hx hb dX3_part_117 hl (by decide) rfl (fun ls hl => ?_)
            obtain ⟨sA_27, e502, h⟩ := pb_some h
            refine lp_part_2 hx hb hml hown hts hK hD _ _ _ _ _ e502 _ _ ls hP hS (lv_sub hl [0, 1, 2, 4, 5] rfl) (fun H locs ls hP hS hl => ?_)
            refine lv_aload_n hx hb dX3_part_147 rfl (lv_at hl 1 rfl) ?_
            refine lv_iload hx hb dX3_part_148 (lv_at hl 0 rfl) ?_
            refine lv_iconst (v := 0) hx hb dX3_part_150 (by decide) ?_
            refine lv_iload_n hx hb dX3_part_151 rfl (lv_at hl 2 rfl) ?_
            obtain ⟨sA_29, e28, h⟩ := pb_some h
            refine m_callv (va_runV (As := [.int r25, .int (0 : Int32), .int x2]) (rest := []) ⟨hx, hb, hml, hown, hts⟩ (met_sets hD e28) (cwV 3 hts (lw_V q1343 q1345 qs28 q77 q1346) rfl rfl rfl hd_sets ⟨Nat.le_of_ble_eq_true rfl, Nat.le_of_ble_eq_true rfl⟩) (m_preV hK hP) rfl rfl hl.1 rfl (lv_room (Nat.le_of_ble_eq_true rfl)) dX3_part_152 ⟨Nat.le_of_ble_eq_true rfl, Nat.le_of_ble_eq_true rfl⟩) hS (fun H locs hP hS => ?_)
            refine lv_aload_n hx hb dX3_part_155 rfl (lv_at hl 1 rfl) ?_
            refine lv_iload hx hb dX3_part_156 (lv_at hl 0 rfl) ?_
            refine lv_iconst (v := 4) hx hb dX3_part_158 (by decide) ?_
            refine lv_aload_n hx hb dX3_part_159 rfl (lv_at hl 1 rfl) ?_
            refine va_get (ci := 3) (v := .ref (a 5)) (C := RX3) (T := TX3) (N := 16) hx hb hts in_X3 hown hK hP 0 rfl rfl 7 (by decide) (hts _ q1280) (fun _ h9 => h9) rfl dX3_part_160 ?_
            refine lv_iconst (v := 4) hx hb dX3_part_163 (by decide) ?_
            refine m_iald (k := 4) hx hb hK hP 5 0 rfl rfl (by decide) (by decide) dX3_part_164 ?_
            refine lv_iload_n hx hb dX3_part_165 rfl (lv_at hl 3 rfl) ?_
            refine lv_isub hx hb dX3_part_166 ?_
            obtain ⟨sA_31, e30, h⟩ := pb_some h
            refine m_callv (va_runV (As := [.int r25, .int (4 : Int32), .int ((parted_19 4) - x3)]) (rest := []) ⟨hx, hb, hml, hown, hts⟩ (met_sets hD e30) (cwV 3 hts (lw_V q1343 q1345 qs28 q77 q1346) rfl rfl rfl hd_sets ⟨Nat.le_of_ble_eq_true rfl, Nat.le_of_ble_eq_true rfl⟩) (m_preV hK hP) rfl rfl hl.1 rfl (lv_room (Nat.le_of_ble_eq_true rfl)) dX3_part_167 ⟨Nat.le_of_ble_eq_true rfl, Nat.le_of_ble_eq_true rfl⟩) hS (fun H locs hP hS => ?_)
            refine lv_iload_n hx hb dX3_part_170 rfl (lv_at hl 3 rfl) ?_
            refine lv_istore (lv' := [(5, .int x3), (4, .int r25), (0, .ref (a 0)), (2, .int x2), (3, .int x3)]) hx hb dX3_part_171 hl (by decide) rfl (fun ls hl => ?_)
            obtain ⟨sA_32, e503, h⟩ := pb_some h
            refine lp_part_3 hx hb hml hown hts hK hD _ _ _ _ _ e503 _ _ ls hP hS (lv_sub hl [0, 1, 2, 4] rfl) (fun H locs ls hP hS hl => ?_)
            refine lv_iload hx hb dX3_part_211 (lv_at hl 0 rfl) ?_
            cases h
            exact W.iret hx hb hr (fun t ht hW => ⟨⟨_, (), rfl, rfl, (show va_P D gCl _ t.heap from by rw [ht]; exact hP)⟩, hS.F ht⟩) hS.2.2 dX3_part_213
          · have h := pi_t c15 h
            refine lv_ldc hx hb hown (hts _ q1330) dX3_part_58 ?_
            cases h
            exact W.iret hx hb hr (fun t ht hW => ⟨⟨_, (), rfl, rfl, (show va_P D gCl _ t.heap from by rw [ht]; exact hP)⟩, hS.F ht⟩) hS.2.2 dX3_part_60
        · have h := pi_t c14 h
          refine lv_ldc hx hb hown (hts _ q1329) dX3_part_42 ?_
          cases h
          exact W.iret hx hb hr (fun t ht hW => ⟨⟨_, (), rfl, rfl, (show va_P D gCl _ t.heap from by rw [ht]; exact hP)⟩, hS.F ht⟩) hS.2.2 dX3_part_44
theorem hd_remove : yX3_remove.cls = RX3 ∧ yX3_remove.cls ≠ "java/lang/invoke/MethodHandle" ∧ yX3_remove.cls ≠ "java/lang/invoke/VarHandle" ∧ (parseMethodDescriptor yX3_remove.desc).map (fun d => d.parameters.length) = some 1 := by decide +kernel
set_option maxHeartbeats 4000000 in
set_option maxRecDepth 100000 in
theorem lp_remove_1 {p : Program} {l : Launch} {e : Env} {s : State} {m : MethodId} {args : Array Value} {below : List Frame} {meth : Method} {c : Code} {D : va_G} {dA : ClassId} {a : Nat → Nat} {Q : State → Prop} (hx : p.tables.exec = Jvm.exec) (hb : c.code = cX3_remove) (hml : c.maxLocals = 3) (hown : s.vm.findClass RX3 = some m.cls) (hts : ∀ w ∈ lw_all, w.before args s = true) {H0 : Heap} {A : Nat → Prop} {past : Nat → Int32} {held : Nat → Int32} {text : Nat → Int32} {parted : Nat → Int32} {asShown : Nat → Int32} {told : Nat → Int32} {pasts : Int32} {runs : Int32} {typed : Int32} {spot : Int32} {from_ : Int32} {reason : Int32} {cause : Int32} {orders : Int32} {order : Int32} (hK : va_K D gCl [(dA, .int)] s) (hD : mDD A dA a)  (nf : Nat) : ∀ (n : Nat) (y2 : Int32) (sA : Nat → Int32) (z : (Nat → Int32)), m_remove_L1 nf  n y2 sA = some z → ∀ (H : Heap) (locs : List Loc) (ls : Array Slot), va_P D gCl (mW dA a sA past held text parted asShown told pasts runs typed spot from_ reason cause orders order) H → va_S A H0 H locs → lv_has ls 3 [(2, .int y2), (0, .ref (a 0))] → (∀ (H : Heap) (locs : List Loc) (ls : Array Slot), va_P D gCl (mW dA a z past held text parted asShown told pasts runs typed spot from_ reason cause orders order) H → va_S A H0 H locs → lv_has ls 3 [(0, .ref (a 0))] → W p l e ({ frames := 2, cells := 0, slots := 0, locals := 33 } : Room) s m args below meth c H locs 0 0 Q (F0 m 68 ls [])) → W p l e ({ frames := 2, cells := 0, slots := 0, locals := 33 } : Room) s m args below meth c H locs 0 0 Q (F0 m 32 ls []) := by
  intro n
  induction n with
  | zero => intro y2 sA z h H locs ls hP hS hl K; exact absurd h (by simp [m_remove_L1])
  | succ n ih =>
    intro y2 sA z h H locs ls hP hS hl K
    unfold m_remove_L1 at h
    refine lv_iload_n hx hb dX3_remove_32 rfl (lv_at hl 0 rfl) ?_
    refine lv_bipush (v := 13) hx hb dX3_remove_33 (by decide) ?_
    refine lv_aload_n hx hb dX3_remove_35 rfl (lv_at hl 1 rfl) ?_
    refine va_get (ci := 3) (v := .ref (a 1)) (C := RX3) (T := TX3) (N := 16) hx hb hts in_X3 hown hK hP 0 rfl rfl 0 (by decide) (hts _ q1273) (fun _ h9 => h9) rfl dX3_remove_36 ?_
    refine lv_sipush (v := 282) hx hb dX3_remove_39 (by decide) ?_
    refine m_iald (k := 282) hx hb hK hP 1 0 rfl rfl (by decide) (by decide) dX3_remove_42 ?_
    refine lv_imul hx hb dX3_remove_43 ?_
    refine lv_icmp_ge (tgt := 68) hx hb dX3_remove_44 (by decide) (fun c1 => ?_) (fun c1 => ?_)
    · have h := pi_t c1 h
      cases h
      exact K H locs ls hP hS (lv_sub hl [1] rfl)
    · have h := pi_f c1 h
      refine lv_aload_n hx hb dX3_remove_47 rfl (lv_at hl 1 rfl) ?_
      refine va_get (ci := 3) (v := .ref (a 1)) (C := RX3) (T := TX3) (N := 16) hx hb hts in_X3 hown hK hP 0 rfl rfl 0 (by decide) (hts _ q1273) (fun _ h9 => h9) rfl dX3_remove_48 ?_
      refine lv_iload_n hx hb dX3_remove_51 rfl (lv_at hl 0 rfl) ?_
      refine lv_aload_n hx hb dX3_remove_52 rfl (lv_at hl 1 rfl) ?_
      refine va_get (ci := 3) (v := .ref (a 1)) (C := RX3) (T := TX3) (N := 16) hx hb hts in_X3 hown hK hP 0 rfl rfl 0 (by decide) (hts _ q1273) (fun _ h9 => h9) rfl dX3_remove_53 ?_
      refine lv_iload_n hx hb dX3_remove_56 rfl (lv_at hl 0 rfl) ?_
      refine lv_bipush (v := 13) hx hb dX3_remove_57 (by decide) ?_
      refine lv_iadd hx hb dX3_remove_59 ?_
      obtain ⟨g2, h⟩ := pg_some h
      refine va_iald hx hb hK hP 1 0 rfl rfl g2 dX3_remove_60 ?_
      obtain ⟨g3, h⟩ := pg_some h
      refine va_iast hx hb hK hP (hD _ _ _ _ _ _ _ _ _ _ _ _ _ _ _ _) hS 1 0 rfl rfl g3 dX3_remove_61 (fun H locs hP _ hS => ?_)
      have hP : va_P D gCl (mW dA a (upd sA y2.toNatClampNeg (sA (y2 + (13 : Int32)).toNatClampNeg)) past held text parted asShown told pasts runs typed spot from_ reason cause orders order) H := hP
      refine lv_iinc (v := (y2 + (1 : Int32))) (lv' := [(2, .int (y2 + (1 : Int32))), (0, .ref (a 0))]) hx hb dX3_remove_62 hl (k := 0) rfl (by rfl) (by decide) rfl (fun ls hl => ?_)
      refine lv_goto (tgt := 32) hx hb dX3_remove_65 (by decide) ?_
      exact ih _ _ _ h H locs ls hP hS (lv_sub hl [0, 1] rfl) K
set_option maxHeartbeats 4000000 in
set_option maxRecDepth 100000 in
theorem met_remove {l : Launch} {D : va_G} {dA : ClassId} {a : Nat → Nat} {sA past held text parted asShown told : Nat → Int32} {pasts runs typed spot from_ reason cause orders order : Int32} {A : Nat → Prop} (hD : mDD A dA a) {nf : Nat} {x1 : Int32} {r : Int32} {sA' : Nat → Int32} {past' : Nat → Int32} {pasts' : Int32} (h : m_remove nf sA past pasts runs x1 = some (r, sA', past', pasts')) : Met l yX3_remove (ws_ yX3_remove cX3_remove 3 (some .int)) ({ frames := 2, cells := 0, slots := 0, locals := 33 } : Room) (mPc [.ref (a 0), .int x1] D dA a sA past held text parted asShown told pasts runs typed spot from_ reason cause orders order) (va_Qi (fun r2 (_ : Unit) => r2 = r) (fun _ t => va_P D gCl (mW dA a sA' past' held text parted asShown told pasts' runs typed spot from_ reason cause orders order) t.heap) A) 0 0 A := by
  refine Met.ofW (cc := cX3_remove) (maxL := 3) (ret := (some .int)) (by decide) rfl ?_
  intro p e s m args below meth c s₁ B hml hv
  obtain ⟨rfl, hP, hK⟩ := hv
  have hx := B.exec
  have hb := B.bytes
  have hr := B.returns
  have hts := atoms_spec (ws := ws_ yX3_remove cX3_remove 3 (some .int)) B.pre
  have hts : ∀ w ∈ lw_all, w.before _ s = true := fun w h => hts w (List.mem_cons_of_mem _ h)
  have hown : s.vm.findClass RX3 = some m.cls := findClass_of_methodNamed B.named
  have hlocks := B.notSynchronized
  have hS : va_S A s.heap s.heap [] := va_S.rf
  have hl := lv_entry ([.ref (a 0), .int x1]) (n := 3) (Nat.le_of_ble_eq_true rfl)
  rw [lg_entry_eq]
  generalize (lg_sl ([.ref (a 0), .int x1]) ++ List.replicate (3 - (lg_sl ([.ref (a 0), .int x1])).length) Slot.unset).toArray = ls at hl ⊢
  have hl : lv_has ls 3 [(0, .ref (a 0)), (1, .int x1)] := hl
  unfold m_remove at h
  refine lv_aload_n hx hb dX3_remove_0 rfl (lv_at hl 0 rfl) ?_
  refine lv_iload_n hx hb dX3_remove_1 rfl (lv_at hl 1 rfl) ?_
  obtain ⟨b2, e1, h⟩ := pb_some h
  refine m_callR (W.runV (As := [.int x1]) (rest := []) ⟨hx, hb, hml, hown, hts⟩ (met_isTurn e1) (cwV 1 hts (lw_V q1358 q1360 qs30 q77 q1361) rfl rfl rfl hd_isTurn ⟨Nat.le_of_ble_eq_true rfl, Nat.le_of_ble_eq_true rfl⟩) (m_preV hK hP) rfl rfl hl.1 rfl (lv_room (Nat.le_of_ble_eq_true rfl)) dX3_remove_2 ⟨Nat.le_of_ble_eq_true rfl, Nat.le_of_ble_eq_true rfl⟩) ?_
  refine lv_if_ne (tgt := 11) hx hb dX3_remove_5 (by decide) (fun c3 => ?_) (fun c3 => ?_)
  · have h := pi_f c3 h
    refine lv_aload_n hx hb dX3_remove_11 rfl (lv_at hl 0 rfl) ?_
    obtain ⟨⟨past_5, pasts_6⟩, e4, h⟩ := pb_some h
    refine m_callv (va_runV (As := []) (rest := []) ⟨hx, hb, hml, hown, hts⟩ (met_changes hD e4) (cwV 0 hts (lw_V q1331 q1333 qs25 q77 q1334) rfl rfl rfl hd_changes ⟨Nat.le_of_ble_eq_true rfl, Nat.le_of_ble_eq_true rfl⟩) (m_preV hK hP) rfl rfl hl.1 rfl (lv_room (Nat.le_of_ble_eq_true rfl)) dX3_remove_12 ⟨Nat.le_of_ble_eq_true rfl, Nat.le_of_ble_eq_true rfl⟩) hS (fun H locs hP hS => ?_)
    refine lv_aload_n hx hb dX3_remove_15 rfl (lv_at hl 0 rfl) ?_
    refine va_get (ci := 3) (v := .ref (a 1)) (C := RX3) (T := TX3) (N := 16) hx hb hts in_X3 hown hK hP 0 rfl rfl 0 (by decide) (hts _ q1273) (fun _ h9 => h9) rfl dX3_remove_16 ?_
    refine lv_sipush (v := 282) hx hb dX3_remove_19 (by decide) ?_
    refine lv_dup2_11 hx hb dX3_remove_22 rfl rfl ?_
    refine m_iald (k := 282) hx hb hK hP 1 0 rfl rfl (by decide) (by decide) dX3_remove_23 ?_
    refine lv_iconst (v := 1) hx hb dX3_remove_24 (by decide) ?_
    refine lv_isub hx hb dX3_remove_25 ?_
    refine m_iast (k := 282) hx hb hK hP (hD _ _ _ _ _ _ _ _ _ _ _ _ _ _ _ _) hS 1 0 rfl rfl (by decide) (by decide) dX3_remove_26 (fun H locs hP _ hS => ?_)
    have hP : va_P D gCl (mW dA a (upd sA 282 ((sA 282) - (1 : Int32))) past_5 held text parted asShown told pasts_6 runs typed spot from_ reason cause orders order) H := hP
    refine lv_bipush (v := 13) hx hb dX3_remove_27 (by decide) ?_
    refine lv_iload_n hx hb dX3_remove_29 rfl (lv_at hl 1 rfl) ?_
    refine lv_imul hx hb dX3_remove_30 ?_
    refine lv_istore_n (lv' := [(2, .int ((13 : Int32) * x1)), (0, .ref (a 0)), (1, .int x1)]) hx hb dX3_remove_31 rfl hl (by decide) rfl (fun ls hl => ?_)
    obtain ⟨sA_7, e501, h⟩ := pb_some h
    refine lp_remove_1 hx hb hml hown hts hK hD _ _ _ _ _ e501 _ _ ls hP hS (lv_sub hl [0, 1] rfl) (fun H locs ls hP hS hl => ?_)
    refine lv_aload_n hx hb dX3_remove_68 rfl (lv_at hl 0 rfl) ?_
    refine va_get (ci := 3) (v := .ref (a 1)) (C := RX3) (T := TX3) (N := 16) hx hb hts in_X3 hown hK hP 0 rfl rfl 0 (by decide) (hts _ q1273) (fun _ h9 => h9) rfl dX3_remove_69 ?_
    refine lv_sipush (v := 282) hx hb dX3_remove_72 (by decide) ?_
    refine m_iald (k := 282) hx hb hK hP 1 0 rfl rfl (by decide) (by decide) dX3_remove_75 ?_
    cases h
    exact W.iret hx hb hr (fun t ht hW => ⟨⟨_, (), rfl, rfl, (show va_P D gCl _ t.heap from by rw [ht]; exact hP)⟩, hS.F ht⟩) hS.2.2 dX3_remove_76
  · have h := pi_t c3 h
    refine lv_ldc hx hb hown (hts _ q1329) dX3_remove_8 ?_
    cases h
    exact W.iret hx hb hr (fun t ht hW => ⟨⟨_, (), rfl, rfl, (show va_P D gCl _ t.heap from by rw [ht]; exact hP)⟩, hS.F ht⟩) hS.2.2 dX3_remove_10
theorem hd_isOn : yX3_isOn.cls = RX3 ∧ yX3_isOn.cls ≠ "java/lang/invoke/MethodHandle" ∧ yX3_isOn.cls ≠ "java/lang/invoke/VarHandle" ∧ (parseMethodDescriptor yX3_isOn.desc).map (fun d => d.parameters.length) = some 2 := by decide +kernel
set_option maxHeartbeats 4000000 in
set_option maxRecDepth 100000 in
theorem lp_isOn_1 {p : Program} {l : Launch} {e : Env} {s : State} {m : MethodId} {args : Array Value} {below : List Frame} {meth : Method} {c : Code} {D : va_G} {dA : ClassId} {a : Nat → Nat} {Q : State → Prop} (hx : p.tables.exec = Jvm.exec) (hb : c.code = cX3_isOn) (hml : c.maxLocals = 4) (hown : s.vm.findClass RX3 = some m.cls) (hts : ∀ w ∈ lw_all, w.before args s = true) {H : Heap} {locs : List Loc} {sA : Nat → Int32} {past : Nat → Int32} {held : Nat → Int32} {text : Nat → Int32} {parted : Nat → Int32} {asShown : Nat → Int32} {told : Nat → Int32} {pasts : Int32} {runs : Int32} {typed : Int32} {spot : Int32} {from_ : Int32} {reason : Int32} {cause : Int32} {orders : Int32} {order : Int32} (hK : va_K D gCl [(dA, .int)] s) (hP : va_P D gCl (mW dA a sA past held text parted asShown told pasts runs typed spot from_ reason cause orders order) H) {x1 : Int32} (nf : Nat) : ∀ (n : Nat) (y3 : Int32) (z : Int32), m_isOn_L1 nf sA x1 n y3 = some z → ∀ ls : Array Slot, lv_has ls 4 [(3, .int y3), (0, .ref (a 0)), (1, .int x1)] → (∀ ls : Array Slot, lv_has ls 4 [(3, .int z), (0, .ref (a 0)), (1, .int x1)] → W p l e ({ frames := 1, cells := 0, slots := 0, locals := 12 } : Room) s m args below meth c H locs 0 0 Q (F0 m 34 ls [])) → W p l e ({ frames := 1, cells := 0, slots := 0, locals := 12 } : Room) s m args below meth c H locs 0 0 Q (F0 m 2 ls []) := by
  intro n
  induction n with
  | zero => intro y3 z h ls hl K; exact absurd h (by simp [m_isOn_L1])
  | succ n ih =>
    intro y3 z h ls hl K
    unfold m_isOn_L1 at h
    refine lv_iload_n hx hb dX3_isOn_2 rfl (lv_at hl 0 rfl) ?_
    refine lv_iload_n hx hb dX3_isOn_3 rfl (lv_at hl 2 rfl) ?_
    refine lv_icmp_eq (tgt := 34) hx hb dX3_isOn_4 (by decide) (fun c1 => ?_) (fun c1 => ?_)
    · have h := pi_t c1 h
      cases h
      exact K ls (lv_sub hl [0, 1, 2] rfl)
    · have h := pi_f c1 h
      refine lv_aload_n hx hb dX3_isOn_7 rfl (lv_at hl 1 rfl) ?_
      refine va_get (ci := 3) (v := .ref (a 1)) (C := RX3) (T := TX3) (N := 16) hx hb hts in_X3 hown hK hP 0 rfl rfl 0 (by decide) (hts _ q1273) (fun _ h9 => h9) rfl dX3_isOn_8 ?_
      refine lv_sipush (v := 260) hx hb dX3_isOn_11 (by decide) ?_
      refine lv_iload_n hx hb dX3_isOn_14 rfl (lv_at hl 0 rfl) ?_
      refine lv_iadd hx hb dX3_isOn_15 ?_
      obtain ⟨g2, h⟩ := pg_some h
      refine va_iald hx hb hK hP 1 0 rfl rfl g2 dX3_isOn_16 ?_
      refine lv_if_lt (tgt := 34) hx hb dX3_isOn_17 (by decide) (fun c3 => ?_) (fun c3 => ?_)
      · have h := pi_t c3 h
        cases h
        exact K ls (lv_sub hl [0, 1, 2] rfl)
      · have h := pi_f c3 h
        refine lv_aload_n hx hb dX3_isOn_20 rfl (lv_at hl 1 rfl) ?_
        refine va_get (ci := 3) (v := .ref (a 1)) (C := RX3) (T := TX3) (N := 16) hx hb hts in_X3 hown hK hP 0 rfl rfl 0 (by decide) (hts _ q1273) (fun _ h9 => h9) rfl dX3_isOn_21 ?_
        refine lv_sipush (v := 260) hx hb dX3_isOn_24 (by decide) ?_
        refine lv_iload_n hx hb dX3_isOn_27 rfl (lv_at hl 0 rfl) ?_
        refine lv_iadd hx hb dX3_isOn_28 ?_
        refine va_iald hx hb hK hP 1 0 rfl rfl g2 dX3_isOn_29 ?_
        refine lv_istore_n (lv' := [(3, .int (sA ((260 : Int32) + y3).toNatClampNeg)), (0, .ref (a 0)), (1, .int x1)]) hx hb dX3_isOn_30 rfl hl (by decide) rfl (fun ls hl => ?_)
        refine lv_goto (tgt := 2) hx hb dX3_isOn_31 (by decide) ?_
        exact ih _ _ h ls (lv_sub hl [0, 1, 2] rfl) K
set_option maxHeartbeats 4000000 in
set_option maxRecDepth 100000 in
theorem met_isOn {l : Launch} {D : va_G} {dA : ClassId} {a : Nat → Nat} {sA past held text parted asShown told : Nat → Int32} {pasts runs typed spot from_ reason cause orders order : Int32} {nf : Nat} {x1 : Int32} {x2 : Int32} {b : Bool}  (h : m_isOn nf sA x1 x2 = some b) : Met l yX3_isOn (ws_ yX3_isOn cX3_isOn 4 (some .boolean)) ({ frames := 1, cells := 0, slots := 0, locals := 12 } : Room) (mPc [.ref (a 0), .int x1, .int x2] D dA a sA past held text parted asShown told pasts runs typed spot from_ reason cause orders order) (QcRead (bi b)) 0 0 (fun _ => False) := by
  refine Met.ofW (cc := cX3_isOn) (maxL := 4) (ret := (some .boolean)) (by decide) rfl ?_
  intro p e s m args below meth c s₁ B hml hv
  obtain ⟨rfl, hP, hK⟩ := hv
  have hx := B.exec
  have hb := B.bytes
  have hr := B.returns
  have hts := atoms_spec (ws := ws_ yX3_isOn cX3_isOn 4 (some .boolean)) B.pre
  have hts : ∀ w ∈ lw_all, w.before _ s = true := fun w h => hts w (List.mem_cons_of_mem _ h)
  have hown : s.vm.findClass RX3 = some m.cls := findClass_of_methodNamed B.named
  have hlocks := B.notSynchronized
  have hl := lv_entry ([.ref (a 0), .int x1, .int x2]) (n := 4) (Nat.le_of_ble_eq_true rfl)
  rw [lg_entry_eq]
  generalize (lg_sl ([.ref (a 0), .int x1, .int x2]) ++ List.replicate (4 - (lg_sl ([.ref (a 0), .int x1, .int x2])).length) Slot.unset).toArray = ls at hl ⊢
  have hl : lv_has ls 4 [(0, .ref (a 0)), (1, .int x1), (2, .int x2)] := hl
  unfold m_isOn at h
  refine lv_iload_n hx hb dX3_isOn_0 rfl (lv_at hl 2 rfl) ?_
  refine lv_istore_n (lv' := [(3, .int x2), (0, .ref (a 0)), (1, .int x1), (2, .int x2)]) hx hb dX3_isOn_1 rfl hl (by decide) rfl (fun ls hl => ?_)
  obtain ⟨o1, e501, h⟩ := pb_some h
  refine lp_isOn_1 hx hb hml hown hts hK hP _ _ _ _ e501 ls (lv_sub hl [0, 1, 2] rfl) (fun ls hl => ?_)
  refine lv_iload_n hx hb dX3_isOn_34 rfl (lv_at hl 0 rfl) ?_
  refine lv_iload_n hx hb dX3_isOn_35 rfl (lv_at hl 2 rfl) ?_
  refine lv_icmp_ne (tgt := 43) hx hb dX3_isOn_36 (by decide) (fun c2 => ?_) (fun c2 => ?_)
  · have h := pi_f c2 h
    refine lv_iconst (v := 0) hx hb dX3_isOn_43 (by decide) ?_
    cases h
    exact W.zret hx hb hr rfl (fun t ht hW => ⟨rfl, ht⟩) (fun q hq => absurd hq List.not_mem_nil) dX3_isOn_44
  · have h := pi_t c2 h
    refine lv_iconst (v := 1) hx hb dX3_isOn_39 (by decide) ?_
    refine lv_goto (tgt := 44) hx hb dX3_isOn_40 (by decide) ?_
    cases h
    exact W.zret hx hb hr rfl (fun t ht hW => ⟨rfl, ht⟩) (fun q hq => absurd hq List.not_mem_nil) dX3_isOn_44
theorem hd_mayCorrect : yX3_mayCorrect.cls = RX3 ∧ yX3_mayCorrect.cls ≠ "java/lang/invoke/MethodHandle" ∧ yX3_mayCorrect.cls ≠ "java/lang/invoke/VarHandle" ∧ (parseMethodDescriptor yX3_mayCorrect.desc).map (fun d => d.parameters.length) = some 2 := by decide +kernel
set_option maxHeartbeats 4000000 in
set_option maxRecDepth 100000 in
theorem met_mayCorrect {l : Launch} {D : va_G} {dA : ClassId} {a : Nat → Nat} {sA past held text parted asShown told : Nat → Int32} {pasts runs typed spot from_ reason cause orders order : Int32} {nf : Nat} {x1 : Int32} {x2 : Int32} {r : Int32}  (h : m_mayCorrect nf sA x1 x2 = some r) : Met l yX3_mayCorrect (ws_ yX3_mayCorrect cX3_mayCorrect 3 (some .int)) ({ frames := 3, cells := 0, slots := 0, locals := 54 } : Room) (mPc [.ref (a 0), .int x1, .int x2] D dA a sA past held text parted asShown told pasts runs typed spot from_ reason cause orders order) (QcRead r) 0 0 (fun _ => False) := by
  refine Met.ofW (cc := cX3_mayCorrect) (maxL := 3) (ret := (some .int)) (by decide) rfl ?_
  intro p e s m args below meth c s₁ B hml hv
  obtain ⟨rfl, hP, hK⟩ := hv
  have hx := B.exec
  have hb := B.bytes
  have hr := B.returns
  have hts := atoms_spec (ws := ws_ yX3_mayCorrect cX3_mayCorrect 3 (some .int)) B.pre
  have hts : ∀ w ∈ lw_all, w.before _ s = true := fun w h => hts w (List.mem_cons_of_mem _ h)
  have hown : s.vm.findClass RX3 = some m.cls := findClass_of_methodNamed B.named
  have hlocks := B.notSynchronized
  have hl := lv_entry ([.ref (a 0), .int x1, .int x2]) (n := 3) (Nat.le_of_ble_eq_true rfl)
  rw [lg_entry_eq]
  generalize (lg_sl ([.ref (a 0), .int x1, .int x2]) ++ List.replicate (3 - (lg_sl ([.ref (a 0), .int x1, .int x2])).length) Slot.unset).toArray = ls at hl ⊢
  have hl : lv_has ls 3 [(0, .ref (a 0)), (1, .int x1), (2, .int x2)] := hl
  unfold m_mayCorrect at h
  refine lv_iload_n hx hb dX3_mayCorrect_0 rfl (lv_at hl 1 rfl) ?_
  obtain ⟨b2, e1, h⟩ := pb_some h
  refine m_callR (W.runS (As := [.int x1]) (rest := []) ⟨hx, hb, hml, hown, hts⟩ (met_isTerm e1) (va_cwS 1 hts (lw_S q1362 q1363 q77 q1364) rfl rfl rfl hd_isTerm ⟨Nat.le_of_ble_eq_true rfl, Nat.le_of_ble_eq_true rfl⟩) m_preS rfl rfl hl.1 rfl (lv_room (Nat.le_of_ble_eq_true rfl)) dX3_mayCorrect_1 ⟨Nat.le_of_ble_eq_true rfl, Nat.le_of_ble_eq_true rfl⟩) ?_
  refine lv_if_eq (tgt := 19) hx hb dX3_mayCorrect_4 (by decide) (fun c3 => ?_) (fun c3 => ?_)
  · have h := pi_t c3 h
    refine lv_ldc hx hb hown (hts _ q1329) dX3_mayCorrect_19 ?_
    refine lv_goto (tgt := 39) hx hb dX3_mayCorrect_21 (by decide) ?_
    cases h
    exact W.iret hx hb hr (fun t ht hW => ⟨rfl, ht⟩) (fun q hq => absurd hq List.not_mem_nil) dX3_mayCorrect_39
  · have h := pi_f c3 h
    refine lv_iload_n hx hb dX3_mayCorrect_7 rfl (lv_at hl 2 rfl) ?_
    obtain ⟨b5, e4, h⟩ := pb_some h
    refine m_callR (W.runS (As := [.int x2]) (rest := []) ⟨hx, hb, hml, hown, hts⟩ (met_isTerm e4) (va_cwS 1 hts (lw_S q1362 q1363 q77 q1364) rfl rfl rfl hd_isTerm ⟨Nat.le_of_ble_eq_true rfl, Nat.le_of_ble_eq_true rfl⟩) m_preS rfl rfl hl.1 rfl (lv_room (Nat.le_of_ble_eq_true rfl)) dX3_mayCorrect_8 ⟨Nat.le_of_ble_eq_true rfl, Nat.le_of_ble_eq_true rfl⟩) ?_
    refine lv_if_eq (tgt := 19) hx hb dX3_mayCorrect_11 (by decide) (fun c6 => ?_) (fun c6 => ?_)
    · have h := pi_t c6 h
      refine lv_ldc hx hb hown (hts _ q1329) dX3_mayCorrect_19 ?_
      refine lv_goto (tgt := 39) hx hb dX3_mayCorrect_21 (by decide) ?_
      cases h
      exact W.iret hx hb hr (fun t ht hW => ⟨rfl, ht⟩) (fun q hq => absurd hq List.not_mem_nil) dX3_mayCorrect_39
    · have h := pi_f c6 h
      refine lv_iload_n hx hb dX3_mayCorrect_14 rfl (lv_at hl 1 rfl) ?_
      refine lv_iload_n hx hb dX3_mayCorrect_15 rfl (lv_at hl 2 rfl) ?_
      refine lv_icmp_ne (tgt := 24) hx hb dX3_mayCorrect_16 (by decide) (fun c7 => ?_) (fun c7 => ?_)
      · have h := pi_f c7 h
        refine lv_aload_n hx hb dX3_mayCorrect_24 rfl (lv_at hl 0 rfl) ?_
        refine lv_iload_n hx hb dX3_mayCorrect_25 rfl (lv_at hl 1 rfl) ?_
        refine lv_iload_n hx hb dX3_mayCorrect_26 rfl (lv_at hl 2 rfl) ?_
        obtain ⟨b9, e8, h⟩ := pb_some h
        refine m_callR (W.runV (As := [.int x1, .int x2]) (rest := []) ⟨hx, hb, hml, hown, hts⟩ (met_isOn e8) (cwV 2 hts (lw_V q1381 q1383 qs32 q77 q1384) rfl rfl rfl hd_isOn ⟨Nat.le_of_ble_eq_true rfl, Nat.le_of_ble_eq_true rfl⟩) (m_preV hK hP) rfl rfl hl.1 rfl (lv_room (Nat.le_of_ble_eq_true rfl)) dX3_mayCorrect_27 ⟨Nat.le_of_ble_eq_true rfl, Nat.le_of_ble_eq_true rfl⟩) ?_
        refine lv_if_eq (tgt := 38) hx hb dX3_mayCorrect_30 (by decide) (fun c10 => ?_) (fun c10 => ?_)
        · have h := pi_t c10 h
          refine lv_iconst (v := 0) hx hb dX3_mayCorrect_38 (by decide) ?_
          cases h
          exact W.iret hx hb hr (fun t ht hW => ⟨rfl, ht⟩) (fun q hq => absurd hq List.not_mem_nil) dX3_mayCorrect_39
        · have h := pi_f c10 h
          refine lv_ldc hx hb hown (hts _ q1385) dX3_mayCorrect_33 ?_
          refine lv_goto (tgt := 39) hx hb dX3_mayCorrect_35 (by decide) ?_
          cases h
          exact W.iret hx hb hr (fun t ht hW => ⟨rfl, ht⟩) (fun q hq => absurd hq List.not_mem_nil) dX3_mayCorrect_39
      · have h := pi_t c7 h
        refine lv_ldc hx hb hown (hts _ q1329) dX3_mayCorrect_19 ?_
        refine lv_goto (tgt := 39) hx hb dX3_mayCorrect_21 (by decide) ?_
        cases h
        exact W.iret hx hb hr (fun t ht hW => ⟨rfl, ht⟩) (fun q hq => absurd hq List.not_mem_nil) dX3_mayCorrect_39
theorem hd_shown : yX3_shown.cls = RX3 ∧ yX3_shown.cls ≠ "java/lang/invoke/MethodHandle" ∧ yX3_shown.cls ≠ "java/lang/invoke/VarHandle" ∧ (parseMethodDescriptor yX3_shown.desc).map (fun d => d.parameters.length) = some 1 := by decide +kernel
set_option maxHeartbeats 4000000 in
set_option maxRecDepth 100000 in
theorem lp_shown_1 {p : Program} {l : Launch} {e : Env} {s : State} {m : MethodId} {args : Array Value} {below : List Frame} {meth : Method} {c : Code} {D : va_G} {dA : ClassId} {a : Nat → Nat} {Q : State → Prop} (hx : p.tables.exec = Jvm.exec) (hb : c.code = cX3_shown) (hml : c.maxLocals = 3) (hown : s.vm.findClass RX3 = some m.cls) (hts : ∀ w ∈ lw_all, w.before args s = true) {H : Heap} {locs : List Loc} {sA : Nat → Int32} {past : Nat → Int32} {held : Nat → Int32} {text : Nat → Int32} {parted : Nat → Int32} {asShown : Nat → Int32} {told : Nat → Int32} {pasts : Int32} {runs : Int32} {typed : Int32} {spot : Int32} {from_ : Int32} {reason : Int32} {cause : Int32} {orders : Int32} {order : Int32} (hK : va_K D gCl [(dA, .int)] s) (hP : va_P D gCl (mW dA a sA past held text parted asShown told pasts runs typed spot from_ reason cause orders order) H)  (nf : Nat) : ∀ (n : Nat) (y2 : Int32) (z : Int32), m_shown_L1 nf sA n y2 = some z → ∀ ls : Array Slot, lv_has ls 3 [(2, .int y2), (0, .ref (a 0))] → (∀ ls : Array Slot, lv_has ls 3 [(2, .int z), (0, .ref (a 0))] → W p l e ({ frames := 1, cells := 0, slots := 0, locals := 12 } : Room) s m args below meth c H locs 0 0 Q (F0 m 29 ls [])) → W p l e ({ frames := 1, cells := 0, slots := 0, locals := 12 } : Room) s m args below meth c H locs 0 0 Q (F0 m 2 ls []) := by
  intro n
  induction n with
  | zero => intro y2 z h ls hl K; exact absurd h (by simp [m_shown_L1])
  | succ n ih =>
    intro y2 z h ls hl K
    unfold m_shown_L1 at h
    refine lv_aload_n hx hb dX3_shown_2 rfl (lv_at hl 1 rfl) ?_
    refine va_get (ci := 3) (v := .ref (a 1)) (C := RX3) (T := TX3) (N := 16) hx hb hts in_X3 hown hK hP 0 rfl rfl 0 (by decide) (hts _ q1273) (fun _ h9 => h9) rfl dX3_shown_3 ?_
    refine lv_sipush (v := 260) hx hb dX3_shown_6 (by decide) ?_
    refine lv_iload_n hx hb dX3_shown_9 rfl (lv_at hl 0 rfl) ?_
    refine lv_iadd hx hb dX3_shown_10 ?_
    obtain ⟨g1, h⟩ := pg_some h
    refine va_iald hx hb hK hP 1 0 rfl rfl g1 dX3_shown_11 ?_
    refine lv_if_lt (tgt := 29) hx hb dX3_shown_12 (by decide) (fun c2 => ?_) (fun c2 => ?_)
    · have h := pi_t c2 h
      cases h
      exact K ls (lv_sub hl [0, 1] rfl)
    · have h := pi_f c2 h
      refine lv_aload_n hx hb dX3_shown_15 rfl (lv_at hl 1 rfl) ?_
      refine va_get (ci := 3) (v := .ref (a 1)) (C := RX3) (T := TX3) (N := 16) hx hb hts in_X3 hown hK hP 0 rfl rfl 0 (by decide) (hts _ q1273) (fun _ h9 => h9) rfl dX3_shown_16 ?_
      refine lv_sipush (v := 260) hx hb dX3_shown_19 (by decide) ?_
      refine lv_iload_n hx hb dX3_shown_22 rfl (lv_at hl 0 rfl) ?_
      refine lv_iadd hx hb dX3_shown_23 ?_
      refine va_iald hx hb hK hP 1 0 rfl rfl g1 dX3_shown_24 ?_
      refine lv_istore_n (lv' := [(2, .int (sA ((260 : Int32) + y2).toNatClampNeg)), (0, .ref (a 0))]) hx hb dX3_shown_25 rfl hl (by decide) rfl (fun ls hl => ?_)
      refine lv_goto (tgt := 2) hx hb dX3_shown_26 (by decide) ?_
      exact ih _ _ h ls (lv_sub hl [0, 1] rfl) K
set_option maxHeartbeats 4000000 in
set_option maxRecDepth 100000 in
theorem met_shown {l : Launch} {D : va_G} {dA : ClassId} {a : Nat → Nat} {sA past held text parted asShown told : Nat → Int32} {pasts runs typed spot from_ reason cause orders order : Int32} {nf : Nat} {x1 : Int32} {r : Int32}  (h : m_shown nf sA x1 = some r) : Met l yX3_shown (ws_ yX3_shown cX3_shown 3 (some .int)) ({ frames := 1, cells := 0, slots := 0, locals := 12 } : Room) (mPc [.ref (a 0), .int x1] D dA a sA past held text parted asShown told pasts runs typed spot from_ reason cause orders order) (QcRead r) 0 0 (fun _ => False) := by
  refine Met.ofW (cc := cX3_shown) (maxL := 3) (ret := (some .int)) (by decide) rfl ?_
  intro p e s m args below meth c s₁ B hml hv
  obtain ⟨rfl, hP, hK⟩ := hv
  have hx := B.exec
  have hb := B.bytes
  have hr := B.returns
  have hts := atoms_spec (ws := ws_ yX3_shown cX3_shown 3 (some .int)) B.pre
  have hts : ∀ w ∈ lw_all, w.before _ s = true := fun w h => hts w (List.mem_cons_of_mem _ h)
  have hown : s.vm.findClass RX3 = some m.cls := findClass_of_methodNamed B.named
  have hlocks := B.notSynchronized
  have hl := lv_entry ([.ref (a 0), .int x1]) (n := 3) (Nat.le_of_ble_eq_true rfl)
  rw [lg_entry_eq]
  generalize (lg_sl ([.ref (a 0), .int x1]) ++ List.replicate (3 - (lg_sl ([.ref (a 0), .int x1])).length) Slot.unset).toArray = ls at hl ⊢
  have hl : lv_has ls 3 [(0, .ref (a 0)), (1, .int x1)] := hl
  unfold m_shown at h
  refine lv_iload_n hx hb dX3_shown_0 rfl (lv_at hl 1 rfl) ?_
  refine lv_istore_n (lv' := [(2, .int x1), (0, .ref (a 0)), (1, .int x1)]) hx hb dX3_shown_1 rfl hl (by decide) rfl (fun ls hl => ?_)
  obtain ⟨o1, e501, h⟩ := pb_some h
  refine lp_shown_1 hx hb hml hown hts hK hP _ _ _ _ e501 ls (lv_sub hl [0, 1] rfl) (fun ls hl => ?_)
  refine lv_iload_n hx hb dX3_shown_29 rfl (lv_at hl 0 rfl) ?_
  cases h
  exact W.iret hx hb hr (fun t ht hW => ⟨rfl, ht⟩) (fun q hq => absurd hq List.not_mem_nil) dX3_shown_30
theorem hd_turnsTo : yX3_turnsTo.cls = RX3 ∧ yX3_turnsTo.cls ≠ "java/lang/invoke/MethodHandle" ∧ yX3_turnsTo.cls ≠ "java/lang/invoke/VarHandle" ∧ (parseMethodDescriptor yX3_turnsTo.desc).map (fun d => d.parameters.length) = some 3 := by decide +kernel
set_option maxHeartbeats 4000000 in
set_option maxRecDepth 100000 in
theorem lp_turnsTo_1 {p : Program} {l : Launch} {e : Env} {s : State} {m : MethodId} {args : Array Value} {below : List Frame} {meth : Method} {c : Code} {D : va_G} {dA : ClassId} {a : Nat → Nat} {Q : State → Prop} (hx : p.tables.exec = Jvm.exec) (hb : c.code = cX3_turnsTo) (hml : c.maxLocals = 8) (hown : s.vm.findClass RX3 = some m.cls) (hts : ∀ w ∈ lw_all, w.before args s = true) {H0 : Heap} {A : Nat → Prop} {sA : Nat → Int32} {past : Nat → Int32} {held : Nat → Int32} {text : Nat → Int32} {parted : Nat → Int32} {told : Nat → Int32} {pasts : Int32} {runs : Int32} {typed : Int32} {spot : Int32} {from_ : Int32} {reason : Int32} {cause : Int32} {orders : Int32} {order : Int32} (hK : va_K D gCl [(dA, .int)] s) (hD : mDD A dA a) {x4 : Int32} {x1 : Int32} {x2 : Int32} {x3 : Int32} (nf : Nat) : ∀ (n : Nat) (y5 : Int32) (asShown : Nat → Int32) (z : (Nat → Int32)), m_turnsTo_L1 nf sA n y5 asShown = some z → ∀ (H : Heap) (locs : List Loc) (ls : Array Slot), va_P D gCl (mW dA a sA past held text parted asShown told pasts runs typed spot from_ reason cause orders order) H → va_S A H0 H locs → lv_has ls 8 [(5, .int y5), (4, .int x4), (0, .ref (a 0)), (1, .int x1), (2, .int x2), (3, .int x3)] → (∀ (H : Heap) (locs : List Loc) (ls : Array Slot), va_P D gCl (mW dA a sA past held text parted z told pasts runs typed spot from_ reason cause orders order) H → va_S A H0 H locs → lv_has ls 8 [(4, .int x4), (0, .ref (a 0)), (1, .int x1), (2, .int x2), (3, .int x3)] → W p l e ({ frames := 2, cells := 0, slots := 0, locals := 34 } : Room) s m args below meth c H locs 0 0 Q (F0 m 41 ls [])) → W p l e ({ frames := 2, cells := 0, slots := 0, locals := 34 } : Room) s m args below meth c H locs 0 0 Q (F0 m 15 ls []) := by
  intro n
  induction n with
  | zero => intro y5 asShown z h H locs ls hP hS hl K; exact absurd h (by simp [m_turnsTo_L1])
  | succ n ih =>
    intro y5 asShown z h H locs ls hP hS hl K
    unfold m_turnsTo_L1 at h
    refine lv_iload hx hb dX3_turnsTo_15 (lv_at hl 0 rfl) ?_
    refine lv_bipush (v := 16) hx hb dX3_turnsTo_17 (by decide) ?_
    refine lv_icmp_ge (tgt := 41) hx hb dX3_turnsTo_19 (by decide) (fun c1 => ?_) (fun c1 => ?_)
    · have h := pi_t c1 h
      cases h
      exact K H locs ls hP hS (lv_sub hl [1, 2, 3, 4, 5] rfl)
    · have h := pi_f c1 h
      refine lv_aload_n hx hb dX3_turnsTo_22 rfl (lv_at hl 2 rfl) ?_
      refine va_get (ci := 3) (v := .ref (a 6)) (C := RX3) (T := TX3) (N := 16) hx hb hts in_X3 hown hK hP 0 rfl rfl 8 (by decide) (hts _ q1281) (fun _ h9 => h9) rfl dX3_turnsTo_23 ?_
      refine lv_iload hx hb dX3_turnsTo_26 (lv_at hl 0 rfl) ?_
      refine lv_aload_n hx hb dX3_turnsTo_28 rfl (lv_at hl 2 rfl) ?_
      refine lv_iload hx hb dX3_turnsTo_29 (lv_at hl 0 rfl) ?_
      obtain ⟨r3, e2, h⟩ := pb_some h
      refine m_callR (W.runV (As := [.int y5]) (rest := [.int y5, .ref (a 6)]) ⟨hx, hb, hml, hown, hts⟩ (met_shown e2) (cwV 1 hts (lw_V q1390 q1392 qs34 q77 q1393) rfl rfl rfl hd_shown ⟨Nat.le_of_ble_eq_true rfl, Nat.le_of_ble_eq_true rfl⟩) (m_preV hK hP) rfl rfl hl.1 rfl (lv_room (Nat.le_of_ble_eq_true rfl)) dX3_turnsTo_31 ⟨Nat.le_of_ble_eq_true rfl, Nat.le_of_ble_eq_true rfl⟩) ?_
      obtain ⟨g4, h⟩ := pg_some h
      refine va_iast hx hb hK hP (hD _ _ _ _ _ _ _ _ _ _ _ _ _ _ _ _) hS 6 0 rfl rfl g4 dX3_turnsTo_34 (fun H locs hP _ hS => ?_)
      have hP : va_P D gCl (mW dA a sA past held text parted (upd asShown y5.toNatClampNeg r3) told pasts runs typed spot from_ reason cause orders order) H := hP
      refine lv_iinc (v := (y5 + (1 : Int32))) (lv' := [(5, .int (y5 + (1 : Int32))), (4, .int x4), (0, .ref (a 0)), (1, .int x1), (2, .int x2), (3, .int x3)]) hx hb dX3_turnsTo_35 hl (k := 0) rfl (by rfl) (by decide) rfl (fun ls hl => ?_)
      refine lv_goto (tgt := 15) hx hb dX3_turnsTo_38 (by decide) ?_
      exact ih _ _ _ h H locs ls hP hS (lv_sub hl [0, 1, 2, 3, 4, 5] rfl) K
set_option maxHeartbeats 4000000 in
set_option maxRecDepth 100000 in
theorem lp_turnsTo_3 {p : Program} {l : Launch} {e : Env} {s : State} {m : MethodId} {args : Array Value} {below : List Frame} {meth : Method} {c : Code} {D : va_G} {dA : ClassId} {a : Nat → Nat} {Q : State → Prop} (hx : p.tables.exec = Jvm.exec) (hb : c.code = cX3_turnsTo) (hml : c.maxLocals = 8) (hown : s.vm.findClass RX3 = some m.cls) (hts : ∀ w ∈ lw_all, w.before args s = true) {H : Heap} {locs : List Loc} {sA : Nat → Int32} {past : Nat → Int32} {held : Nat → Int32} {text : Nat → Int32} {parted : Nat → Int32} {asShown : Nat → Int32} {told : Nat → Int32} {pasts : Int32} {runs : Int32} {typed : Int32} {spot : Int32} {from_ : Int32} {reason : Int32} {cause : Int32} {orders : Int32} {order : Int32} (hK : va_K D gCl [(dA, .int)] s) (hP : va_P D gCl (mW dA a sA past held text parted asShown told pasts runs typed spot from_ reason cause orders order) H) {x6 : Int32} {x4 : Int32} {x1 : Int32} {x2 : Int32} {x3 : Int32} (nf : Nat) : ∀ (n : Nat) (y7 : Int32) (y5 : Int32) (z : Int32), m_turnsTo_L3 nf sA asShown x6 n y7 y5 = some z → ∀ ls : Array Slot, lv_has ls 8 [(7, .int y7), (5, .int y5), (6, .int x6), (4, .int x4), (0, .ref (a 0)), (1, .int x1), (2, .int x2), (3, .int x3)] → (∀ ls : Array Slot, lv_has ls 8 [(5, .int z), (6, .int x6), (4, .int x4), (0, .ref (a 0)), (1, .int x1), (2, .int x2), (3, .int x3)] → W p l e ({ frames := 2, cells := 0, slots := 0, locals := 34 } : Room) s m args below meth c H locs 0 0 Q (F0 m 134 ls [])) → W p l e ({ frames := 2, cells := 0, slots := 0, locals := 34 } : Room) s m args below meth c H locs 0 0 Q (F0 m 74 ls []) := by
  intro n
  induction n with
  | zero => intro y7 y5 z h ls hl K; exact absurd h (by simp [m_turnsTo_L3])
  | succ n ih =>
    intro y7 y5 z h ls hl K
    unfold m_turnsTo_L3 at h
    refine lv_iload hx hb dX3_turnsTo_74 (lv_at hl 0 rfl) ?_
    refine lv_aload_n hx hb dX3_turnsTo_76 rfl (lv_at hl 4 rfl) ?_
    refine lv_iload hx hb dX3_turnsTo_77 (lv_at hl 2 rfl) ?_
    refine lv_iconst (v := 4) hx hb dX3_turnsTo_79 (by decide) ?_
    obtain ⟨r2, e1, h⟩ := pb_some h
    refine m_callR (W.runV (As := [.int x6, .int (4 : Int32)]) (rest := [.int y7]) ⟨hx, hb, hml, hown, hts⟩ (met_of e1) (cwV 2 hts (lw_V q1339 q1341 qs27 q77 q1342) rfl rfl rfl hd_of ⟨Nat.le_of_ble_eq_true rfl, Nat.le_of_ble_eq_true rfl⟩) (m_preV hK hP) rfl rfl hl.1 rfl (lv_room (Nat.le_of_ble_eq_true rfl)) dX3_turnsTo_80 ⟨Nat.le_of_ble_eq_true rfl, Nat.le_of_ble_eq_true rfl⟩) ?_
    refine lv_icmp_ge (tgt := 134) hx hb dX3_turnsTo_83 (by decide) (fun c3 => ?_) (fun c3 => ?_)
    · have h := pi_t c3 h
      cases h
      exact K ls (lv_sub hl [1, 2, 3, 4, 5, 6, 7] rfl)
    · have h := pi_f c3 h
      refine lv_iload hx hb dX3_turnsTo_86 (lv_at hl 1 rfl) ?_
      refine lv_aload_n hx hb dX3_turnsTo_88 rfl (lv_at hl 4 rfl) ?_
      refine lv_aload_n hx hb dX3_turnsTo_89 rfl (lv_at hl 4 rfl) ?_
      refine lv_iload hx hb dX3_turnsTo_90 (lv_at hl 2 rfl) ?_
      refine lv_iconst (v := 5) hx hb dX3_turnsTo_92 (by decide) ?_
      refine lv_iload hx hb dX3_turnsTo_93 (lv_at hl 0 rfl) ?_
      refine lv_iadd hx hb dX3_turnsTo_95 ?_
      obtain ⟨r5, e4, h⟩ := pb_some h
      refine m_callR (W.runV (As := [.int x6, .int ((5 : Int32) + y7)]) (rest := [.ref (a 0), .int y5]) ⟨hx, hb, hml, hown, hts⟩ (met_of e4) (cwV 2 hts (lw_V q1339 q1341 qs27 q77 q1342) rfl rfl rfl hd_of ⟨Nat.le_of_ble_eq_true rfl, Nat.le_of_ble_eq_true rfl⟩) (m_preV hK hP) rfl rfl hl.1 rfl (lv_room (Nat.le_of_ble_eq_true rfl)) dX3_turnsTo_96 ⟨Nat.le_of_ble_eq_true rfl, Nat.le_of_ble_eq_true rfl⟩) ?_
      obtain ⟨r7, e6, h⟩ := pb_some h
      refine m_callR (W.runV (As := [.int r5]) (rest := [.int y5]) ⟨hx, hb, hml, hown, hts⟩ (met_shown e6) (cwV 1 hts (lw_V q1390 q1392 qs34 q77 q1393) rfl rfl rfl hd_shown ⟨Nat.le_of_ble_eq_true rfl, Nat.le_of_ble_eq_true rfl⟩) (m_preV hK hP) rfl rfl hl.1 rfl (lv_room (Nat.le_of_ble_eq_true rfl)) dX3_turnsTo_99 ⟨Nat.le_of_ble_eq_true rfl, Nat.le_of_ble_eq_true rfl⟩) ?_
      refine lv_aload_n hx hb dX3_turnsTo_102 rfl (lv_at hl 4 rfl) ?_
      refine va_get (ci := 3) (v := .ref (a 6)) (C := RX3) (T := TX3) (N := 16) hx hb hts in_X3 hown hK hP 0 rfl rfl 8 (by decide) (hts _ q1281) (fun _ h9 => h9) rfl dX3_turnsTo_103 ?_
      refine lv_aload_n hx hb dX3_turnsTo_106 rfl (lv_at hl 4 rfl) ?_
      refine lv_iload hx hb dX3_turnsTo_107 (lv_at hl 2 rfl) ?_
      refine lv_iconst (v := 5) hx hb dX3_turnsTo_109 (by decide) ?_
      refine lv_iload hx hb dX3_turnsTo_110 (lv_at hl 0 rfl) ?_
      refine lv_iadd hx hb dX3_turnsTo_112 ?_
      obtain ⟨r9, e8, h⟩ := pb_some h
      refine m_callR (W.runV (As := [.int x6, .int ((5 : Int32) + y7)]) (rest := [.ref (a 6), .int r7, .int y5]) ⟨hx, hb, hml, hown, hts⟩ (met_of e8) (cwV 2 hts (lw_V q1339 q1341 qs27 q77 q1342) rfl rfl rfl hd_of ⟨Nat.le_of_ble_eq_true rfl, Nat.le_of_ble_eq_true rfl⟩) (m_preV hK hP) rfl rfl hl.1 rfl (lv_room (Nat.le_of_ble_eq_true rfl)) dX3_turnsTo_113 ⟨Nat.le_of_ble_eq_true rfl, Nat.le_of_ble_eq_true rfl⟩) ?_
      obtain ⟨g10, h⟩ := pg_some h
      refine va_iald hx hb hK hP 6 0 rfl rfl g10 dX3_turnsTo_116 ?_
      obtain ⟨j12, hj, h⟩ := pb_some h
      refine W.cut (g' := F0 m 125 ls [.int (bi j12), .int y5]) ?_ (fun K => ?_)
      · refine lv_iadd hx hb dX3_turnsTo_125 ?_
        refine lv_istore (lv' := [(5, .int (y5 + (bi j12))), (7, .int y7), (6, .int x6), (4, .int x4), (0, .ref (a 0)), (1, .int x1), (2, .int x2), (3, .int x3)]) hx hb dX3_turnsTo_126 hl (by decide) rfl (fun ls hl => ?_)
        refine lv_iinc (v := (y7 + (1 : Int32))) (lv' := [(7, .int (y7 + (1 : Int32))), (5, .int (y5 + (bi j12))), (6, .int x6), (4, .int x4), (0, .ref (a 0)), (1, .int x1), (2, .int x2), (3, .int x3)]) hx hb dX3_turnsTo_128 hl (k := 1) rfl (by rfl) (by decide) rfl (fun ls hl => ?_)
        refine lv_goto (tgt := 74) hx hb dX3_turnsTo_131 (by decide) ?_
        exact ih _ _ _ h ls (lv_sub hl [0, 1, 2, 3, 4, 5, 6, 7] rfl) K
      · have h := hj
        refine lv_icmp_eq (tgt := 124) hx hb dX3_turnsTo_117 (by decide) (fun c11 => ?_) (fun c11 => ?_)
        · have h := pi_t c11 h
          refine lv_iconst (v := 0) hx hb dX3_turnsTo_124 (by decide) ?_
          cases h
          exact K
        · have h := pi_f c11 h
          refine lv_iconst (v := 1) hx hb dX3_turnsTo_120 (by decide) ?_
          refine lv_goto (tgt := 125) hx hb dX3_turnsTo_121 (by decide) ?_
          cases h
          exact K
set_option maxHeartbeats 4000000 in
set_option maxRecDepth 100000 in
theorem lp_turnsTo_2 {p : Program} {l : Launch} {e : Env} {s : State} {m : MethodId} {args : Array Value} {below : List Frame} {meth : Method} {c : Code} {D : va_G} {dA : ClassId} {a : Nat → Nat} {Q : State → Prop} (hx : p.tables.exec = Jvm.exec) (hb : c.code = cX3_turnsTo) (hml : c.maxLocals = 8) (hown : s.vm.findClass RX3 = some m.cls) (hts : ∀ w ∈ lw_all, w.before args s = true) {H : Heap} {locs : List Loc} {sA : Nat → Int32} {past : Nat → Int32} {held : Nat → Int32} {text : Nat → Int32} {parted : Nat → Int32} {asShown : Nat → Int32} {told : Nat → Int32} {pasts : Int32} {runs : Int32} {typed : Int32} {spot : Int32} {from_ : Int32} {reason : Int32} {cause : Int32} {orders : Int32} {order : Int32} (hK : va_K D gCl [(dA, .int)] s) (hP : va_P D gCl (mW dA a sA past held text parted asShown told pasts runs typed spot from_ reason cause orders order) H) {x4 : Int32} {x1 : Int32} {x2 : Int32} {x3 : Int32} (nf : Nat) : ∀ (n : Nat) (y6 : Int32) (y5 : Int32) (z : Int32), m_turnsTo_L2 nf sA asShown n y6 y5 = some z → ∀ ls : Array Slot, lv_has ls 8 [(6, .int y6), (5, .int y5), (4, .int x4), (0, .ref (a 0)), (1, .int x1), (2, .int x2), (3, .int x3)] → (∀ ls : Array Slot, lv_has ls 8 [(5, .int z), (4, .int x4), (0, .ref (a 0)), (1, .int x1), (2, .int x2), (3, .int x3)] → W p l e ({ frames := 2, cells := 0, slots := 0, locals := 34 } : Room) s m args below meth c H locs 0 0 Q (F0 m 140 ls [])) → W p l e ({ frames := 2, cells := 0, slots := 0, locals := 34 } : Room) s m args below meth c H locs 0 0 Q (F0 m 58 ls []) := by
  intro n
  induction n with
  | zero => intro y6 y5 z h ls hl K; exact absurd h (by simp [m_turnsTo_L2])
  | succ n ih =>
    intro y6 y5 z h ls hl K
    unfold m_turnsTo_L2 at h
    refine lv_iload hx hb dX3_turnsTo_58 (lv_at hl 0 rfl) ?_
    refine lv_aload_n hx hb dX3_turnsTo_60 rfl (lv_at hl 3 rfl) ?_
    refine va_get (ci := 3) (v := .ref (a 1)) (C := RX3) (T := TX3) (N := 16) hx hb hts in_X3 hown hK hP 0 rfl rfl 0 (by decide) (hts _ q1273) (fun _ h9 => h9) rfl dX3_turnsTo_61 ?_
    refine lv_sipush (v := 282) hx hb dX3_turnsTo_64 (by decide) ?_
    refine m_iald (k := 282) hx hb hK hP 1 0 rfl rfl (by decide) (by decide) dX3_turnsTo_67 ?_
    refine lv_icmp_ge (tgt := 140) hx hb dX3_turnsTo_68 (by decide) (fun c1 => ?_) (fun c1 => ?_)
    · have h := pi_t c1 h
      cases h
      exact K ls (lv_sub hl [1, 2, 3, 4, 5, 6] rfl)
    · have h := pi_f c1 h
      refine lv_iconst (v := 0) hx hb dX3_turnsTo_71 (by decide) ?_
      refine lv_istore (lv' := [(7, .int (0 : Int32)), (6, .int y6), (5, .int y5), (4, .int x4), (0, .ref (a 0)), (1, .int x1), (2, .int x2), (3, .int x3)]) hx hb dX3_turnsTo_72 hl (by decide) rfl (fun ls hl => ?_)
      obtain ⟨o2, e501, h⟩ := pb_some h
      refine lp_turnsTo_3 hx hb hml hown hts hK hP _ _ _ _ _ e501 ls (lv_sub hl [0, 2, 1, 3, 4, 5, 6, 7] rfl) (fun ls hl => ?_)
      refine lv_iinc (v := (y6 + (1 : Int32))) (lv' := [(6, .int (y6 + (1 : Int32))), (5, .int o2), (4, .int x4), (0, .ref (a 0)), (1, .int x1), (2, .int x2), (3, .int x3)]) hx hb dX3_turnsTo_134 hl (k := 1) rfl (by rfl) (by decide) rfl (fun ls hl => ?_)
      refine lv_goto (tgt := 58) hx hb dX3_turnsTo_137 (by decide) ?_
      exact ih _ _ _ h ls (lv_sub hl [0, 1, 2, 3, 4, 5, 6] rfl) K
set_option maxHeartbeats 4000000 in
set_option maxRecDepth 100000 in
theorem met_turnsTo {l : Launch} {D : va_G} {dA : ClassId} {a : Nat → Nat} {sA past held text parted asShown told : Nat → Int32} {pasts runs typed spot from_ reason cause orders order : Int32} {A : Nat → Prop} (hD : mDD A dA a) {nf : Nat} {x1 : Int32} {x2 : Int32} {x3 : Int32} {r : Int32} {sA' : Nat → Int32} {asShown' : Nat → Int32} (h : m_turnsTo nf sA asShown x1 x2 x3 = some (r, sA', asShown')) : Met l yX3_turnsTo (ws_ yX3_turnsTo cX3_turnsTo 8 (some .int)) ({ frames := 2, cells := 0, slots := 0, locals := 34 } : Room) (mPc [.ref (a 0), .int x1, .int x2, .int x3] D dA a sA past held text parted asShown told pasts runs typed spot from_ reason cause orders order) (va_Qi (fun r2 (_ : Unit) => r2 = r) (fun _ t => va_P D gCl (mW dA a sA' past held text parted asShown' told pasts runs typed spot from_ reason cause orders order) t.heap) A) 0 0 A := by
  refine Met.ofW (cc := cX3_turnsTo) (maxL := 8) (ret := (some .int)) (by decide) rfl ?_
  intro p e s m args below meth c s₁ B hml hv
  obtain ⟨rfl, hP, hK⟩ := hv
  have hx := B.exec
  have hb := B.bytes
  have hr := B.returns
  have hts := atoms_spec (ws := ws_ yX3_turnsTo cX3_turnsTo 8 (some .int)) B.pre
  have hts : ∀ w ∈ lw_all, w.before _ s = true := fun w h => hts w (List.mem_cons_of_mem _ h)
  have hown : s.vm.findClass RX3 = some m.cls := findClass_of_methodNamed B.named
  have hlocks := B.notSynchronized
  have hS : va_S A s.heap s.heap [] := va_S.rf
  have hl := lv_entry ([.ref (a 0), .int x1, .int x2, .int x3]) (n := 8) (Nat.le_of_ble_eq_true rfl)
  rw [lg_entry_eq]
  generalize (lg_sl ([.ref (a 0), .int x1, .int x2, .int x3]) ++ List.replicate (8 - (lg_sl ([.ref (a 0), .int x1, .int x2, .int x3])).length) Slot.unset).toArray = ls at hl ⊢
  have hl : lv_has ls 8 [(0, .ref (a 0)), (1, .int x1), (2, .int x2), (3, .int x3)] := hl
  unfold m_turnsTo at h
  refine lv_aload_n hx hb dX3_turnsTo_0 rfl (lv_at hl 0 rfl) ?_
  refine va_get (ci := 3) (v := .ref (a 1)) (C := RX3) (T := TX3) (N := 16) hx hb hts in_X3 hown hK hP 0 rfl rfl 0 (by decide) (hts _ q1273) (fun _ h9 => h9) rfl dX3_turnsTo_1 ?_
  refine lv_sipush (v := 260) hx hb dX3_turnsTo_4 (by decide) ?_
  refine lv_iload_n hx hb dX3_turnsTo_7 rfl (lv_at hl 1 rfl) ?_
  refine lv_iadd hx hb dX3_turnsTo_8 ?_
  obtain ⟨g1, h⟩ := pg_some h
  refine va_iald hx hb hK hP 1 0 rfl rfl g1 dX3_turnsTo_9 ?_
  refine lv_istore (lv' := [(4, .int (sA ((260 : Int32) + x1).toNatClampNeg)), (0, .ref (a 0)), (1, .int x1), (2, .int x2), (3, .int x3)]) hx hb dX3_turnsTo_10 hl (by decide) rfl (fun ls hl => ?_)
  refine lv_iconst (v := 0) hx hb dX3_turnsTo_12 (by decide) ?_
  refine lv_istore (lv' := [(5, .int (0 : Int32)), (4, .int (sA ((260 : Int32) + x1).toNatClampNeg)), (0, .ref (a 0)), (1, .int x1), (2, .int x2), (3, .int x3)]) hx hb dX3_turnsTo_13 hl (by decide) rfl (fun ls hl => ?_)
  obtain ⟨asShown_2, e501, h⟩ := pb_some h
  refine lp_turnsTo_1 hx hb hml hown hts hK hD _ _ _ _ _ e501 _ _ ls hP hS (lv_sub hl [0, 1, 2, 3, 4, 5] rfl) (fun H locs ls hP hS hl => ?_)
  refine lv_aload_n hx hb dX3_turnsTo_41 rfl (lv_at hl 1 rfl) ?_
  refine va_get (ci := 3) (v := .ref (a 1)) (C := RX3) (T := TX3) (N := 16) hx hb hts in_X3 hown hK hP 0 rfl rfl 0 (by decide) (hts _ q1273) (fun _ h9 => h9) rfl dX3_turnsTo_42 ?_
  refine lv_sipush (v := 260) hx hb dX3_turnsTo_45 (by decide) ?_
  refine lv_iload_n hx hb dX3_turnsTo_48 rfl (lv_at hl 2 rfl) ?_
  refine lv_iadd hx hb dX3_turnsTo_49 ?_
  refine lv_iload_n hx hb dX3_turnsTo_50 rfl (lv_at hl 3 rfl) ?_
  refine va_iast hx hb hK hP (hD _ _ _ _ _ _ _ _ _ _ _ _ _ _ _ _) hS 1 0 rfl rfl g1 dX3_turnsTo_51 (fun H locs hP _ hS => ?_)
  have hP : va_P D gCl (mW dA a (upd sA ((260 : Int32) + x1).toNatClampNeg x2) past held text parted asShown_2 told pasts runs typed spot from_ reason cause orders order) H := hP
  refine lv_iconst (v := 0) hx hb dX3_turnsTo_52 (by decide) ?_
  refine lv_istore (lv' := [(5, .int (0 : Int32)), (4, .int (sA ((260 : Int32) + x1).toNatClampNeg)), (0, .ref (a 0)), (1, .int x1), (2, .int x2), (3, .int x3)]) hx hb dX3_turnsTo_53 hl (by decide) rfl (fun ls hl => ?_)
  refine lv_iconst (v := 0) hx hb dX3_turnsTo_55 (by decide) ?_
  refine lv_istore (lv' := [(6, .int (0 : Int32)), (5, .int (0 : Int32)), (4, .int (sA ((260 : Int32) + x1).toNatClampNeg)), (0, .ref (a 0)), (1, .int x1), (2, .int x2), (3, .int x3)]) hx hb dX3_turnsTo_56 hl (by decide) rfl (fun ls hl => ?_)
  obtain ⟨o3, e502, h⟩ := pb_some h
  refine lp_turnsTo_2 hx hb hml hown hts hK hP _ _ _ _ _ e502 ls (lv_sub hl [0, 1, 2, 3, 4, 5, 6] rfl) (fun ls hl => ?_)
  refine lv_aload_n hx hb dX3_turnsTo_140 rfl (lv_at hl 2 rfl) ?_
  refine va_get (ci := 3) (v := .ref (a 1)) (C := RX3) (T := TX3) (N := 16) hx hb hts in_X3 hown hK hP 0 rfl rfl 0 (by decide) (hts _ q1273) (fun _ h9 => h9) rfl dX3_turnsTo_141 ?_
  refine lv_sipush (v := 260) hx hb dX3_turnsTo_144 (by decide) ?_
  refine lv_iload_n hx hb dX3_turnsTo_147 rfl (lv_at hl 3 rfl) ?_
  refine lv_iadd hx hb dX3_turnsTo_148 ?_
  refine lv_iload_n hx hb dX3_turnsTo_149 rfl (lv_at hl 5 rfl) ?_
  obtain ⟨j5, hj, h⟩ := pb_some h
  refine W.cut (g' := F0 m 159 ls [.int j5, .int ((260 : Int32) + x1), .ref (a 1)]) ?_ (fun K => ?_)
  · refine va_iast hx hb hK hP (hD _ _ _ _ _ _ _ _ _ _ _ _ _ _ _ _) hS 1 0 rfl rfl g1 dX3_turnsTo_159 (fun H locs hP _ hS => ?_)
    have hP : va_P D gCl (mW dA a (upd (upd sA ((260 : Int32) + x1).toNatClampNeg x2) ((260 : Int32) + x1).toNatClampNeg j5) past held text parted asShown_2 told pasts runs typed spot from_ reason cause orders order) H := hP
    refine lv_iload hx hb dX3_turnsTo_160 (lv_at hl 0 rfl) ?_
    cases h
    exact W.iret hx hb hr (fun t ht hW => ⟨⟨_, (), rfl, rfl, (show va_P D gCl _ t.heap from by rw [ht]; exact hP)⟩, hS.F ht⟩) hS.2.2 dX3_turnsTo_162
  · have h := hj
    refine lv_if_eq (tgt := 157) hx hb dX3_turnsTo_150 (by decide) (fun c4 => ?_) (fun c4 => ?_)
    · have h := pi_t c4 h
      refine lv_iload hx hb dX3_turnsTo_157 (lv_at hl 1 rfl) ?_
      cases h
      exact K
    · have h := pi_f c4 h
      refine lv_iload_n hx hb dX3_turnsTo_153 rfl (lv_at hl 4 rfl) ?_
      refine lv_goto (tgt := 159) hx hb dX3_turnsTo_154 (by decide) ?_
      cases h
      exact K
theorem hd_correct : yX3_correct.cls = RX3 ∧ yX3_correct.cls ≠ "java/lang/invoke/MethodHandle" ∧ yX3_correct.cls ≠ "java/lang/invoke/VarHandle" ∧ (parseMethodDescriptor yX3_correct.desc).map (fun d => d.parameters.length) = some 2 := by decide +kernel
set_option maxHeartbeats 4000000 in
set_option maxRecDepth 100000 in
theorem met_correct {l : Launch} {D : va_G} {dA : ClassId} {a : Nat → Nat} {sA past held text parted asShown told : Nat → Int32} {pasts runs typed spot from_ reason cause orders order : Int32} {A : Nat → Prop} (hD : mDD A dA a) {nf : Nat} {x1 : Int32} {x2 : Int32} {r : Int32} {sA' : Nat → Int32} {past' : Nat → Int32} {asShown' : Nat → Int32} {pasts' : Int32} (h : m_correct nf sA past asShown pasts runs x1 x2 = some (r, sA', past', asShown', pasts')) : Met l yX3_correct (ws_ yX3_correct cX3_correct 4 (some .int)) ({ frames := 4, cells := 0, slots := 0, locals := 76 } : Room) (mPc [.ref (a 0), .int x1, .int x2] D dA a sA past held text parted asShown told pasts runs typed spot from_ reason cause orders order) (va_Qi (fun r2 (_ : Unit) => r2 = r) (fun _ t => va_P D gCl (mW dA a sA' past' held text parted asShown' told pasts' runs typed spot from_ reason cause orders order) t.heap) A) 0 0 A := by
  refine Met.ofW (cc := cX3_correct) (maxL := 4) (ret := (some .int)) (by decide) rfl ?_
  intro p e s m args below meth c s₁ B hml hv
  obtain ⟨rfl, hP, hK⟩ := hv
  have hx := B.exec
  have hb := B.bytes
  have hr := B.returns
  have hts := atoms_spec (ws := ws_ yX3_correct cX3_correct 4 (some .int)) B.pre
  have hts : ∀ w ∈ lw_all, w.before _ s = true := fun w h => hts w (List.mem_cons_of_mem _ h)
  have hown : s.vm.findClass RX3 = some m.cls := findClass_of_methodNamed B.named
  have hlocks := B.notSynchronized
  have hS : va_S A s.heap s.heap [] := va_S.rf
  have hl := lv_entry ([.ref (a 0), .int x1, .int x2]) (n := 4) (Nat.le_of_ble_eq_true rfl)
  rw [lg_entry_eq]
  generalize (lg_sl ([.ref (a 0), .int x1, .int x2]) ++ List.replicate (4 - (lg_sl ([.ref (a 0), .int x1, .int x2])).length) Slot.unset).toArray = ls at hl ⊢
  have hl : lv_has ls 4 [(0, .ref (a 0)), (1, .int x1), (2, .int x2)] := hl
  unfold m_correct at h
  refine lv_aload_n hx hb dX3_correct_0 rfl (lv_at hl 0 rfl) ?_
  refine lv_iload_n hx hb dX3_correct_1 rfl (lv_at hl 1 rfl) ?_
  refine lv_iload_n hx hb dX3_correct_2 rfl (lv_at hl 2 rfl) ?_
  obtain ⟨r2, e1, h⟩ := pb_some h
  refine m_callR (W.runV (As := [.int x1, .int x2]) (rest := []) ⟨hx, hb, hml, hown, hts⟩ (met_mayCorrect e1) (cwV 2 hts (lw_V q1377 q1379 qs31 q77 q1380) rfl rfl rfl hd_mayCorrect ⟨Nat.le_of_ble_eq_true rfl, Nat.le_of_ble_eq_true rfl⟩) (m_preV hK hP) rfl rfl hl.1 rfl (lv_room (Nat.le_of_ble_eq_true rfl)) dX3_correct_3 ⟨Nat.le_of_ble_eq_true rfl, Nat.le_of_ble_eq_true rfl⟩) ?_
  refine lv_istore_n (lv' := [(3, .int r2), (0, .ref (a 0)), (1, .int x1), (2, .int x2)]) hx hb dX3_correct_6 rfl hl (by decide) rfl (fun ls hl => ?_)
  refine lv_iload_n hx hb dX3_correct_7 rfl (lv_at hl 0 rfl) ?_
  refine lv_if_ge (tgt := 13) hx hb dX3_correct_8 (by decide) (fun c3 => ?_) (fun c3 => ?_)
  · have h := pi_t c3 h
    refine lv_aload_n hx hb dX3_correct_13 rfl (lv_at hl 1 rfl) ?_
    obtain ⟨⟨past_5, pasts_6⟩, e4, h⟩ := pb_some h
    refine m_callv (va_runV (As := []) (rest := []) ⟨hx, hb, hml, hown, hts⟩ (met_changes hD e4) (cwV 0 hts (lw_V q1331 q1333 qs25 q77 q1334) rfl rfl rfl hd_changes ⟨Nat.le_of_ble_eq_true rfl, Nat.le_of_ble_eq_true rfl⟩) (m_preV hK hP) rfl rfl hl.1 rfl (lv_room (Nat.le_of_ble_eq_true rfl)) dX3_correct_14 ⟨Nat.le_of_ble_eq_true rfl, Nat.le_of_ble_eq_true rfl⟩) hS (fun H locs hP hS => ?_)
    refine lv_aload_n hx hb dX3_correct_17 rfl (lv_at hl 1 rfl) ?_
    refine lv_iload_n hx hb dX3_correct_18 rfl (lv_at hl 2 rfl) ?_
    refine lv_iload_n hx hb dX3_correct_19 rfl (lv_at hl 3 rfl) ?_
    refine lv_iconst (v := 1) hx hb dX3_correct_20 (by decide) ?_
    obtain ⟨⟨r8, sA_9, asShown_10⟩, e7, h⟩ := pb_some h
    refine m_calli (va_runV (As := [.int x1, .int x2, .int (1 : Int32)]) (rest := []) ⟨hx, hb, hml, hown, hts⟩ (met_turnsTo hD e7) (cwV 3 hts (lw_V q1386 q1388 qs33 q77 q1389) rfl rfl rfl hd_turnsTo ⟨Nat.le_of_ble_eq_true rfl, Nat.le_of_ble_eq_true rfl⟩) (m_preV hK hP) rfl rfl hl.1 rfl (lv_room (Nat.le_of_ble_eq_true rfl)) dX3_correct_21 ⟨Nat.le_of_ble_eq_true rfl, Nat.le_of_ble_eq_true rfl⟩) hS (fun H locs hP hS => ?_)
    cases h
    exact W.iret hx hb hr (fun t ht hW => ⟨⟨_, (), rfl, rfl, (show va_P D gCl _ t.heap from by rw [ht]; exact hP)⟩, hS.F ht⟩) hS.2.2 dX3_correct_24
  · have h := pi_f c3 h
    refine lv_iload_n hx hb dX3_correct_11 rfl (lv_at hl 0 rfl) ?_
    cases h
    exact W.iret hx hb hr (fun t ht hW => ⟨⟨_, (), rfl, rfl, (show va_P D gCl _ t.heap from by rw [ht]; exact hP)⟩, hS.F ht⟩) hS.2.2 dX3_correct_12
