/-! LectureTurnsModel: walks, 1 (printed by wip/gen/gen_model.py) -/
theorem hd_uncorrect : yX3_uncorrect.cls = RX3 ∧ yX3_uncorrect.cls ≠ "java/lang/invoke/MethodHandle" ∧ yX3_uncorrect.cls ≠ "java/lang/invoke/VarHandle" ∧ (parseMethodDescriptor yX3_uncorrect.desc).map (fun d => d.parameters.length) = some 1 := by decide +kernel
set_option maxHeartbeats 4000000 in
set_option maxRecDepth 100000 in
theorem met_uncorrect {l : Launch} {D : va_G} {dA : ClassId} {a : Nat → Nat} {sA past held text parted asShown told : Nat → Int32} {pasts runs typed spot from_ reason cause orders order : Int32} {A : Nat → Prop} (hD : mDD A dA a) {nf : Nat} {x1 : Int32} {r : Int32} {sA' : Nat → Int32} {past' : Nat → Int32} {asShown' : Nat → Int32} {pasts' : Int32} (h : m_uncorrect nf sA past asShown pasts runs x1 = some (r, sA', past', asShown', pasts')) : Met l yX3_uncorrect (ws_ yX3_uncorrect cX3_uncorrect 2 (some .int)) ({ frames := 3, cells := 0, slots := 0, locals := 61 } : Room) (mPc [.ref (a 0), .int x1] D dA a sA past held text parted asShown told pasts runs typed spot from_ reason cause orders order) (va_Qi (fun r2 (_ : Unit) => r2 = r) (fun _ t => va_P D gCl (mW dA a sA' past' held text parted asShown' told pasts' runs typed spot from_ reason cause orders order) t.heap) A) 0 0 A := by
  refine Met.ofW (cc := cX3_uncorrect) (maxL := 2) (ret := (some .int)) (by decide) rfl ?_
  intro p e s m args below meth c s₁ B hml hv
  obtain ⟨rfl, hP, hK⟩ := hv
  have hx := B.exec
  have hb := B.bytes
  have hr := B.returns
  have hts := atoms_spec (ws := ws_ yX3_uncorrect cX3_uncorrect 2 (some .int)) B.pre
  have hts : ∀ w ∈ lw_all, w.before _ s = true := fun w h => hts w (List.mem_cons_of_mem _ h)
  have hown : s.vm.findClass RX3 = some m.cls := findClass_of_methodNamed B.named
  have hlocks := B.notSynchronized
  have hS : va_S A s.heap s.heap [] := va_S.rf
  have hl := lv_entry ([.ref (a 0), .int x1]) (n := 2) (Nat.le_of_ble_eq_true rfl)
  rw [lg_entry_eq]
  generalize (lg_sl ([.ref (a 0), .int x1]) ++ List.replicate (2 - (lg_sl ([.ref (a 0), .int x1])).length) Slot.unset).toArray = ls at hl ⊢
  have hl : lv_has ls 2 [(0, .ref (a 0)), (1, .int x1)] := hl
  unfold m_uncorrect at h
  refine lv_iload_n hx hb dX3_uncorrect_0 rfl (lv_at hl 1 rfl) ?_
  obtain ⟨b2, e1, h⟩ := pb_some h
  refine m_callR (W.runS (As := [.int x1]) (rest := []) ⟨hx, hb, hml, hown, hts⟩ (met_isTerm e1) (va_cwS 1 hts (lw_S q1362 q1363 q77 q1364) rfl rfl rfl hd_isTerm ⟨Nat.le_of_ble_eq_true rfl, Nat.le_of_ble_eq_true rfl⟩) m_preS rfl rfl hl.1 rfl (lv_room (Nat.le_of_ble_eq_true rfl)) dX3_uncorrect_1 ⟨Nat.le_of_ble_eq_true rfl, Nat.le_of_ble_eq_true rfl⟩) ?_
  refine lv_if_ne (tgt := 10) hx hb dX3_uncorrect_4 (by decide) (fun c3 => ?_) (fun c3 => ?_)
  · have h := pi_f c3 h
    refine lv_aload_n hx hb dX3_uncorrect_10 rfl (lv_at hl 0 rfl) ?_
    refine va_get (ci := 3) (v := .ref (a 1)) (C := RX3) (T := TX3) (N := 16) hx hb hts in_X3 hown hK hP 0 rfl rfl 0 (by decide) (hts _ q1273) (fun _ h9 => h9) rfl dX3_uncorrect_11 ?_
    refine lv_sipush (v := 260) hx hb dX3_uncorrect_14 (by decide) ?_
    refine lv_iload_n hx hb dX3_uncorrect_17 rfl (lv_at hl 1 rfl) ?_
    refine lv_iadd hx hb dX3_uncorrect_18 ?_
    obtain ⟨g4, h⟩ := pg_some h
    refine va_iald hx hb hK hP 1 0 rfl rfl g4 dX3_uncorrect_19 ?_
    refine lv_if_ge (tgt := 26) hx hb dX3_uncorrect_20 (by decide) (fun c5 => ?_) (fun c5 => ?_)
    · have h := pi_t c5 h
      refine lv_aload_n hx hb dX3_uncorrect_26 rfl (lv_at hl 0 rfl) ?_
      obtain ⟨⟨past_7, pasts_8⟩, e6, h⟩ := pb_some h
      refine m_callv (va_runV (As := []) (rest := []) ⟨hx, hb, hml, hown, hts⟩ (met_changes hD e6) (cwV 0 hts (lw_V q1331 q1333 qs25 q77 q1334) rfl rfl rfl hd_changes ⟨Nat.le_of_ble_eq_true rfl, Nat.le_of_ble_eq_true rfl⟩) (m_preV hK hP) rfl rfl hl.1 rfl (lv_room (Nat.le_of_ble_eq_true rfl)) dX3_uncorrect_27 ⟨Nat.le_of_ble_eq_true rfl, Nat.le_of_ble_eq_true rfl⟩) hS (fun H locs hP hS => ?_)
      refine lv_aload_n hx hb dX3_uncorrect_30 rfl (lv_at hl 0 rfl) ?_
      refine lv_iload_n hx hb dX3_uncorrect_31 rfl (lv_at hl 1 rfl) ?_
      refine lv_iconst (v := -1) hx hb dX3_uncorrect_32 (by decide) ?_
      refine lv_iconst (v := 1) hx hb dX3_uncorrect_33 (by decide) ?_
      obtain ⟨⟨r10, sA_11, asShown_12⟩, e9, h⟩ := pb_some h
      refine m_calli (va_runV (As := [.int x1, .int (-1 : Int32), .int (1 : Int32)]) (rest := []) ⟨hx, hb, hml, hown, hts⟩ (met_turnsTo hD e9) (cwV 3 hts (lw_V q1386 q1388 qs33 q77 q1389) rfl rfl rfl hd_turnsTo ⟨Nat.le_of_ble_eq_true rfl, Nat.le_of_ble_eq_true rfl⟩) (m_preV hK hP) rfl rfl hl.1 rfl (lv_room (Nat.le_of_ble_eq_true rfl)) dX3_uncorrect_34 ⟨Nat.le_of_ble_eq_true rfl, Nat.le_of_ble_eq_true rfl⟩) hS (fun H locs hP hS => ?_)
      cases h
      exact W.iret hx hb hr (fun t ht hW => ⟨⟨_, (), rfl, rfl, (show va_P D gCl _ t.heap from by rw [ht]; exact hP)⟩, hS.F ht⟩) hS.2.2 dX3_uncorrect_37
    · have h := pi_f c5 h
      refine lv_ldc hx hb hown (hts _ q1385) dX3_uncorrect_23 ?_
      cases h
      exact W.iret hx hb hr (fun t ht hW => ⟨⟨_, (), rfl, rfl, (show va_P D gCl _ t.heap from by rw [ht]; exact hP)⟩, hS.F ht⟩) hS.2.2 dX3_uncorrect_25
  · have h := pi_t c3 h
    refine lv_ldc hx hb hown (hts _ q1329) dX3_uncorrect_7 ?_
    cases h
    exact W.iret hx hb hr (fun t ht hW => ⟨⟨_, (), rfl, rfl, (show va_P D gCl _ t.heap from by rw [ht]; exact hP)⟩, hS.F ht⟩) hS.2.2 dX3_uncorrect_9
theorem hd_speaker : yX3_speaker.cls = RX3 ∧ yX3_speaker.cls ≠ "java/lang/invoke/MethodHandle" ∧ yX3_speaker.cls ≠ "java/lang/invoke/VarHandle" ∧ (parseMethodDescriptor yX3_speaker.desc).map (fun d => d.parameters.length) = some 1 := by decide +kernel
set_option maxHeartbeats 4000000 in
set_option maxRecDepth 100000 in
theorem lp_speaker_1 {p : Program} {l : Launch} {e : Env} {s : State} {m : MethodId} {args : Array Value} {below : List Frame} {meth : Method} {c : Code} {D : va_G} {dA : ClassId} {a : Nat → Nat} {Q : State → Prop} (hx : p.tables.exec = Jvm.exec) (hb : c.code = cX3_speaker) (hml : c.maxLocals = 3) (hown : s.vm.findClass RX3 = some m.cls) (hts : ∀ w ∈ lw_all, w.before args s = true) {H : Heap} {locs : List Loc} {sA : Nat → Int32} {past : Nat → Int32} {held : Nat → Int32} {text : Nat → Int32} {parted : Nat → Int32} {asShown : Nat → Int32} {told : Nat → Int32} {pasts : Int32} {runs : Int32} {typed : Int32} {spot : Int32} {from_ : Int32} {reason : Int32} {cause : Int32} {orders : Int32} {order : Int32} (hK : va_K D gCl [(dA, .int)] s) (hP : va_P D gCl (mW dA a sA past held text parted asShown told pasts runs typed spot from_ reason cause orders order) H) {x1 : Int32} (nf : Nat) : ∀ (n : Nat) (y2 : Int32) (z : Int32), m_speaker_L1 nf sA n y2 = some z → ∀ ls : Array Slot, lv_has ls 3 [(2, .int y2), (0, .ref (a 0)), (1, .int x1)] → (∀ ls : Array Slot, lv_has ls 3 [(2, .int z), (0, .ref (a 0)), (1, .int x1)] → W p l e ({ frames := 2, cells := 0, slots := 0, locals := 34 } : Room) s m args below meth c H locs 0 0 Q (F0 m 42 ls [])) → W p l e ({ frames := 2, cells := 0, slots := 0, locals := 34 } : Room) s m args below meth c H locs 0 0 Q (F0 m 17 ls []) := by
  intro n
  induction n with
  | zero => intro y2 z h ls hl K; exact absurd h (by simp [m_speaker_L1])
  | succ n ih =>
    intro y2 z h ls hl K
    unfold m_speaker_L1 at h
    refine lv_iload_n hx hb dX3_speaker_17 rfl (lv_at hl 0 rfl) ?_
    refine lv_bipush (v := 6) hx hb dX3_speaker_18 (by decide) ?_
    refine lv_icmp_ge (tgt := 42) hx hb dX3_speaker_20 (by decide) (fun c1 => ?_) (fun c1 => ?_)
    · have h := pi_t c1 h
      cases h
      exact K ls (lv_sub hl [0, 1, 2] rfl)
    · have h := pi_f c1 h
      refine lv_aload_n hx hb dX3_speaker_23 rfl (lv_at hl 1 rfl) ?_
      refine va_get (ci := 3) (v := .ref (a 1)) (C := RX3) (T := TX3) (N := 16) hx hb hts in_X3 hown hK hP 0 rfl rfl 0 (by decide) (hts _ q1273) (fun _ h9 => h9) rfl dX3_speaker_24 ?_
      refine lv_sipush (v := 276) hx hb dX3_speaker_27 (by decide) ?_
      refine lv_iload_n hx hb dX3_speaker_30 rfl (lv_at hl 0 rfl) ?_
      refine lv_iadd hx hb dX3_speaker_31 ?_
      obtain ⟨g2, h⟩ := pg_some h
      refine va_iald hx hb hK hP 1 0 rfl rfl g2 dX3_speaker_32 ?_
      refine lv_if_le (tgt := 42) hx hb dX3_speaker_33 (by decide) (fun c3 => ?_) (fun c3 => ?_)
      · have h := pi_t c3 h
        cases h
        exact K ls (lv_sub hl [0, 1, 2] rfl)
      · have h := pi_f c3 h
        refine lv_iinc (v := (y2 + (1 : Int32))) (lv' := [(2, .int (y2 + (1 : Int32))), (0, .ref (a 0)), (1, .int x1)]) hx hb dX3_speaker_36 hl (k := 0) rfl (by rfl) (by decide) rfl (fun ls hl => ?_)
        refine lv_goto (tgt := 17) hx hb dX3_speaker_39 (by decide) ?_
        exact ih _ _ h ls (lv_sub hl [0, 1, 2] rfl) K
set_option maxHeartbeats 4000000 in
set_option maxRecDepth 100000 in
theorem met_speaker {l : Launch} {D : va_G} {dA : ClassId} {a : Nat → Nat} {sA past held text parted asShown told : Nat → Int32} {pasts runs typed spot from_ reason cause orders order : Int32} {A : Nat → Prop} (hD : mDD A dA a) {nf : Nat} {x1 : Int32} {r : Int32} {sA' : Nat → Int32} {past' : Nat → Int32} {pasts' : Int32} (h : m_speaker nf sA past pasts runs x1 = some (r, sA', past', pasts')) : Met l yX3_speaker (ws_ yX3_speaker cX3_speaker 3 (some .int)) ({ frames := 2, cells := 0, slots := 0, locals := 34 } : Room) (mPc [.ref (a 0), .int x1] D dA a sA past held text parted asShown told pasts runs typed spot from_ reason cause orders order) (va_Qi (fun r2 (_ : Unit) => r2 = r) (fun _ t => va_P D gCl (mW dA a sA' past' held text parted asShown told pasts' runs typed spot from_ reason cause orders order) t.heap) A) 0 0 A := by
  refine Met.ofW (cc := cX3_speaker) (maxL := 3) (ret := (some .int)) (by decide) rfl ?_
  intro p e s m args below meth c s₁ B hml hv
  obtain ⟨rfl, hP, hK⟩ := hv
  have hx := B.exec
  have hb := B.bytes
  have hr := B.returns
  have hts := atoms_spec (ws := ws_ yX3_speaker cX3_speaker 3 (some .int)) B.pre
  have hts : ∀ w ∈ lw_all, w.before _ s = true := fun w h => hts w (List.mem_cons_of_mem _ h)
  have hown : s.vm.findClass RX3 = some m.cls := findClass_of_methodNamed B.named
  have hlocks := B.notSynchronized
  have hS : va_S A s.heap s.heap [] := va_S.rf
  have hl := lv_entry ([.ref (a 0), .int x1]) (n := 3) (Nat.le_of_ble_eq_true rfl)
  rw [lg_entry_eq]
  generalize (lg_sl ([.ref (a 0), .int x1]) ++ List.replicate (3 - (lg_sl ([.ref (a 0), .int x1])).length) Slot.unset).toArray = ls at hl ⊢
  have hl : lv_has ls 3 [(0, .ref (a 0)), (1, .int x1)] := hl
  unfold m_speaker at h
  refine lv_iload_n hx hb dX3_speaker_0 rfl (lv_at hl 1 rfl) ?_
  refine lv_bipush (v := 50) hx hb dX3_speaker_1 (by decide) ?_
  refine lv_sipush (v := 500) hx hb dX3_speaker_3 (by decide) ?_
  obtain ⟨b2, e1, h⟩ := pb_some h
  refine m_callR (W.runS (As := [.int x1, .int (50 : Int32), .int (500 : Int32)]) (rest := []) ⟨hx, hb, hml, hown, hts⟩ (met_in e1) (va_cwS 3 hts (lw_S q1326 q1327 q77 q1328) rfl rfl rfl hd_in ⟨Nat.le_of_ble_eq_true rfl, Nat.le_of_ble_eq_true rfl⟩) m_preS rfl rfl hl.1 rfl (lv_room (Nat.le_of_ble_eq_true rfl)) dX3_speaker_6 ⟨Nat.le_of_ble_eq_true rfl, Nat.le_of_ble_eq_true rfl⟩) ?_
  refine lv_if_ne (tgt := 15) hx hb dX3_speaker_9 (by decide) (fun c3 => ?_) (fun c3 => ?_)
  · have h := pi_f c3 h
    refine lv_iconst (v := 0) hx hb dX3_speaker_15 (by decide) ?_
    refine lv_istore_n (lv' := [(2, .int (0 : Int32)), (0, .ref (a 0)), (1, .int x1)]) hx hb dX3_speaker_16 rfl hl (by decide) rfl (fun ls hl => ?_)
    obtain ⟨o4, e501, h⟩ := pb_some h
    refine lp_speaker_1 hx hb hml hown hts hK hP _ _ _ _ e501 ls (lv_sub hl [0, 1, 2] rfl) (fun ls hl => ?_)
    refine lv_iload_n hx hb dX3_speaker_42 rfl (lv_at hl 0 rfl) ?_
    refine lv_bipush (v := 6) hx hb dX3_speaker_43 (by decide) ?_
    refine lv_icmp_ne (tgt := 51) hx hb dX3_speaker_45 (by decide) (fun c5 => ?_) (fun c5 => ?_)
    · have h := pi_f c5 h
      refine lv_aload_n hx hb dX3_speaker_51 rfl (lv_at hl 1 rfl) ?_
      obtain ⟨⟨past_7, pasts_8⟩, e6, h⟩ := pb_some h
      refine m_callv (va_runV (As := []) (rest := []) ⟨hx, hb, hml, hown, hts⟩ (met_changes hD e6) (cwV 0 hts (lw_V q1331 q1333 qs25 q77 q1334) rfl rfl rfl hd_changes ⟨Nat.le_of_ble_eq_true rfl, Nat.le_of_ble_eq_true rfl⟩) (m_preV hK hP) rfl rfl hl.1 rfl (lv_room (Nat.le_of_ble_eq_true rfl)) dX3_speaker_52 ⟨Nat.le_of_ble_eq_true rfl, Nat.le_of_ble_eq_true rfl⟩) hS (fun H locs hP hS => ?_)
      refine lv_aload_n hx hb dX3_speaker_55 rfl (lv_at hl 1 rfl) ?_
      refine va_get (ci := 3) (v := .ref (a 1)) (C := RX3) (T := TX3) (N := 16) hx hb hts in_X3 hown hK hP 0 rfl rfl 0 (by decide) (hts _ q1273) (fun _ h9 => h9) rfl dX3_speaker_56 ?_
      refine lv_sipush (v := 276) hx hb dX3_speaker_59 (by decide) ?_
      refine lv_iload_n hx hb dX3_speaker_62 rfl (lv_at hl 0 rfl) ?_
      refine lv_iadd hx hb dX3_speaker_63 ?_
      refine lv_iload_n hx hb dX3_speaker_64 rfl (lv_at hl 2 rfl) ?_
      obtain ⟨g9, h⟩ := pg_some h
      refine va_iast hx hb hK hP (hD _ _ _ _ _ _ _ _ _ _ _ _ _ _ _ _) hS 1 0 rfl rfl g9 dX3_speaker_65 (fun H locs hP _ hS => ?_)
      have hP : va_P D gCl (mW dA a (upd sA ((276 : Int32) + o4).toNatClampNeg x1) past_7 held text parted asShown told pasts_8 runs typed spot from_ reason cause orders order) H := hP
      refine lv_iload_n hx hb dX3_speaker_66 rfl (lv_at hl 0 rfl) ?_
      cases h
      exact W.iret hx hb hr (fun t ht hW => ⟨⟨_, (), rfl, rfl, (show va_P D gCl _ t.heap from by rw [ht]; exact hP)⟩, hS.F ht⟩) hS.2.2 dX3_speaker_67
    · have h := pi_t c5 h
      refine lv_ldc hx hb hown (hts _ q1330) dX3_speaker_48 ?_
      cases h
      exact W.iret hx hb hr (fun t ht hW => ⟨⟨_, (), rfl, rfl, (show va_P D gCl _ t.heap from by rw [ht]; exact hP)⟩, hS.F ht⟩) hS.2.2 dX3_speaker_50
  · have h := pi_t c3 h
    refine lv_ldc hx hb hown (hts _ q1329) dX3_speaker_12 ?_
    cases h
    exact W.iret hx hb hr (fun t ht hW => ⟨⟨_, (), rfl, rfl, (show va_P D gCl _ t.heap from by rw [ht]; exact hP)⟩, hS.F ht⟩) hS.2.2 dX3_speaker_14
theorem hd_isVoice : yX3_isVoice.cls = RX3 ∧ yX3_isVoice.cls ≠ "java/lang/invoke/MethodHandle" ∧ yX3_isVoice.cls ≠ "java/lang/invoke/VarHandle" ∧ (parseMethodDescriptor yX3_isVoice.desc).map (fun d => d.parameters.length) = some 1 := by decide +kernel
set_option maxHeartbeats 4000000 in
set_option maxRecDepth 100000 in
theorem met_isVoice {l : Launch} {D : va_G} {dA : ClassId} {a : Nat → Nat} {sA past held text parted asShown told : Nat → Int32} {pasts runs typed spot from_ reason cause orders order : Int32} {x1 : Int32} {b : Bool}  (h : m_isVoice sA x1 = some b) : Met l yX3_isVoice (ws_ yX3_isVoice cX3_isVoice 2 (some .boolean)) ({ frames := 2, cells := 0, slots := 0, locals := 34 } : Room) (mPc [.ref (a 0), .int x1] D dA a sA past held text parted asShown told pasts runs typed spot from_ reason cause orders order) (QcRead (bi b)) 0 0 (fun _ => False) := by
  refine Met.ofW (cc := cX3_isVoice) (maxL := 2) (ret := (some .boolean)) (by decide) rfl ?_
  intro p e s m args below meth c s₁ B hml hv
  obtain ⟨rfl, hP, hK⟩ := hv
  have hx := B.exec
  have hb := B.bytes
  have hr := B.returns
  have hts := atoms_spec (ws := ws_ yX3_isVoice cX3_isVoice 2 (some .boolean)) B.pre
  have hts : ∀ w ∈ lw_all, w.before _ s = true := fun w h => hts w (List.mem_cons_of_mem _ h)
  have hown : s.vm.findClass RX3 = some m.cls := findClass_of_methodNamed B.named
  have hlocks := B.notSynchronized
  have hl := lv_entry ([.ref (a 0), .int x1]) (n := 2) (Nat.le_of_ble_eq_true rfl)
  rw [lg_entry_eq]
  generalize (lg_sl ([.ref (a 0), .int x1]) ++ List.replicate (2 - (lg_sl ([.ref (a 0), .int x1])).length) Slot.unset).toArray = ls at hl ⊢
  have hl : lv_has ls 2 [(0, .ref (a 0)), (1, .int x1)] := hl
  unfold m_isVoice at h
  refine lv_iload_n hx hb dX3_isVoice_0 rfl (lv_at hl 1 rfl) ?_
  refine lv_iconst (v := 0) hx hb dX3_isVoice_1 (by decide) ?_
  refine lv_iconst (v := 5) hx hb dX3_isVoice_2 (by decide) ?_
  obtain ⟨b2, e1, h⟩ := pb_some h
  refine m_callR (W.runS (As := [.int x1, .int (0 : Int32), .int (5 : Int32)]) (rest := []) ⟨hx, hb, hml, hown, hts⟩ (met_in e1) (va_cwS 3 hts (lw_S q1326 q1327 q77 q1328) rfl rfl rfl hd_in ⟨Nat.le_of_ble_eq_true rfl, Nat.le_of_ble_eq_true rfl⟩) m_preS rfl rfl hl.1 rfl (lv_room (Nat.le_of_ble_eq_true rfl)) dX3_isVoice_3 ⟨Nat.le_of_ble_eq_true rfl, Nat.le_of_ble_eq_true rfl⟩) ?_
  refine lv_if_eq (tgt := 26) hx hb dX3_isVoice_6 (by decide) (fun c3 => ?_) (fun c3 => ?_)
  · have h := pi_t c3 h
    refine lv_iconst (v := 0) hx hb dX3_isVoice_26 (by decide) ?_
    cases h
    exact W.zret hx hb hr rfl (fun t ht hW => ⟨rfl, ht⟩) (fun q hq => absurd hq List.not_mem_nil) dX3_isVoice_27
  · have h := pi_f c3 h
    refine lv_aload_n hx hb dX3_isVoice_9 rfl (lv_at hl 0 rfl) ?_
    refine va_get (ci := 3) (v := .ref (a 1)) (C := RX3) (T := TX3) (N := 16) hx hb hts in_X3 hown hK hP 0 rfl rfl 0 (by decide) (hts _ q1273) (fun _ h9 => h9) rfl dX3_isVoice_10 ?_
    refine lv_sipush (v := 276) hx hb dX3_isVoice_13 (by decide) ?_
    refine lv_iload_n hx hb dX3_isVoice_16 rfl (lv_at hl 1 rfl) ?_
    refine lv_iadd hx hb dX3_isVoice_17 ?_
    obtain ⟨g4, h⟩ := pg_some h
    refine va_iald hx hb hK hP 1 0 rfl rfl g4 dX3_isVoice_18 ?_
    refine lv_if_le (tgt := 26) hx hb dX3_isVoice_19 (by decide) (fun c5 => ?_) (fun c5 => ?_)
    · have h := pi_t c5 h
      refine lv_iconst (v := 0) hx hb dX3_isVoice_26 (by decide) ?_
      cases h
      exact W.zret hx hb hr rfl (fun t ht hW => ⟨rfl, ht⟩) (fun q hq => absurd hq List.not_mem_nil) dX3_isVoice_27
    · have h := pi_f c5 h
      refine lv_iconst (v := 1) hx hb dX3_isVoice_22 (by decide) ?_
      refine lv_goto (tgt := 27) hx hb dX3_isVoice_23 (by decide) ?_
      cases h
      exact W.zret hx hb hr rfl (fun t ht hW => ⟨rfl, ht⟩) (fun q hq => absurd hq List.not_mem_nil) dX3_isVoice_27
theorem hd_turnsOf : yX3_turnsOf.cls = RX3 ∧ yX3_turnsOf.cls ≠ "java/lang/invoke/MethodHandle" ∧ yX3_turnsOf.cls ≠ "java/lang/invoke/VarHandle" ∧ (parseMethodDescriptor yX3_turnsOf.desc).map (fun d => d.parameters.length) = some 1 := by decide +kernel
set_option maxHeartbeats 4000000 in
set_option maxRecDepth 100000 in
theorem lp_turnsOf_1 {p : Program} {l : Launch} {e : Env} {s : State} {m : MethodId} {args : Array Value} {below : List Frame} {meth : Method} {c : Code} {D : va_G} {dA : ClassId} {a : Nat → Nat} {Q : State → Prop} (hx : p.tables.exec = Jvm.exec) (hb : c.code = cX3_turnsOf) (hml : c.maxLocals = 4) (hown : s.vm.findClass RX3 = some m.cls) (hts : ∀ w ∈ lw_all, w.before args s = true) {H : Heap} {locs : List Loc} {sA : Nat → Int32} {past : Nat → Int32} {held : Nat → Int32} {text : Nat → Int32} {parted : Nat → Int32} {asShown : Nat → Int32} {told : Nat → Int32} {pasts : Int32} {runs : Int32} {typed : Int32} {spot : Int32} {from_ : Int32} {reason : Int32} {cause : Int32} {orders : Int32} {order : Int32} (hK : va_K D gCl [(dA, .int)] s) (hP : va_P D gCl (mW dA a sA past held text parted asShown told pasts runs typed spot from_ reason cause orders order) H) {x1 : Int32} (nf : Nat) : ∀ (n : Nat) (y3 : Int32) (y2 : Int32) (z : Int32), m_turnsOf_L1 nf sA x1 n y3 y2 = some z → ∀ ls : Array Slot, lv_has ls 4 [(3, .int y3), (2, .int y2), (0, .ref (a 0)), (1, .int x1)] → (∀ ls : Array Slot, lv_has ls 4 [(2, .int z), (0, .ref (a 0)), (1, .int x1)] → W p l e ({ frames := 2, cells := 0, slots := 0, locals := 34 } : Room) s m args below meth c H locs 0 0 Q (F0 m 40 ls [])) → W p l e ({ frames := 2, cells := 0, slots := 0, locals := 34 } : Room) s m args below meth c H locs 0 0 Q (F0 m 4 ls []) := by
  intro n
  induction n with
  | zero => intro y3 y2 z h ls hl K; exact absurd h (by simp [m_turnsOf_L1])
  | succ n ih =>
    intro y3 y2 z h ls hl K
    unfold m_turnsOf_L1 at h
    refine lv_iload_n hx hb dX3_turnsOf_4 rfl (lv_at hl 0 rfl) ?_
    refine lv_aload_n hx hb dX3_turnsOf_5 rfl (lv_at hl 2 rfl) ?_
    refine va_get (ci := 3) (v := .ref (a 1)) (C := RX3) (T := TX3) (N := 16) hx hb hts in_X3 hown hK hP 0 rfl rfl 0 (by decide) (hts _ q1273) (fun _ h9 => h9) rfl dX3_turnsOf_6 ?_
    refine lv_sipush (v := 282) hx hb dX3_turnsOf_9 (by decide) ?_
    refine m_iald (k := 282) hx hb hK hP 1 0 rfl rfl (by decide) (by decide) dX3_turnsOf_12 ?_
    refine lv_icmp_ge (tgt := 40) hx hb dX3_turnsOf_13 (by decide) (fun c1 => ?_) (fun c1 => ?_)
    · have h := pi_t c1 h
      cases h
      exact K ls (lv_sub hl [1, 2, 3] rfl)
    · have h := pi_f c1 h
      refine lv_iload_n hx hb dX3_turnsOf_16 rfl (lv_at hl 1 rfl) ?_
      refine lv_aload_n hx hb dX3_turnsOf_17 rfl (lv_at hl 2 rfl) ?_
      refine lv_iload_n hx hb dX3_turnsOf_18 rfl (lv_at hl 0 rfl) ?_
      refine lv_iconst (v := 3) hx hb dX3_turnsOf_19 (by decide) ?_
      obtain ⟨r3, e2, h⟩ := pb_some h
      refine m_callR (W.runV (As := [.int y3, .int (3 : Int32)]) (rest := [.int y2]) ⟨hx, hb, hml, hown, hts⟩ (met_of e2) (cwV 2 hts (lw_V q1339 q1341 qs27 q77 q1342) rfl rfl rfl hd_of ⟨Nat.le_of_ble_eq_true rfl, Nat.le_of_ble_eq_true rfl⟩) (m_preV hK hP) rfl rfl hl.1 rfl (lv_room (Nat.le_of_ble_eq_true rfl)) dX3_turnsOf_20 ⟨Nat.le_of_ble_eq_true rfl, Nat.le_of_ble_eq_true rfl⟩) ?_
      refine lv_iload_n hx hb dX3_turnsOf_23 rfl (lv_at hl 3 rfl) ?_
      obtain ⟨j5, hj, h⟩ := pb_some h
      refine W.cut (g' := F0 m 32 ls [.int (bi j5), .int y2]) ?_ (fun K => ?_)
      · refine lv_iadd hx hb dX3_turnsOf_32 ?_
        refine lv_istore_n (lv' := [(2, .int (y2 + (bi j5))), (3, .int y3), (0, .ref (a 0)), (1, .int x1)]) hx hb dX3_turnsOf_33 rfl hl (by decide) rfl (fun ls hl => ?_)
        refine lv_iinc (v := (y3 + (1 : Int32))) (lv' := [(3, .int (y3 + (1 : Int32))), (2, .int (y2 + (bi j5))), (0, .ref (a 0)), (1, .int x1)]) hx hb dX3_turnsOf_34 hl (k := 1) rfl (by rfl) (by decide) rfl (fun ls hl => ?_)
        refine lv_goto (tgt := 4) hx hb dX3_turnsOf_37 (by decide) ?_
        exact ih _ _ _ h ls (lv_sub hl [0, 1, 2, 3] rfl) K
      · have h := hj
        refine lv_icmp_ne (tgt := 31) hx hb dX3_turnsOf_24 (by decide) (fun c4 => ?_) (fun c4 => ?_)
        · have h := pi_f c4 h
          refine lv_iconst (v := 0) hx hb dX3_turnsOf_31 (by decide) ?_
          cases h
          exact K
        · have h := pi_t c4 h
          refine lv_iconst (v := 1) hx hb dX3_turnsOf_27 (by decide) ?_
          refine lv_goto (tgt := 32) hx hb dX3_turnsOf_28 (by decide) ?_
          cases h
          exact K
set_option maxHeartbeats 4000000 in
set_option maxRecDepth 100000 in
theorem met_turnsOf {l : Launch} {D : va_G} {dA : ClassId} {a : Nat → Nat} {sA past held text parted asShown told : Nat → Int32} {pasts runs typed spot from_ reason cause orders order : Int32} {nf : Nat} {x1 : Int32} {r : Int32}  (h : m_turnsOf nf sA x1 = some r) : Met l yX3_turnsOf (ws_ yX3_turnsOf cX3_turnsOf 4 (some .int)) ({ frames := 2, cells := 0, slots := 0, locals := 34 } : Room) (mPc [.ref (a 0), .int x1] D dA a sA past held text parted asShown told pasts runs typed spot from_ reason cause orders order) (QcRead r) 0 0 (fun _ => False) := by
  refine Met.ofW (cc := cX3_turnsOf) (maxL := 4) (ret := (some .int)) (by decide) rfl ?_
  intro p e s m args below meth c s₁ B hml hv
  obtain ⟨rfl, hP, hK⟩ := hv
  have hx := B.exec
  have hb := B.bytes
  have hr := B.returns
  have hts := atoms_spec (ws := ws_ yX3_turnsOf cX3_turnsOf 4 (some .int)) B.pre
  have hts : ∀ w ∈ lw_all, w.before _ s = true := fun w h => hts w (List.mem_cons_of_mem _ h)
  have hown : s.vm.findClass RX3 = some m.cls := findClass_of_methodNamed B.named
  have hlocks := B.notSynchronized
  have hl := lv_entry ([.ref (a 0), .int x1]) (n := 4) (Nat.le_of_ble_eq_true rfl)
  rw [lg_entry_eq]
  generalize (lg_sl ([.ref (a 0), .int x1]) ++ List.replicate (4 - (lg_sl ([.ref (a 0), .int x1])).length) Slot.unset).toArray = ls at hl ⊢
  have hl : lv_has ls 4 [(0, .ref (a 0)), (1, .int x1)] := hl
  unfold m_turnsOf at h
  refine lv_iconst (v := 0) hx hb dX3_turnsOf_0 (by decide) ?_
  refine lv_istore_n (lv' := [(2, .int (0 : Int32)), (0, .ref (a 0)), (1, .int x1)]) hx hb dX3_turnsOf_1 rfl hl (by decide) rfl (fun ls hl => ?_)
  refine lv_iconst (v := 0) hx hb dX3_turnsOf_2 (by decide) ?_
  refine lv_istore_n (lv' := [(3, .int (0 : Int32)), (2, .int (0 : Int32)), (0, .ref (a 0)), (1, .int x1)]) hx hb dX3_turnsOf_3 rfl hl (by decide) rfl (fun ls hl => ?_)
  obtain ⟨o1, e501, h⟩ := pb_some h
  refine lp_turnsOf_1 hx hb hml hown hts hK hP _ _ _ _ _ e501 ls (lv_sub hl [0, 1, 2, 3] rfl) (fun ls hl => ?_)
  refine lv_iload_n hx hb dX3_turnsOf_40 rfl (lv_at hl 0 rfl) ?_
  cases h
  exact W.iret hx hb hr (fun t ht hW => ⟨rfl, ht⟩) (fun q hq => absurd hq List.not_mem_nil) dX3_turnsOf_41
theorem hd_tunes : yX3_tunes.cls = RX3 ∧ yX3_tunes.cls ≠ "java/lang/invoke/MethodHandle" ∧ yX3_tunes.cls ≠ "java/lang/invoke/VarHandle" ∧ (parseMethodDescriptor yX3_tunes.desc).map (fun d => d.parameters.length) = some 1 := by decide +kernel
set_option maxHeartbeats 4000000 in
set_option maxRecDepth 100000 in
theorem lp_tunes_1 {p : Program} {l : Launch} {e : Env} {s : State} {m : MethodId} {args : Array Value} {below : List Frame} {meth : Method} {c : Code} {D : va_G} {dA : ClassId} {a : Nat → Nat} {Q : State → Prop} (hx : p.tables.exec = Jvm.exec) (hb : c.code = cX3_tunes) (hml : c.maxLocals = 4) (hown : s.vm.findClass RX3 = some m.cls) (hts : ∀ w ∈ lw_all, w.before args s = true) {H : Heap} {locs : List Loc} {sA : Nat → Int32} {past : Nat → Int32} {held : Nat → Int32} {text : Nat → Int32} {parted : Nat → Int32} {asShown : Nat → Int32} {told : Nat → Int32} {pasts : Int32} {runs : Int32} {typed : Int32} {spot : Int32} {from_ : Int32} {reason : Int32} {cause : Int32} {orders : Int32} {order : Int32} (hK : va_K D gCl [(dA, .int)] s) (hP : va_P D gCl (mW dA a sA past held text parted asShown told pasts runs typed spot from_ reason cause orders order) H) {x1 : Int32} (nf : Nat) : ∀ (n : Nat) (y3 : Int32) (y2 : Int32) (z : Int32), m_tunes_L1 nf sA x1 n y3 y2 = some z → ∀ ls : Array Slot, lv_has ls 4 [(3, .int y3), (2, .int y2), (0, .ref (a 0)), (1, .int x1)] → (∀ ls : Array Slot, lv_has ls 4 [(2, .int z), (0, .ref (a 0)), (1, .int x1)] → W p l e ({ frames := 3, cells := 0, slots := 0, locals := 57 } : Room) s m args below meth c H locs 0 0 Q (F0 m 45 ls [])) → W p l e ({ frames := 3, cells := 0, slots := 0, locals := 57 } : Room) s m args below meth c H locs 0 0 Q (F0 m 4 ls []) := by
  intro n
  induction n with
  | zero => intro y3 y2 z h ls hl K; exact absurd h (by simp [m_tunes_L1])
  | succ n ih =>
    intro y3 y2 z h ls hl K
    unfold m_tunes_L1 at h
    refine lv_iload_n hx hb dX3_tunes_4 rfl (lv_at hl 0 rfl) ?_
    refine lv_aload_n hx hb dX3_tunes_5 rfl (lv_at hl 2 rfl) ?_
    refine va_get (ci := 3) (v := .ref (a 1)) (C := RX3) (T := TX3) (N := 16) hx hb hts in_X3 hown hK hP 0 rfl rfl 0 (by decide) (hts _ q1273) (fun _ h9 => h9) rfl dX3_tunes_6 ?_
    refine lv_sipush (v := 282) hx hb dX3_tunes_9 (by decide) ?_
    refine m_iald (k := 282) hx hb hK hP 1 0 rfl rfl (by decide) (by decide) dX3_tunes_12 ?_
    refine lv_icmp_ge (tgt := 45) hx hb dX3_tunes_13 (by decide) (fun c1 => ?_) (fun c1 => ?_)
    · have h := pi_t c1 h
      cases h
      exact K ls (lv_sub hl [1, 2, 3] rfl)
    · have h := pi_f c1 h
      refine lv_iload_n hx hb dX3_tunes_16 rfl (lv_at hl 1 rfl) ?_
      refine lv_aload_n hx hb dX3_tunes_17 rfl (lv_at hl 2 rfl) ?_
      refine lv_iload_n hx hb dX3_tunes_18 rfl (lv_at hl 0 rfl) ?_
      refine lv_iconst (v := 3) hx hb dX3_tunes_19 (by decide) ?_
      obtain ⟨r3, e2, h⟩ := pb_some h
      refine m_callR (W.runV (As := [.int y3, .int (3 : Int32)]) (rest := [.int y2]) ⟨hx, hb, hml, hown, hts⟩ (met_of e2) (cwV 2 hts (lw_V q1339 q1341 qs27 q77 q1342) rfl rfl rfl hd_of ⟨Nat.le_of_ble_eq_true rfl, Nat.le_of_ble_eq_true rfl⟩) (m_preV hK hP) rfl rfl hl.1 rfl (lv_room (Nat.le_of_ble_eq_true rfl)) dX3_tunes_20 ⟨Nat.le_of_ble_eq_true rfl, Nat.le_of_ble_eq_true rfl⟩) ?_
      refine lv_iload_n hx hb dX3_tunes_23 rfl (lv_at hl 3 rfl) ?_
      obtain ⟨j7, hj, h⟩ := pb_some h
      refine W.cut (g' := F0 m 37 ls [.int j7, .int y2]) ?_ (fun K => ?_)
      · refine lv_iadd hx hb dX3_tunes_37 ?_
        refine lv_istore_n (lv' := [(2, .int (y2 + j7)), (3, .int y3), (0, .ref (a 0)), (1, .int x1)]) hx hb dX3_tunes_38 rfl hl (by decide) rfl (fun ls hl => ?_)
        refine lv_iinc (v := (y3 + (1 : Int32))) (lv' := [(3, .int (y3 + (1 : Int32))), (2, .int (y2 + j7)), (0, .ref (a 0)), (1, .int x1)]) hx hb dX3_tunes_39 hl (k := 1) rfl (by rfl) (by decide) rfl (fun ls hl => ?_)
        refine lv_goto (tgt := 4) hx hb dX3_tunes_42 (by decide) ?_
        exact ih _ _ _ h ls (lv_sub hl [0, 1, 2, 3] rfl) K
      · have h := hj
        refine lv_icmp_ne (tgt := 36) hx hb dX3_tunes_24 (by decide) (fun c4 => ?_) (fun c4 => ?_)
        · have h := pi_f c4 h
          refine lv_iconst (v := 0) hx hb dX3_tunes_36 (by decide) ?_
          cases h
          exact K
        · have h := pi_t c4 h
          refine lv_aload_n hx hb dX3_tunes_27 rfl (lv_at hl 2 rfl) ?_
          refine lv_iload_n hx hb dX3_tunes_28 rfl (lv_at hl 0 rfl) ?_
          refine lv_iconst (v := 2) hx hb dX3_tunes_29 (by decide) ?_
          obtain ⟨r6, e5, h⟩ := pb_some h
          refine m_callR (W.runV (As := [.int y3, .int (2 : Int32)]) (rest := [.int y2]) ⟨hx, hb, hml, hown, hts⟩ (met_of e5) (cwV 2 hts (lw_V q1339 q1341 qs27 q77 q1342) rfl rfl rfl hd_of ⟨Nat.le_of_ble_eq_true rfl, Nat.le_of_ble_eq_true rfl⟩) (m_preV hK hP) rfl rfl hl.1 rfl (lv_room (Nat.le_of_ble_eq_true rfl)) dX3_tunes_30 ⟨Nat.le_of_ble_eq_true rfl, Nat.le_of_ble_eq_true rfl⟩) ?_
          refine lv_goto (tgt := 37) hx hb dX3_tunes_33 (by decide) ?_
          cases h
          exact K
set_option maxHeartbeats 4000000 in
set_option maxRecDepth 100000 in
theorem met_tunes {l : Launch} {D : va_G} {dA : ClassId} {a : Nat → Nat} {sA past held text parted asShown told : Nat → Int32} {pasts runs typed spot from_ reason cause orders order : Int32} {A : Nat → Prop} (hD : mDD A dA a) {nf : Nat} {x1 : Int32}  {sA' : Nat → Int32} (h : m_tunes nf sA x1 = some sA') : Met l yX3_tunes (ws_ yX3_tunes cX3_tunes 4 none) ({ frames := 3, cells := 0, slots := 0, locals := 57 } : Room) (mPc [.ref (a 0), .int x1] D dA a sA past held text parted asShown told pasts runs typed spot from_ reason cause orders order) (va_Qv (fun _ => True) (fun (_ : Unit) t => va_P D gCl (mW dA a sA' past held text parted asShown told pasts runs typed spot from_ reason cause orders order) t.heap) A) 0 0 A := by
  refine Met.ofW (cc := cX3_tunes) (maxL := 4) (ret := none) (by decide) rfl ?_
  intro p e s m args below meth c s₁ B hml hv
  obtain ⟨rfl, hP, hK⟩ := hv
  have hx := B.exec
  have hb := B.bytes
  have hr := B.returns
  have hts := atoms_spec (ws := ws_ yX3_tunes cX3_tunes 4 none) B.pre
  have hts : ∀ w ∈ lw_all, w.before _ s = true := fun w h => hts w (List.mem_cons_of_mem _ h)
  have hown : s.vm.findClass RX3 = some m.cls := findClass_of_methodNamed B.named
  have hlocks := B.notSynchronized
  have hS : va_S A s.heap s.heap [] := va_S.rf
  have hl := lv_entry ([.ref (a 0), .int x1]) (n := 4) (Nat.le_of_ble_eq_true rfl)
  rw [lg_entry_eq]
  generalize (lg_sl ([.ref (a 0), .int x1]) ++ List.replicate (4 - (lg_sl ([.ref (a 0), .int x1])).length) Slot.unset).toArray = ls at hl ⊢
  have hl : lv_has ls 4 [(0, .ref (a 0)), (1, .int x1)] := hl
  unfold m_tunes at h
  refine lv_iconst (v := 0) hx hb dX3_tunes_0 (by decide) ?_
  refine lv_istore_n (lv' := [(2, .int (0 : Int32)), (0, .ref (a 0)), (1, .int x1)]) hx hb dX3_tunes_1 rfl hl (by decide) rfl (fun ls hl => ?_)
  refine lv_iconst (v := 0) hx hb dX3_tunes_2 (by decide) ?_
  refine lv_istore_n (lv' := [(3, .int (0 : Int32)), (2, .int (0 : Int32)), (0, .ref (a 0)), (1, .int x1)]) hx hb dX3_tunes_3 rfl hl (by decide) rfl (fun ls hl => ?_)
  obtain ⟨o1, e501, h⟩ := pb_some h
  refine lp_tunes_1 hx hb hml hown hts hK hP _ _ _ _ _ e501 ls (lv_sub hl [0, 1, 2, 3] rfl) (fun ls hl => ?_)
  refine lv_aload_n hx hb dX3_tunes_45 rfl (lv_at hl 1 rfl) ?_
  refine lv_iload_n hx hb dX3_tunes_46 rfl (lv_at hl 2 rfl) ?_
  obtain ⟨r3, e2, h⟩ := pb_some h
  refine m_callR (W.runV (As := [.int x1]) (rest := []) ⟨hx, hb, hml, hown, hts⟩ (met_turnsOf e2) (cwV 1 hts (lw_V q1414 q1416 qs37 q77 q1417) rfl rfl rfl hd_turnsOf ⟨Nat.le_of_ble_eq_true rfl, Nat.le_of_ble_eq_true rfl⟩) (m_preV hK hP) rfl rfl hl.1 rfl (lv_room (Nat.le_of_ble_eq_true rfl)) dX3_tunes_47 ⟨Nat.le_of_ble_eq_true rfl, Nat.le_of_ble_eq_true rfl⟩) ?_
  refine lv_istore_n (lv' := [(3, .int r3), (2, .int o1), (0, .ref (a 0)), (1, .int x1)]) hx hb dX3_tunes_50 rfl hl (by decide) rfl (fun ls hl => ?_)
  refine lv_aload_n hx hb dX3_tunes_51 rfl (lv_at hl 2 rfl) ?_
  refine va_get (ci := 3) (v := .ref (a 1)) (C := RX3) (T := TX3) (N := 16) hx hb hts in_X3 hown hK hP 0 rfl rfl 0 (by decide) (hts _ q1273) (fun _ h9 => h9) rfl dX3_tunes_52 ?_
  refine lv_sipush (v := 276) hx hb dX3_tunes_55 (by decide) ?_
  refine lv_iload_n hx hb dX3_tunes_58 rfl (lv_at hl 3 rfl) ?_
  refine lv_iadd hx hb dX3_tunes_59 ?_
  refine lv_iload_n hx hb dX3_tunes_60 rfl (lv_at hl 0 rfl) ?_
  obtain ⟨j7, hj, h⟩ := pb_some h
  refine W.cut (g' := F0 m 80 ls [.int j7, .int ((276 : Int32) + x1), .ref (a 1)]) ?_ (fun K => ?_)
  · obtain ⟨g8, h⟩ := pg_some h
    refine va_iast hx hb hK hP (hD _ _ _ _ _ _ _ _ _ _ _ _ _ _ _ _) hS 1 0 rfl rfl g8 dX3_tunes_80 (fun H locs hP _ hS => ?_)
    have hP : va_P D gCl (mW dA a (upd sA ((276 : Int32) + x1).toNatClampNeg j7) past held text parted asShown told pasts runs typed spot from_ reason cause orders order) H := hP
    cases h
    exact W.vret hx hb hr (fun t ht hW => ⟨⟨(), rfl, trivial, (show va_P D gCl _ t.heap from by rw [ht]; exact hP)⟩, hS.F ht⟩) hS.2.2 dX3_tunes_81
  · have h := hj
    refine lv_if_ne (tgt := 77) hx hb dX3_tunes_61 (by decide) (fun c4 => ?_) (fun c4 => ?_)
    · have h := pi_f c4 h
      refine lv_iload_n hx hb dX3_tunes_77 rfl (lv_at hl 1 rfl) ?_
      refine lv_iload_n hx hb dX3_tunes_78 rfl (lv_at hl 0 rfl) ?_
      obtain ⟨g5, h⟩ := pg_some h
      refine lv_idiv hx hb dX3_tunes_79 g5 ?_
      cases h
      exact K
    · have h := pi_t c4 h
      refine lv_aload_n hx hb dX3_tunes_64 rfl (lv_at hl 2 rfl) ?_
      refine va_get (ci := 3) (v := .ref (a 1)) (C := RX3) (T := TX3) (N := 16) hx hb hts in_X3 hown hK hP 0 rfl rfl 0 (by decide) (hts _ q1273) (fun _ h9 => h9) rfl dX3_tunes_65 ?_
      refine lv_sipush (v := 276) hx hb dX3_tunes_68 (by decide) ?_
      refine lv_iload_n hx hb dX3_tunes_71 rfl (lv_at hl 3 rfl) ?_
      refine lv_iadd hx hb dX3_tunes_72 ?_
      obtain ⟨g6, h⟩ := pg_some h
      refine va_iald hx hb hK hP 1 0 rfl rfl g6 dX3_tunes_73 ?_
      refine lv_goto (tgt := 80) hx hb dX3_tunes_74 (by decide) ?_
      cases h
      exact K
theorem hd_give : yX3_give.cls = RX3 ∧ yX3_give.cls ≠ "java/lang/invoke/MethodHandle" ∧ yX3_give.cls ≠ "java/lang/invoke/VarHandle" ∧ (parseMethodDescriptor yX3_give.desc).map (fun d => d.parameters.length) = some 2 := by decide +kernel
set_option maxHeartbeats 4000000 in
set_option maxRecDepth 100000 in
theorem met_give {l : Launch} {D : va_G} {dA : ClassId} {a : Nat → Nat} {sA past held text parted asShown told : Nat → Int32} {pasts runs typed spot from_ reason cause orders order : Int32} {A : Nat → Prop} (hD : mDD A dA a) {nf : Nat} {x1 : Int32} {x2 : Int32} {r : Int32} {sA' : Nat → Int32} {past' : Nat → Int32} {pasts' : Int32} (h : m_give nf sA past pasts runs x1 x2 = some (r, sA', past', pasts')) : Met l yX3_give (ws_ yX3_give cX3_give 3 (some .int)) ({ frames := 4, cells := 0, slots := 0, locals := 80 } : Room) (mPc [.ref (a 0), .int x1, .int x2] D dA a sA past held text parted asShown told pasts runs typed spot from_ reason cause orders order) (va_Qi (fun r2 (_ : Unit) => r2 = r) (fun _ t => va_P D gCl (mW dA a sA' past' held text parted asShown told pasts' runs typed spot from_ reason cause orders order) t.heap) A) 0 0 A := by
  refine Met.ofW (cc := cX3_give) (maxL := 3) (ret := (some .int)) (by decide) rfl ?_
  intro p e s m args below meth c s₁ B hml hv
  obtain ⟨rfl, hP, hK⟩ := hv
  have hx := B.exec
  have hb := B.bytes
  have hr := B.returns
  have hts := atoms_spec (ws := ws_ yX3_give cX3_give 3 (some .int)) B.pre
  have hts : ∀ w ∈ lw_all, w.before _ s = true := fun w h => hts w (List.mem_cons_of_mem _ h)
  have hown : s.vm.findClass RX3 = some m.cls := findClass_of_methodNamed B.named
  have hlocks := B.notSynchronized
  have hS : va_S A s.heap s.heap [] := va_S.rf
  have hl := lv_entry ([.ref (a 0), .int x1, .int x2]) (n := 3) (Nat.le_of_ble_eq_true rfl)
  rw [lg_entry_eq]
  generalize (lg_sl ([.ref (a 0), .int x1, .int x2]) ++ List.replicate (3 - (lg_sl ([.ref (a 0), .int x1, .int x2])).length) Slot.unset).toArray = ls at hl ⊢
  have hl : lv_has ls 3 [(0, .ref (a 0)), (1, .int x1), (2, .int x2)] := hl
  unfold m_give at h
  refine lv_aload_n hx hb dX3_give_0 rfl (lv_at hl 0 rfl) ?_
  refine lv_iload_n hx hb dX3_give_1 rfl (lv_at hl 1 rfl) ?_
  obtain ⟨b2, e1, h⟩ := pb_some h
  refine m_callR (W.runV (As := [.int x1]) (rest := []) ⟨hx, hb, hml, hown, hts⟩ (met_isTurn e1) (cwV 1 hts (lw_V q1358 q1360 qs30 q77 q1361) rfl rfl rfl hd_isTurn ⟨Nat.le_of_ble_eq_true rfl, Nat.le_of_ble_eq_true rfl⟩) (m_preV hK hP) rfl rfl hl.1 rfl (lv_room (Nat.le_of_ble_eq_true rfl)) dX3_give_2 ⟨Nat.le_of_ble_eq_true rfl, Nat.le_of_ble_eq_true rfl⟩) ?_
  refine lv_if_eq (tgt := 16) hx hb dX3_give_5 (by decide) (fun c3 => ?_) (fun c3 => ?_)
  · have h := pi_t c3 h
    refine lv_ldc hx hb hown (hts _ q1329) dX3_give_16 ?_
    cases h
    exact W.iret hx hb hr (fun t ht hW => ⟨⟨_, (), rfl, rfl, (show va_P D gCl _ t.heap from by rw [ht]; exact hP)⟩, hS.F ht⟩) hS.2.2 dX3_give_18
  · have h := pi_f c3 h
    refine lv_aload_n hx hb dX3_give_8 rfl (lv_at hl 0 rfl) ?_
    refine lv_iload_n hx hb dX3_give_9 rfl (lv_at hl 2 rfl) ?_
    obtain ⟨b5, e4, h⟩ := pb_some h
    refine m_callR (W.runV (As := [.int x2]) (rest := []) ⟨hx, hb, hml, hown, hts⟩ (met_isVoice e4) (cwV 1 hts (lw_V q1406 q1408 qs35 q77 q1409) rfl rfl rfl hd_isVoice ⟨Nat.le_of_ble_eq_true rfl, Nat.le_of_ble_eq_true rfl⟩) (m_preV hK hP) rfl rfl hl.1 rfl (lv_room (Nat.le_of_ble_eq_true rfl)) dX3_give_10 ⟨Nat.le_of_ble_eq_true rfl, Nat.le_of_ble_eq_true rfl⟩) ?_
    refine lv_if_ne (tgt := 19) hx hb dX3_give_13 (by decide) (fun c6 => ?_) (fun c6 => ?_)
    · have h := pi_f c6 h
      refine lv_aload_n hx hb dX3_give_19 rfl (lv_at hl 0 rfl) ?_
      refine lv_iload_n hx hb dX3_give_20 rfl (lv_at hl 1 rfl) ?_
      refine lv_iconst (v := 3) hx hb dX3_give_21 (by decide) ?_
      obtain ⟨r8, e7, h⟩ := pb_some h
      refine m_callR (W.runV (As := [.int x1, .int (3 : Int32)]) (rest := []) ⟨hx, hb, hml, hown, hts⟩ (met_of e7) (cwV 2 hts (lw_V q1339 q1341 qs27 q77 q1342) rfl rfl rfl hd_of ⟨Nat.le_of_ble_eq_true rfl, Nat.le_of_ble_eq_true rfl⟩) (m_preV hK hP) rfl rfl hl.1 rfl (lv_room (Nat.le_of_ble_eq_true rfl)) dX3_give_22 ⟨Nat.le_of_ble_eq_true rfl, Nat.le_of_ble_eq_true rfl⟩) ?_
      refine lv_iload_n hx hb dX3_give_25 rfl (lv_at hl 2 rfl) ?_
      refine lv_icmp_ne (tgt := 32) hx hb dX3_give_26 (by decide) (fun c9 => ?_) (fun c9 => ?_)
      · have h := pi_f c9 h
        refine lv_aload_n hx hb dX3_give_32 rfl (lv_at hl 0 rfl) ?_
        obtain ⟨⟨past_11, pasts_12⟩, e10, h⟩ := pb_some h
        refine m_callv (va_runV (As := []) (rest := []) ⟨hx, hb, hml, hown, hts⟩ (met_changes hD e10) (cwV 0 hts (lw_V q1331 q1333 qs25 q77 q1334) rfl rfl rfl hd_changes ⟨Nat.le_of_ble_eq_true rfl, Nat.le_of_ble_eq_true rfl⟩) (m_preV hK hP) rfl rfl hl.1 rfl (lv_room (Nat.le_of_ble_eq_true rfl)) dX3_give_33 ⟨Nat.le_of_ble_eq_true rfl, Nat.le_of_ble_eq_true rfl⟩) hS (fun H locs hP hS => ?_)
        refine lv_aload_n hx hb dX3_give_36 rfl (lv_at hl 0 rfl) ?_
        refine lv_iload_n hx hb dX3_give_37 rfl (lv_at hl 1 rfl) ?_
        refine lv_iconst (v := 3) hx hb dX3_give_38 (by decide) ?_
        refine lv_iload_n hx hb dX3_give_39 rfl (lv_at hl 2 rfl) ?_
        obtain ⟨sA_14, e13, h⟩ := pb_some h
        refine m_callv (va_runV (As := [.int x1, .int (3 : Int32), .int x2]) (rest := []) ⟨hx, hb, hml, hown, hts⟩ (met_sets hD e13) (cwV 3 hts (lw_V q1343 q1345 qs28 q77 q1346) rfl rfl rfl hd_sets ⟨Nat.le_of_ble_eq_true rfl, Nat.le_of_ble_eq_true rfl⟩) (m_preV hK hP) rfl rfl hl.1 rfl (lv_room (Nat.le_of_ble_eq_true rfl)) dX3_give_40 ⟨Nat.le_of_ble_eq_true rfl, Nat.le_of_ble_eq_true rfl⟩) hS (fun H locs hP hS => ?_)
        refine lv_aload_n hx hb dX3_give_43 rfl (lv_at hl 0 rfl) ?_
        refine lv_iload_n hx hb dX3_give_44 rfl (lv_at hl 2 rfl) ?_
        obtain ⟨sA_16, e15, h⟩ := pb_some h
        refine m_callv (va_runV (As := [.int x2]) (rest := []) ⟨hx, hb, hml, hown, hts⟩ (met_tunes hD e15) (cwV 1 hts (lw_V q1410 q1412 qs36 q77 q1413) rfl rfl rfl hd_tunes ⟨Nat.le_of_ble_eq_true rfl, Nat.le_of_ble_eq_true rfl⟩) (m_preV hK hP) rfl rfl hl.1 rfl (lv_room (Nat.le_of_ble_eq_true rfl)) dX3_give_45 ⟨Nat.le_of_ble_eq_true rfl, Nat.le_of_ble_eq_true rfl⟩) hS (fun H locs hP hS => ?_)
        refine lv_aload_n hx hb dX3_give_48 rfl (lv_at hl 0 rfl) ?_
        refine va_get (ci := 3) (v := .ref (a 1)) (C := RX3) (T := TX3) (N := 16) hx hb hts in_X3 hown hK hP 0 rfl rfl 0 (by decide) (hts _ q1273) (fun _ h9 => h9) rfl dX3_give_49 ?_
        refine lv_sipush (v := 276) hx hb dX3_give_52 (by decide) ?_
        refine lv_iload_n hx hb dX3_give_55 rfl (lv_at hl 2 rfl) ?_
        refine lv_iadd hx hb dX3_give_56 ?_
        obtain ⟨g17, h⟩ := pg_some h
        refine va_iald hx hb hK hP 1 0 rfl rfl g17 dX3_give_57 ?_
        cases h
        exact W.iret hx hb hr (fun t ht hW => ⟨⟨_, (), rfl, rfl, (show va_P D gCl _ t.heap from by rw [ht]; exact hP)⟩, hS.F ht⟩) hS.2.2 dX3_give_58
      · have h := pi_t c9 h
        refine lv_ldc hx hb hown (hts _ q1385) dX3_give_29 ?_
        cases h
        exact W.iret hx hb hr (fun t ht hW => ⟨⟨_, (), rfl, rfl, (show va_P D gCl _ t.heap from by rw [ht]; exact hP)⟩, hS.F ht⟩) hS.2.2 dX3_give_31
    · have h := pi_t c6 h
      refine lv_ldc hx hb hown (hts _ q1329) dX3_give_16 ?_
      cases h
      exact W.iret hx hb hr (fun t ht hW => ⟨⟨_, (), rfl, rfl, (show va_P D gCl _ t.heap from by rw [ht]; exact hP)⟩, hS.F ht⟩) hS.2.2 dX3_give_18
theorem hd_join : yX3_join.cls = RX3 ∧ yX3_join.cls ≠ "java/lang/invoke/MethodHandle" ∧ yX3_join.cls ≠ "java/lang/invoke/VarHandle" ∧ (parseMethodDescriptor yX3_join.desc).map (fun d => d.parameters.length) = some 2 := by decide +kernel
set_option maxHeartbeats 4000000 in
set_option maxRecDepth 100000 in
theorem lp_join_1 {p : Program} {l : Launch} {e : Env} {s : State} {m : MethodId} {args : Array Value} {below : List Frame} {meth : Method} {c : Code} {D : va_G} {dA : ClassId} {a : Nat → Nat} {Q : State → Prop} (hx : p.tables.exec = Jvm.exec) (hb : c.code = cX3_join) (hml : c.maxLocals = 4) (hown : s.vm.findClass RX3 = some m.cls) (hts : ∀ w ∈ lw_all, w.before args s = true) {H0 : Heap} {A : Nat → Prop} {past : Nat → Int32} {held : Nat → Int32} {text : Nat → Int32} {parted : Nat → Int32} {asShown : Nat → Int32} {told : Nat → Int32} {pasts : Int32} {runs : Int32} {typed : Int32} {spot : Int32} {from_ : Int32} {reason : Int32} {cause : Int32} {orders : Int32} {order : Int32} (hK : va_K D gCl [(dA, .int)] s) (hD : mDD A dA a) {x1 : Int32} {x2 : Int32} (nf : Nat) : ∀ (n : Nat) (y3 : Int32) (sA : Nat → Int32) (z : (Nat → Int32)), m_join_L1 nf x1 x2 n y3 sA = some z → ∀ (H : Heap) (locs : List Loc) (ls : Array Slot), va_P D gCl (mW dA a sA past held text parted asShown told pasts runs typed spot from_ reason cause orders order) H → va_S A H0 H locs → lv_has ls 4 [(3, .int y3), (0, .ref (a 0)), (1, .int x1), (2, .int x2)] → (∀ (H : Heap) (locs : List Loc) (ls : Array Slot), va_P D gCl (mW dA a z past held text parted asShown told pasts runs typed spot from_ reason cause orders order) H → va_S A H0 H locs → lv_has ls 4 [(0, .ref (a 0)), (1, .int x1), (2, .int x2)] → W p l e ({ frames := 4, cells := 0, slots := 0, locals := 80 } : Room) s m args below meth c H locs 0 0 Q (F0 m 74 ls [])) → W p l e ({ frames := 4, cells := 0, slots := 0, locals := 80 } : Room) s m args below meth c H locs 0 0 Q (F0 m 30 ls []) := by
  intro n
  induction n with
  | zero => intro y3 sA z h H locs ls hP hS hl K; exact absurd h (by simp [m_join_L1])
  | succ n ih =>
    intro y3 sA z h H locs ls hP hS hl K
    unfold m_join_L1 at h
    refine lv_iload_n hx hb dX3_join_30 rfl (lv_at hl 0 rfl) ?_
    refine lv_aload_n hx hb dX3_join_31 rfl (lv_at hl 1 rfl) ?_
    refine va_get (ci := 3) (v := .ref (a 1)) (C := RX3) (T := TX3) (N := 16) hx hb hts in_X3 hown hK hP 0 rfl rfl 0 (by decide) (hts _ q1273) (fun _ h9 => h9) rfl dX3_join_32 ?_
    refine lv_sipush (v := 282) hx hb dX3_join_35 (by decide) ?_
    refine m_iald (k := 282) hx hb hK hP 1 0 rfl rfl (by decide) (by decide) dX3_join_38 ?_
    refine lv_icmp_ge (tgt := 74) hx hb dX3_join_39 (by decide) (fun c1 => ?_) (fun c1 => ?_)
    · have h := pi_t c1 h
      cases h
      exact K H locs ls hP hS (lv_sub hl [1, 2, 3] rfl)
    · have h := pi_f c1 h
      refine lv_aload_n hx hb dX3_join_42 rfl (lv_at hl 1 rfl) ?_
      refine lv_iload_n hx hb dX3_join_43 rfl (lv_at hl 0 rfl) ?_
      refine lv_iconst (v := 3) hx hb dX3_join_44 (by decide) ?_
      refine lv_aload_n hx hb dX3_join_45 rfl (lv_at hl 1 rfl) ?_
      refine lv_iload_n hx hb dX3_join_46 rfl (lv_at hl 0 rfl) ?_
      refine lv_iconst (v := 3) hx hb dX3_join_47 (by decide) ?_
      obtain ⟨r3, e2, h⟩ := pb_some h
      refine m_callR (W.runV (As := [.int y3, .int (3 : Int32)]) (rest := [.int (3 : Int32), .int y3, .ref (a 0)]) ⟨hx, hb, hml, hown, hts⟩ (met_of e2) (cwV 2 hts (lw_V q1339 q1341 qs27 q77 q1342) rfl rfl rfl hd_of ⟨Nat.le_of_ble_eq_true rfl, Nat.le_of_ble_eq_true rfl⟩) (m_preV hK hP) rfl rfl hl.1 rfl (lv_room (Nat.le_of_ble_eq_true rfl)) dX3_join_48 ⟨Nat.le_of_ble_eq_true rfl, Nat.le_of_ble_eq_true rfl⟩) ?_
      refine lv_iload_n hx hb dX3_join_51 rfl (lv_at hl 2 rfl) ?_
      obtain ⟨j7, hj, h⟩ := pb_some h
      refine W.cut (g' := F0 m 65 ls [.int j7, .int (3 : Int32), .int y3, .ref (a 0)]) ?_ (fun K => ?_)
      · obtain ⟨sA_9, e8, h⟩ := pb_some h
        refine m_callv (va_runV (As := [.int y3, .int (3 : Int32), .int j7]) (rest := []) ⟨hx, hb, hml, hown, hts⟩ (met_sets hD e8) (cwV 3 hts (lw_V q1343 q1345 qs28 q77 q1346) rfl rfl rfl hd_sets ⟨Nat.le_of_ble_eq_true rfl, Nat.le_of_ble_eq_true rfl⟩) (m_preV hK hP) rfl rfl hl.1 rfl (lv_room (Nat.le_of_ble_eq_true rfl)) dX3_join_65 ⟨Nat.le_of_ble_eq_true rfl, Nat.le_of_ble_eq_true rfl⟩) hS (fun H locs hP hS => ?_)
        refine lv_iinc (v := (y3 + (1 : Int32))) (lv' := [(3, .int (y3 + (1 : Int32))), (0, .ref (a 0)), (1, .int x1), (2, .int x2)]) hx hb dX3_join_68 hl (k := 0) rfl (by rfl) (by decide) rfl (fun ls hl => ?_)
        refine lv_goto (tgt := 30) hx hb dX3_join_71 (by decide) ?_
        exact ih _ _ _ h H locs ls hP hS (lv_sub hl [0, 1, 2, 3] rfl) K
      · have h := hj
        refine lv_icmp_ne (tgt := 59) hx hb dX3_join_52 (by decide) (fun c4 => ?_) (fun c4 => ?_)
        · have h := pi_f c4 h
          refine lv_aload_n hx hb dX3_join_59 rfl (lv_at hl 1 rfl) ?_
          refine lv_iload_n hx hb dX3_join_60 rfl (lv_at hl 0 rfl) ?_
          refine lv_iconst (v := 3) hx hb dX3_join_61 (by decide) ?_
          obtain ⟨r6, e5, h⟩ := pb_some h
          refine m_callR (W.runV (As := [.int y3, .int (3 : Int32)]) (rest := [.int (3 : Int32), .int y3, .ref (a 0)]) ⟨hx, hb, hml, hown, hts⟩ (met_of e5) (cwV 2 hts (lw_V q1339 q1341 qs27 q77 q1342) rfl rfl rfl hd_of ⟨Nat.le_of_ble_eq_true rfl, Nat.le_of_ble_eq_true rfl⟩) (m_preV hK hP) rfl rfl hl.1 rfl (lv_room (Nat.le_of_ble_eq_true rfl)) dX3_join_62 ⟨Nat.le_of_ble_eq_true rfl, Nat.le_of_ble_eq_true rfl⟩) ?_
          cases h
          exact K
        · have h := pi_t c4 h
          refine lv_iload_n hx hb dX3_join_55 rfl (lv_at hl 3 rfl) ?_
          refine lv_goto (tgt := 65) hx hb dX3_join_56 (by decide) ?_
          cases h
          exact K
set_option maxHeartbeats 4000000 in
set_option maxRecDepth 100000 in
theorem met_join {l : Launch} {D : va_G} {dA : ClassId} {a : Nat → Nat} {sA past held text parted asShown told : Nat → Int32} {pasts runs typed spot from_ reason cause orders order : Int32} {A : Nat → Prop} (hD : mDD A dA a) {nf : Nat} {x1 : Int32} {x2 : Int32} {r : Int32} {sA' : Nat → Int32} {past' : Nat → Int32} {pasts' : Int32} (h : m_join nf sA past pasts runs x1 x2 = some (r, sA', past', pasts')) : Met l yX3_join (ws_ yX3_join cX3_join 4 (some .int)) ({ frames := 4, cells := 0, slots := 0, locals := 80 } : Room) (mPc [.ref (a 0), .int x1, .int x2] D dA a sA past held text parted asShown told pasts runs typed spot from_ reason cause orders order) (va_Qi (fun r2 (_ : Unit) => r2 = r) (fun _ t => va_P D gCl (mW dA a sA' past' held text parted asShown told pasts' runs typed spot from_ reason cause orders order) t.heap) A) 0 0 A := by
  refine Met.ofW (cc := cX3_join) (maxL := 4) (ret := (some .int)) (by decide) rfl ?_
  intro p e s m args below meth c s₁ B hml hv
  obtain ⟨rfl, hP, hK⟩ := hv
  have hx := B.exec
  have hb := B.bytes
  have hr := B.returns
  have hts := atoms_spec (ws := ws_ yX3_join cX3_join 4 (some .int)) B.pre
  have hts : ∀ w ∈ lw_all, w.before _ s = true := fun w h => hts w (List.mem_cons_of_mem _ h)
  have hown : s.vm.findClass RX3 = some m.cls := findClass_of_methodNamed B.named
  have hlocks := B.notSynchronized
  have hS : va_S A s.heap s.heap [] := va_S.rf
  have hl := lv_entry ([.ref (a 0), .int x1, .int x2]) (n := 4) (Nat.le_of_ble_eq_true rfl)
  rw [lg_entry_eq]
  generalize (lg_sl ([.ref (a 0), .int x1, .int x2]) ++ List.replicate (4 - (lg_sl ([.ref (a 0), .int x1, .int x2])).length) Slot.unset).toArray = ls at hl ⊢
  have hl : lv_has ls 4 [(0, .ref (a 0)), (1, .int x1), (2, .int x2)] := hl
  unfold m_join at h
  refine lv_aload_n hx hb dX3_join_0 rfl (lv_at hl 0 rfl) ?_
  refine lv_iload_n hx hb dX3_join_1 rfl (lv_at hl 1 rfl) ?_
  obtain ⟨b2, e1, h⟩ := pb_some h
  refine m_callR (W.runV (As := [.int x1]) (rest := []) ⟨hx, hb, hml, hown, hts⟩ (met_isVoice e1) (cwV 1 hts (lw_V q1406 q1408 qs35 q77 q1409) rfl rfl rfl hd_isVoice ⟨Nat.le_of_ble_eq_true rfl, Nat.le_of_ble_eq_true rfl⟩) (m_preV hK hP) rfl rfl hl.1 rfl (lv_room (Nat.le_of_ble_eq_true rfl)) dX3_join_2 ⟨Nat.le_of_ble_eq_true rfl, Nat.le_of_ble_eq_true rfl⟩) ?_
  refine lv_if_eq (tgt := 21) hx hb dX3_join_5 (by decide) (fun c3 => ?_) (fun c3 => ?_)
  · have h := pi_t c3 h
    refine lv_ldc hx hb hown (hts _ q1329) dX3_join_21 ?_
    cases h
    exact W.iret hx hb hr (fun t ht hW => ⟨⟨_, (), rfl, rfl, (show va_P D gCl _ t.heap from by rw [ht]; exact hP)⟩, hS.F ht⟩) hS.2.2 dX3_join_23
  · have h := pi_f c3 h
    refine lv_aload_n hx hb dX3_join_8 rfl (lv_at hl 0 rfl) ?_
    refine lv_iload_n hx hb dX3_join_9 rfl (lv_at hl 2 rfl) ?_
    obtain ⟨b5, e4, h⟩ := pb_some h
    refine m_callR (W.runV (As := [.int x2]) (rest := []) ⟨hx, hb, hml, hown, hts⟩ (met_isVoice e4) (cwV 1 hts (lw_V q1406 q1408 qs35 q77 q1409) rfl rfl rfl hd_isVoice ⟨Nat.le_of_ble_eq_true rfl, Nat.le_of_ble_eq_true rfl⟩) (m_preV hK hP) rfl rfl hl.1 rfl (lv_room (Nat.le_of_ble_eq_true rfl)) dX3_join_10 ⟨Nat.le_of_ble_eq_true rfl, Nat.le_of_ble_eq_true rfl⟩) ?_
    refine lv_if_eq (tgt := 21) hx hb dX3_join_13 (by decide) (fun c6 => ?_) (fun c6 => ?_)
    · have h := pi_t c6 h
      refine lv_ldc hx hb hown (hts _ q1329) dX3_join_21 ?_
      cases h
      exact W.iret hx hb hr (fun t ht hW => ⟨⟨_, (), rfl, rfl, (show va_P D gCl _ t.heap from by rw [ht]; exact hP)⟩, hS.F ht⟩) hS.2.2 dX3_join_23
    · have h := pi_f c6 h
      refine lv_iload_n hx hb dX3_join_16 rfl (lv_at hl 1 rfl) ?_
      refine lv_iload_n hx hb dX3_join_17 rfl (lv_at hl 2 rfl) ?_
      refine lv_icmp_ne (tgt := 24) hx hb dX3_join_18 (by decide) (fun c7 => ?_) (fun c7 => ?_)
      · have h := pi_f c7 h
        refine lv_aload_n hx hb dX3_join_24 rfl (lv_at hl 0 rfl) ?_
        obtain ⟨⟨past_9, pasts_10⟩, e8, h⟩ := pb_some h
        refine m_callv (va_runV (As := []) (rest := []) ⟨hx, hb, hml, hown, hts⟩ (met_changes hD e8) (cwV 0 hts (lw_V q1331 q1333 qs25 q77 q1334) rfl rfl rfl hd_changes ⟨Nat.le_of_ble_eq_true rfl, Nat.le_of_ble_eq_true rfl⟩) (m_preV hK hP) rfl rfl hl.1 rfl (lv_room (Nat.le_of_ble_eq_true rfl)) dX3_join_25 ⟨Nat.le_of_ble_eq_true rfl, Nat.le_of_ble_eq_true rfl⟩) hS (fun H locs hP hS => ?_)
        refine lv_iconst (v := 0) hx hb dX3_join_28 (by decide) ?_
        refine lv_istore_n (lv' := [(3, .int (0 : Int32)), (0, .ref (a 0)), (1, .int x1), (2, .int x2)]) hx hb dX3_join_29 rfl hl (by decide) rfl (fun ls hl => ?_)
        obtain ⟨sA_11, e501, h⟩ := pb_some h
        refine lp_join_1 hx hb hml hown hts hK hD _ _ _ _ _ e501 _ _ ls hP hS (lv_sub hl [0, 1, 2, 3] rfl) (fun H locs ls hP hS hl => ?_)
        refine lv_aload_n hx hb dX3_join_74 rfl (lv_at hl 0 rfl) ?_
        refine va_get (ci := 3) (v := .ref (a 1)) (C := RX3) (T := TX3) (N := 16) hx hb hts in_X3 hown hK hP 0 rfl rfl 0 (by decide) (hts _ q1273) (fun _ h9 => h9) rfl dX3_join_75 ?_
        refine lv_sipush (v := 276) hx hb dX3_join_78 (by decide) ?_
        refine lv_iload_n hx hb dX3_join_81 rfl (lv_at hl 1 rfl) ?_
        refine lv_iadd hx hb dX3_join_82 ?_
        refine lv_iconst (v := 0) hx hb dX3_join_83 (by decide) ?_
        obtain ⟨g12, h⟩ := pg_some h
        refine va_iast hx hb hK hP (hD _ _ _ _ _ _ _ _ _ _ _ _ _ _ _ _) hS 1 0 rfl rfl g12 dX3_join_84 (fun H locs hP _ hS => ?_)
        have hP : va_P D gCl (mW dA a (upd sA_11 ((276 : Int32) + x1).toNatClampNeg (0 : Int32)) past_9 held text parted asShown told pasts_10 runs typed spot from_ reason cause orders order) H := hP
        refine lv_aload_n hx hb dX3_join_85 rfl (lv_at hl 0 rfl) ?_
        refine lv_iload_n hx hb dX3_join_86 rfl (lv_at hl 2 rfl) ?_
        obtain ⟨sA_14, e13, h⟩ := pb_some h
        refine m_callv (va_runV (As := [.int x2]) (rest := []) ⟨hx, hb, hml, hown, hts⟩ (met_tunes hD e13) (cwV 1 hts (lw_V q1410 q1412 qs36 q77 q1413) rfl rfl rfl hd_tunes ⟨Nat.le_of_ble_eq_true rfl, Nat.le_of_ble_eq_true rfl⟩) (m_preV hK hP) rfl rfl hl.1 rfl (lv_room (Nat.le_of_ble_eq_true rfl)) dX3_join_87 ⟨Nat.le_of_ble_eq_true rfl, Nat.le_of_ble_eq_true rfl⟩) hS (fun H locs hP hS => ?_)
        refine lv_aload_n hx hb dX3_join_90 rfl (lv_at hl 0 rfl) ?_
        refine lv_iload_n hx hb dX3_join_91 rfl (lv_at hl 2 rfl) ?_
        obtain ⟨r16, e15, h⟩ := pb_some h
        refine m_callR (W.runV (As := [.int x2]) (rest := []) ⟨hx, hb, hml, hown, hts⟩ (met_turnsOf e15) (cwV 1 hts (lw_V q1414 q1416 qs37 q77 q1417) rfl rfl rfl hd_turnsOf ⟨Nat.le_of_ble_eq_true rfl, Nat.le_of_ble_eq_true rfl⟩) (m_preV hK hP) rfl rfl hl.1 rfl (lv_room (Nat.le_of_ble_eq_true rfl)) dX3_join_92 ⟨Nat.le_of_ble_eq_true rfl, Nat.le_of_ble_eq_true rfl⟩) ?_
        cases h
        exact W.iret hx hb hr (fun t ht hW => ⟨⟨_, (), rfl, rfl, (show va_P D gCl _ t.heap from by rw [ht]; exact hP)⟩, hS.F ht⟩) hS.2.2 dX3_join_95
      · have h := pi_t c7 h
        refine lv_ldc hx hb hown (hts _ q1329) dX3_join_21 ?_
        cases h
        exact W.iret hx hb hr (fun t ht hW => ⟨⟨_, (), rfl, rfl, (show va_P D gCl _ t.heap from by rw [ht]; exact hP)⟩, hS.F ht⟩) hS.2.2 dX3_join_23
theorem hd_set : yX3_set.cls = RX3 ∧ yX3_set.cls ≠ "java/lang/invoke/MethodHandle" ∧ yX3_set.cls ≠ "java/lang/invoke/VarHandle" ∧ (parseMethodDescriptor yX3_set.desc).map (fun d => d.parameters.length) = some 2 := by decide +kernel
set_option maxHeartbeats 4000000 in
set_option maxRecDepth 100000 in
theorem met_set {l : Launch} {D : va_G} {dA : ClassId} {a : Nat → Nat} {sA past held text parted asShown told : Nat → Int32} {pasts runs typed spot from_ reason cause orders order : Int32} {A : Nat → Prop} (hD : mDD A dA a) {nf : Nat} {x1 : Int32} {x2 : Int32} {r : Int32} {sA' : Nat → Int32} {past' : Nat → Int32} {pasts' : Int32} (h : m_set nf sA past pasts runs x1 x2 = some (r, sA', past', pasts')) : Met l yX3_set (ws_ yX3_set cX3_set 4 (some .int)) ({ frames := 2, cells := 0, slots := 0, locals := 34 } : Room) (mPc [.ref (a 0), .int x1, .int x2] D dA a sA past held text parted asShown told pasts runs typed spot from_ reason cause orders order) (va_Qi (fun r2 (_ : Unit) => r2 = r) (fun _ t => va_P D gCl (mW dA a sA' past' held text parted asShown told pasts' runs typed spot from_ reason cause orders order) t.heap) A) 0 0 A := by
  refine Met.ofW (cc := cX3_set) (maxL := 4) (ret := (some .int)) (by decide) rfl ?_
  intro p e s m args below meth c s₁ B hml hv
  obtain ⟨rfl, hP, hK⟩ := hv
  have hx := B.exec
  have hb := B.bytes
  have hr := B.returns
  have hts := atoms_spec (ws := ws_ yX3_set cX3_set 4 (some .int)) B.pre
  have hts : ∀ w ∈ lw_all, w.before _ s = true := fun w h => hts w (List.mem_cons_of_mem _ h)
  have hown : s.vm.findClass RX3 = some m.cls := findClass_of_methodNamed B.named
  have hlocks := B.notSynchronized
  have hS : va_S A s.heap s.heap [] := va_S.rf
  have hl := lv_entry ([.ref (a 0), .int x1, .int x2]) (n := 4) (Nat.le_of_ble_eq_true rfl)
  rw [lg_entry_eq]
  generalize (lg_sl ([.ref (a 0), .int x1, .int x2]) ++ List.replicate (4 - (lg_sl ([.ref (a 0), .int x1, .int x2])).length) Slot.unset).toArray = ls at hl ⊢
  have hl : lv_has ls 4 [(0, .ref (a 0)), (1, .int x1), (2, .int x2)] := hl
  unfold m_set at h
  refine lv_iload_n hx hb dX3_set_0 rfl (lv_at hl 1 rfl) ?_
  refine lv_if_ne (tgt := 15) hx hb dX3_set_1 (by decide) (fun c1 => ?_) (fun c1 => ?_)
  · have h := pi_f c1 h
    refine lv_ldc hx hb hown (hts _ q1329) dX3_set_15 ?_
    cases h
    exact W.iret hx hb hr (fun t ht hW => ⟨⟨_, (), rfl, rfl, (show va_P D gCl _ t.heap from by rw [ht]; exact hP)⟩, hS.F ht⟩) hS.2.2 dX3_set_17
  · have h := pi_t c1 h
    refine lv_iload_n hx hb dX3_set_4 rfl (lv_at hl 2 rfl) ?_
    refine lv_iconst (v := 0) hx hb dX3_set_5 (by decide) ?_
    refine lv_sipush (v := 200) hx hb dX3_set_6 (by decide) ?_
    obtain ⟨b3, e2, h⟩ := pb_some h
    refine m_callR (W.runS (As := [.int x2, .int (0 : Int32), .int (200 : Int32)]) (rest := []) ⟨hx, hb, hml, hown, hts⟩ (met_in e2) (va_cwS 3 hts (lw_S q1326 q1327 q77 q1328) rfl rfl rfl hd_in ⟨Nat.le_of_ble_eq_true rfl, Nat.le_of_ble_eq_true rfl⟩) m_preS rfl rfl hl.1 rfl (lv_room (Nat.le_of_ble_eq_true rfl)) dX3_set_9 ⟨Nat.le_of_ble_eq_true rfl, Nat.le_of_ble_eq_true rfl⟩) ?_
    refine lv_if_ne (tgt := 18) hx hb dX3_set_12 (by decide) (fun c4 => ?_) (fun c4 => ?_)
    · have h := pi_f c4 h
      refine lv_aload_n hx hb dX3_set_18 rfl (lv_at hl 0 rfl) ?_
      obtain ⟨⟨past_6, pasts_7⟩, e5, h⟩ := pb_some h
      refine m_callv (va_runV (As := []) (rest := []) ⟨hx, hb, hml, hown, hts⟩ (met_changes hD e5) (cwV 0 hts (lw_V q1331 q1333 qs25 q77 q1334) rfl rfl rfl hd_changes ⟨Nat.le_of_ble_eq_true rfl, Nat.le_of_ble_eq_true rfl⟩) (m_preV hK hP) rfl rfl hl.1 rfl (lv_room (Nat.le_of_ble_eq_true rfl)) dX3_set_19 ⟨Nat.le_of_ble_eq_true rfl, Nat.le_of_ble_eq_true rfl⟩) hS (fun H locs hP hS => ?_)
      refine lv_aload_n hx hb dX3_set_22 rfl (lv_at hl 0 rfl) ?_
      refine va_get (ci := 3) (v := .ref (a 1)) (C := RX3) (T := TX3) (N := 16) hx hb hts in_X3 hown hK hP 0 rfl rfl 0 (by decide) (hts _ q1273) (fun _ h9 => h9) rfl dX3_set_23 ?_
      refine lv_sipush (v := 283) hx hb dX3_set_26 (by decide) ?_
      refine m_iald (k := 283) hx hb hK hP 1 0 rfl rfl (by decide) (by decide) dX3_set_29 ?_
      refine lv_istore_n (lv' := [(3, .int (sA 283)), (0, .ref (a 0)), (1, .int x1), (2, .int x2)]) hx hb dX3_set_30 rfl hl (by decide) rfl (fun ls hl => ?_)
      refine lv_aload_n hx hb dX3_set_31 rfl (lv_at hl 1 rfl) ?_
      refine va_get (ci := 3) (v := .ref (a 1)) (C := RX3) (T := TX3) (N := 16) hx hb hts in_X3 hown hK hP 0 rfl rfl 0 (by decide) (hts _ q1273) (fun _ h9 => h9) rfl dX3_set_32 ?_
      refine lv_sipush (v := 283) hx hb dX3_set_35 (by decide) ?_
      refine lv_iload_n hx hb dX3_set_38 rfl (lv_at hl 3 rfl) ?_
      refine m_iast (k := 283) hx hb hK hP (hD _ _ _ _ _ _ _ _ _ _ _ _ _ _ _ _) hS 1 0 rfl rfl (by decide) (by decide) dX3_set_39 (fun H locs hP _ hS => ?_)
      have hP : va_P D gCl (mW dA a (upd sA 283 x2) past_6 held text parted asShown told pasts_7 runs typed spot from_ reason cause orders order) H := hP
      refine lv_iload_n hx hb dX3_set_40 rfl (lv_at hl 0 rfl) ?_
      cases h
      exact W.iret hx hb hr (fun t ht hW => ⟨⟨_, (), rfl, rfl, (show va_P D gCl _ t.heap from by rw [ht]; exact hP)⟩, hS.F ht⟩) hS.2.2 dX3_set_41
    · have h := pi_t c4 h
      refine lv_ldc hx hb hown (hts _ q1329) dX3_set_15 ?_
      cases h
      exact W.iret hx hb hr (fun t ht hW => ⟨⟨_, (), rfl, rfl, (show va_P D gCl _ t.heap from by rw [ht]; exact hP)⟩, hS.F ht⟩) hS.2.2 dX3_set_17
theorem hd_goesOn : yX3_goesOn.cls = RX3 ∧ yX3_goesOn.cls ≠ "java/lang/invoke/MethodHandle" ∧ yX3_goesOn.cls ≠ "java/lang/invoke/VarHandle" ∧ (parseMethodDescriptor yX3_goesOn.desc).map (fun d => d.parameters.length) = some 2 := by decide +kernel
set_option maxHeartbeats 4000000 in
set_option maxRecDepth 100000 in
theorem met_goesOn {l : Launch} {D : va_G} {dA : ClassId} {a : Nat → Nat} {sA past held text parted asShown told : Nat → Int32} {pasts runs typed spot from_ reason cause orders order : Int32} {x1 : Int32} {x2 : Int32} {b : Bool}  (h : m_goesOn sA x1 x2 = some b) : Met l yX3_goesOn (ws_ yX3_goesOn cX3_goesOn 3 (some .boolean)) ({ frames := 2, cells := 0, slots := 0, locals := 34 } : Room) (mPc [.ref (a 0), .int x1, .int x2] D dA a sA past held text parted asShown told pasts runs typed spot from_ reason cause orders order) (QcRead (bi b)) 0 0 (fun _ => False) := by
  refine Met.ofW (cc := cX3_goesOn) (maxL := 3) (ret := (some .boolean)) (by decide) rfl ?_
  intro p e s m args below meth c s₁ B hml hv
  obtain ⟨rfl, hP, hK⟩ := hv
  have hx := B.exec
  have hb := B.bytes
  have hr := B.returns
  have hts := atoms_spec (ws := ws_ yX3_goesOn cX3_goesOn 3 (some .boolean)) B.pre
  have hts : ∀ w ∈ lw_all, w.before _ s = true := fun w h => hts w (List.mem_cons_of_mem _ h)
  have hown : s.vm.findClass RX3 = some m.cls := findClass_of_methodNamed B.named
  have hlocks := B.notSynchronized
  have hl := lv_entry ([.ref (a 0), .int x1, .int x2]) (n := 3) (Nat.le_of_ble_eq_true rfl)
  rw [lg_entry_eq]
  generalize (lg_sl ([.ref (a 0), .int x1, .int x2]) ++ List.replicate (3 - (lg_sl ([.ref (a 0), .int x1, .int x2])).length) Slot.unset).toArray = ls at hl ⊢
  have hl : lv_has ls 3 [(0, .ref (a 0)), (1, .int x1), (2, .int x2)] := hl
  unfold m_goesOn at h
  refine lv_aload_n hx hb dX3_goesOn_0 rfl (lv_at hl 0 rfl) ?_
  refine lv_iload_n hx hb dX3_goesOn_1 rfl (lv_at hl 1 rfl) ?_
  refine lv_iconst (v := 0) hx hb dX3_goesOn_2 (by decide) ?_
  obtain ⟨r2, e1, h⟩ := pb_some h
  refine m_callR (W.runV (As := [.int x1, .int (0 : Int32)]) (rest := []) ⟨hx, hb, hml, hown, hts⟩ (met_of e1) (cwV 2 hts (lw_V q1339 q1341 qs27 q77 q1342) rfl rfl rfl hd_of ⟨Nat.le_of_ble_eq_true rfl, Nat.le_of_ble_eq_true rfl⟩) (m_preV hK hP) rfl rfl hl.1 rfl (lv_room (Nat.le_of_ble_eq_true rfl)) dX3_goesOn_3 ⟨Nat.le_of_ble_eq_true rfl, Nat.le_of_ble_eq_true rfl⟩) ?_
  refine lv_iload_n hx hb dX3_goesOn_6 rfl (lv_at hl 2 rfl) ?_
  refine lv_icmp_gt (tgt := 24) hx hb dX3_goesOn_7 (by decide) (fun c3 => ?_) (fun c3 => ?_)
  · have h := pi_t c3 h
    refine lv_iconst (v := 0) hx hb dX3_goesOn_24 (by decide) ?_
    cases h
    exact W.zret hx hb hr rfl (fun t ht hW => ⟨rfl, ht⟩) (fun q hq => absurd hq List.not_mem_nil) dX3_goesOn_25
  · have h := pi_f c3 h
    refine lv_iload_n hx hb dX3_goesOn_10 rfl (lv_at hl 2 rfl) ?_
    refine lv_aload_n hx hb dX3_goesOn_11 rfl (lv_at hl 0 rfl) ?_
    refine lv_iload_n hx hb dX3_goesOn_12 rfl (lv_at hl 1 rfl) ?_
    refine lv_iconst (v := 1) hx hb dX3_goesOn_13 (by decide) ?_
    obtain ⟨r5, e4, h⟩ := pb_some h
    refine m_callR (W.runV (As := [.int x1, .int (1 : Int32)]) (rest := [.int x2]) ⟨hx, hb, hml, hown, hts⟩ (met_of e4) (cwV 2 hts (lw_V q1339 q1341 qs27 q77 q1342) rfl rfl rfl hd_of ⟨Nat.le_of_ble_eq_true rfl, Nat.le_of_ble_eq_true rfl⟩) (m_preV hK hP) rfl rfl hl.1 rfl (lv_room (Nat.le_of_ble_eq_true rfl)) dX3_goesOn_14 ⟨Nat.le_of_ble_eq_true rfl, Nat.le_of_ble_eq_true rfl⟩) ?_
    refine lv_icmp_ge (tgt := 24) hx hb dX3_goesOn_17 (by decide) (fun c6 => ?_) (fun c6 => ?_)
    · have h := pi_t c6 h
      refine lv_iconst (v := 0) hx hb dX3_goesOn_24 (by decide) ?_
      cases h
      exact W.zret hx hb hr rfl (fun t ht hW => ⟨rfl, ht⟩) (fun q hq => absurd hq List.not_mem_nil) dX3_goesOn_25
    · have h := pi_f c6 h
      refine lv_iconst (v := 1) hx hb dX3_goesOn_20 (by decide) ?_
      refine lv_goto (tgt := 25) hx hb dX3_goesOn_21 (by decide) ?_
      cases h
      exact W.zret hx hb hr rfl (fun t ht hW => ⟨rfl, ht⟩) (fun q hq => absurd hq List.not_mem_nil) dX3_goesOn_25
theorem hd_going : yX3_going.cls = RX3 ∧ yX3_going.cls ≠ "java/lang/invoke/MethodHandle" ∧ yX3_going.cls ≠ "java/lang/invoke/VarHandle" ∧ (parseMethodDescriptor yX3_going.desc).map (fun d => d.parameters.length) = some 1 := by decide +kernel
set_option maxHeartbeats 4000000 in
set_option maxRecDepth 100000 in
theorem lp_going_1 {p : Program} {l : Launch} {e : Env} {s : State} {m : MethodId} {args : Array Value} {below : List Frame} {meth : Method} {c : Code} {D : va_G} {dA : ClassId} {a : Nat → Nat} {Q : State → Prop} (hx : p.tables.exec = Jvm.exec) (hb : c.code = cX3_going) (hml : c.maxLocals = 4) (hown : s.vm.findClass RX3 = some m.cls) (hts : ∀ w ∈ lw_all, w.before args s = true) {H : Heap} {locs : List Loc} {sA : Nat → Int32} {past : Nat → Int32} {held : Nat → Int32} {text : Nat → Int32} {parted : Nat → Int32} {asShown : Nat → Int32} {told : Nat → Int32} {pasts : Int32} {runs : Int32} {typed : Int32} {spot : Int32} {from_ : Int32} {reason : Int32} {cause : Int32} {orders : Int32} {order : Int32} (hK : va_K D gCl [(dA, .int)] s) (hP : va_P D gCl (mW dA a sA past held text parted asShown told pasts runs typed spot from_ reason cause orders order) H) {x1 : Int32} (nf : Nat) : ∀ (n : Nat) (y3 : Int32) (y2 : Int32) (z : Int32), m_going_L1 nf sA x1 n y3 y2 = some z → ∀ ls : Array Slot, lv_has ls 4 [(3, .int y3), (2, .int y2), (0, .ref (a 0)), (1, .int x1)] → (∀ ls : Array Slot, lv_has ls 4 [(2, .int z), (0, .ref (a 0)), (1, .int x1)] → W p l e ({ frames := 3, cells := 0, slots := 0, locals := 56 } : Room) s m args below meth c H locs 0 0 Q (F0 m 41 ls [])) → W p l e ({ frames := 3, cells := 0, slots := 0, locals := 56 } : Room) s m args below meth c H locs 0 0 Q (F0 m 4 ls []) := by
  intro n
  induction n with
  | zero => intro y3 y2 z h ls hl K; exact absurd h (by simp [m_going_L1])
  | succ n ih =>
    intro y3 y2 z h ls hl K
    unfold m_going_L1 at h
    refine lv_iload_n hx hb dX3_going_4 rfl (lv_at hl 0 rfl) ?_
    refine lv_aload_n hx hb dX3_going_5 rfl (lv_at hl 2 rfl) ?_
    refine va_get (ci := 3) (v := .ref (a 1)) (C := RX3) (T := TX3) (N := 16) hx hb hts in_X3 hown hK hP 0 rfl rfl 0 (by decide) (hts _ q1273) (fun _ h9 => h9) rfl dX3_going_6 ?_
    refine lv_sipush (v := 282) hx hb dX3_going_9 (by decide) ?_
    refine m_iald (k := 282) hx hb hK hP 1 0 rfl rfl (by decide) (by decide) dX3_going_12 ?_
    refine lv_icmp_ge (tgt := 41) hx hb dX3_going_13 (by decide) (fun c1 => ?_) (fun c1 => ?_)
    · have h := pi_t c1 h
      cases h
      exact K ls (lv_sub hl [1, 2, 3] rfl)
    · have h := pi_f c1 h
      refine lv_iload_n hx hb dX3_going_16 rfl (lv_at hl 1 rfl) ?_
      refine lv_aload_n hx hb dX3_going_17 rfl (lv_at hl 2 rfl) ?_
      refine lv_iload_n hx hb dX3_going_18 rfl (lv_at hl 0 rfl) ?_
      refine lv_iload_n hx hb dX3_going_19 rfl (lv_at hl 3 rfl) ?_
      obtain ⟨b3, e2, h⟩ := pb_some h
      refine m_callR (W.runV (As := [.int y3, .int x1]) (rest := [.int y2]) ⟨hx, hb, hml, hown, hts⟩ (met_goesOn e2) (cwV 2 hts (lw_V q1451 q1453 qs43 q77 q1454) rfl rfl rfl hd_goesOn ⟨Nat.le_of_ble_eq_true rfl, Nat.le_of_ble_eq_true rfl⟩) (m_preV hK hP) rfl rfl hl.1 rfl (lv_room (Nat.le_of_ble_eq_true rfl)) dX3_going_20 ⟨Nat.le_of_ble_eq_true rfl, Nat.le_of_ble_eq_true rfl⟩) ?_
      obtain ⟨j5, hj, h⟩ := pb_some h
      refine W.cut (g' := F0 m 33 ls [.int j5, .int y2]) ?_ (fun K => ?_)
      · refine lv_ior hx hb dX3_going_33 ?_
        refine lv_istore_n (lv' := [(2, .int (y2 ||| j5)), (3, .int y3), (0, .ref (a 0)), (1, .int x1)]) hx hb dX3_going_34 rfl hl (by decide) rfl (fun ls hl => ?_)
        refine lv_iinc (v := (y3 + (1 : Int32))) (lv' := [(3, .int (y3 + (1 : Int32))), (2, .int (y2 ||| j5)), (0, .ref (a 0)), (1, .int x1)]) hx hb dX3_going_35 hl (k := 1) rfl (by rfl) (by decide) rfl (fun ls hl => ?_)
        refine lv_goto (tgt := 4) hx hb dX3_going_38 (by decide) ?_
        exact ih _ _ _ h ls (lv_sub hl [0, 1, 2, 3] rfl) K
      · have h := hj
        refine lv_if_eq (tgt := 32) hx hb dX3_going_23 (by decide) (fun c4 => ?_) (fun c4 => ?_)
        · have h := pi_t c4 h
          refine lv_iconst (v := 0) hx hb dX3_going_32 (by decide) ?_
          cases h
          exact K
        · have h := pi_f c4 h
          refine lv_iconst (v := 1) hx hb dX3_going_26 (by decide) ?_
          refine lv_iload_n hx hb dX3_going_27 rfl (lv_at hl 0 rfl) ?_
          refine lv_ishl hx hb dX3_going_28 ?_
          refine lv_goto (tgt := 33) hx hb dX3_going_29 (by decide) ?_
          cases h
          exact K
set_option maxHeartbeats 4000000 in
set_option maxRecDepth 100000 in
theorem met_going {l : Launch} {D : va_G} {dA : ClassId} {a : Nat → Nat} {sA past held text parted asShown told : Nat → Int32} {pasts runs typed spot from_ reason cause orders order : Int32} {nf : Nat} {x1 : Int32} {r : Int32}  (h : m_going nf sA x1 = some r) : Met l yX3_going (ws_ yX3_going cX3_going 4 (some .int)) ({ frames := 3, cells := 0, slots := 0, locals := 56 } : Room) (mPc [.ref (a 0), .int x1] D dA a sA past held text parted asShown told pasts runs typed spot from_ reason cause orders order) (QcRead r) 0 0 (fun _ => False) := by
  refine Met.ofW (cc := cX3_going) (maxL := 4) (ret := (some .int)) (by decide) rfl ?_
  intro p e s m args below meth c s₁ B hml hv
  obtain ⟨rfl, hP, hK⟩ := hv
  have hx := B.exec
  have hb := B.bytes
  have hr := B.returns
  have hts := atoms_spec (ws := ws_ yX3_going cX3_going 4 (some .int)) B.pre
  have hts : ∀ w ∈ lw_all, w.before _ s = true := fun w h => hts w (List.mem_cons_of_mem _ h)
  have hown : s.vm.findClass RX3 = some m.cls := findClass_of_methodNamed B.named
  have hlocks := B.notSynchronized
  have hl := lv_entry ([.ref (a 0), .int x1]) (n := 4) (Nat.le_of_ble_eq_true rfl)
  rw [lg_entry_eq]
  generalize (lg_sl ([.ref (a 0), .int x1]) ++ List.replicate (4 - (lg_sl ([.ref (a 0), .int x1])).length) Slot.unset).toArray = ls at hl ⊢
  have hl : lv_has ls 4 [(0, .ref (a 0)), (1, .int x1)] := hl
  unfold m_going at h
  refine lv_iconst (v := 0) hx hb dX3_going_0 (by decide) ?_
  refine lv_istore_n (lv' := [(2, .int (0 : Int32)), (0, .ref (a 0)), (1, .int x1)]) hx hb dX3_going_1 rfl hl (by decide) rfl (fun ls hl => ?_)
  refine lv_iconst (v := 0) hx hb dX3_going_2 (by decide) ?_
  refine lv_istore_n (lv' := [(3, .int (0 : Int32)), (2, .int (0 : Int32)), (0, .ref (a 0)), (1, .int x1)]) hx hb dX3_going_3 rfl hl (by decide) rfl (fun ls hl => ?_)
  obtain ⟨o1, e501, h⟩ := pb_some h
  refine lp_going_1 hx hb hml hown hts hK hP _ _ _ _ _ e501 ls (lv_sub hl [0, 1, 2, 3] rfl) (fun ls hl => ?_)
  refine lv_iload_n hx hb dX3_going_41 rfl (lv_at hl 0 rfl) ?_
  cases h
  exact W.iret hx hb hr (fun t ht hW => ⟨rfl, ht⟩) (fun q hq => absurd hq List.not_mem_nil) dX3_going_42
theorem hd_alone : yX3_alone.cls = RX3 ∧ yX3_alone.cls ≠ "java/lang/invoke/MethodHandle" ∧ yX3_alone.cls ≠ "java/lang/invoke/VarHandle" ∧ (parseMethodDescriptor yX3_alone.desc).map (fun d => d.parameters.length) = some 1 := by decide +kernel
set_option maxHeartbeats 4000000 in
set_option maxRecDepth 100000 in
theorem lp_alone_1 {p : Program} {l : Launch} {e : Env} {s : State} {m : MethodId} {args : Array Value} {below : List Frame} {meth : Method} {c : Code} {D : va_G} {dA : ClassId} {a : Nat → Nat} {Q : State → Prop} (hx : p.tables.exec = Jvm.exec) (hb : c.code = cX3_alone) (hml : c.maxLocals = 4) (hown : s.vm.findClass RX3 = some m.cls) (hts : ∀ w ∈ lw_all, w.before args s = true) {H : Heap} {locs : List Loc} {sA : Nat → Int32} {past : Nat → Int32} {held : Nat → Int32} {text : Nat → Int32} {parted : Nat → Int32} {asShown : Nat → Int32} {told : Nat → Int32} {pasts : Int32} {runs : Int32} {typed : Int32} {spot : Int32} {from_ : Int32} {reason : Int32} {cause : Int32} {orders : Int32} {order : Int32} (hK : va_K D gCl [(dA, .int)] s) (hP : va_P D gCl (mW dA a sA past held text parted asShown told pasts runs typed spot from_ reason cause orders order) H) {x1 : Int32} (nf : Nat) : ∀ (n : Nat) (y3 : Int32) (y2 : Int32) (z : Int32), m_alone_L1 nf sA x1 n y3 y2 = some z → ∀ ls : Array Slot, lv_has ls 4 [(3, .int y3), (2, .int y2), (0, .ref (a 0)), (1, .int x1)] → (∀ ls : Array Slot, lv_has ls 4 [(2, .int z), (0, .ref (a 0)), (1, .int x1)] → W p l e ({ frames := 4, cells := 0, slots := 0, locals := 79 } : Room) s m args below meth c H locs 0 0 Q (F0 m 44 ls [])) → W p l e ({ frames := 4, cells := 0, slots := 0, locals := 79 } : Room) s m args below meth c H locs 0 0 Q (F0 m 9 ls []) := by
  intro n
  induction n with
  | zero => intro y3 y2 z h ls hl K; exact absurd h (by simp [m_alone_L1])
  | succ n ih =>
    intro y3 y2 z h ls hl K
    unfold m_alone_L1 at h
    refine lv_iload_n hx hb dX3_alone_9 rfl (lv_at hl 0 rfl) ?_
    refine lv_aload_n hx hb dX3_alone_10 rfl (lv_at hl 2 rfl) ?_
    refine lv_iload_n hx hb dX3_alone_11 rfl (lv_at hl 3 rfl) ?_
    refine lv_iconst (v := 1) hx hb dX3_alone_12 (by decide) ?_
    obtain ⟨r2, e1, h⟩ := pb_some h
    refine m_callR (W.runV (As := [.int x1, .int (1 : Int32)]) (rest := [.int y3]) ⟨hx, hb, hml, hown, hts⟩ (met_of e1) (cwV 2 hts (lw_V q1339 q1341 qs27 q77 q1342) rfl rfl rfl hd_of ⟨Nat.le_of_ble_eq_true rfl, Nat.le_of_ble_eq_true rfl⟩) (m_preV hK hP) rfl rfl hl.1 rfl (lv_room (Nat.le_of_ble_eq_true rfl)) dX3_alone_13 ⟨Nat.le_of_ble_eq_true rfl, Nat.le_of_ble_eq_true rfl⟩) ?_
    refine lv_icmp_ge (tgt := 44) hx hb dX3_alone_16 (by decide) (fun c3 => ?_) (fun c3 => ?_)
    · have h := pi_t c3 h
      cases h
      exact K ls (lv_sub hl [1, 2, 3] rfl)
    · have h := pi_f c3 h
      refine lv_iload_n hx hb dX3_alone_19 rfl (lv_at hl 1 rfl) ?_
      refine lv_aload_n hx hb dX3_alone_20 rfl (lv_at hl 2 rfl) ?_
      refine lv_iload_n hx hb dX3_alone_21 rfl (lv_at hl 0 rfl) ?_
      obtain ⟨r5, e4, h⟩ := pb_some h
      refine m_callR (W.runV (As := [.int y3]) (rest := [.int y2]) ⟨hx, hb, hml, hown, hts⟩ (met_going e4) (cwV 1 hts (lw_V q1447 q1449 qs42 q77 q1450) rfl rfl rfl hd_going ⟨Nat.le_of_ble_eq_true rfl, Nat.le_of_ble_eq_true rfl⟩) (m_preV hK hP) rfl rfl hl.1 rfl (lv_room (Nat.le_of_ble_eq_true rfl)) dX3_alone_22 ⟨Nat.le_of_ble_eq_true rfl, Nat.le_of_ble_eq_true rfl⟩) ?_
      refine lv_iconst (v := 1) hx hb dX3_alone_25 (by decide) ?_
      refine lv_iload_n hx hb dX3_alone_26 rfl (lv_at hl 3 rfl) ?_
      refine lv_ishl hx hb dX3_alone_27 ?_
      obtain ⟨j7, hj, h⟩ := pb_some h
      refine W.cut (g' := F0 m 36 ls [.int (bi j7), .int y2]) ?_ (fun K => ?_)
      · refine lv_iadd hx hb dX3_alone_36 ?_
        refine lv_istore_n (lv' := [(2, .int (y2 + (bi j7))), (3, .int y3), (0, .ref (a 0)), (1, .int x1)]) hx hb dX3_alone_37 rfl hl (by decide) rfl (fun ls hl => ?_)
        refine lv_iinc (v := (y3 + (1 : Int32))) (lv' := [(3, .int (y3 + (1 : Int32))), (2, .int (y2 + (bi j7))), (0, .ref (a 0)), (1, .int x1)]) hx hb dX3_alone_38 hl (k := 1) rfl (by rfl) (by decide) rfl (fun ls hl => ?_)
        refine lv_goto (tgt := 9) hx hb dX3_alone_41 (by decide) ?_
        exact ih _ _ _ h ls (lv_sub hl [0, 1, 2, 3] rfl) K
      · have h := hj
        refine lv_icmp_ne (tgt := 35) hx hb dX3_alone_28 (by decide) (fun c6 => ?_) (fun c6 => ?_)
        · have h := pi_f c6 h
          refine lv_iconst (v := 0) hx hb dX3_alone_35 (by decide) ?_
          cases h
          exact K
        · have h := pi_t c6 h
          refine lv_iconst (v := 1) hx hb dX3_alone_31 (by decide) ?_
          refine lv_goto (tgt := 36) hx hb dX3_alone_32 (by decide) ?_
          cases h
          exact K
set_option maxHeartbeats 4000000 in
set_option maxRecDepth 100000 in
theorem met_alone {l : Launch} {D : va_G} {dA : ClassId} {a : Nat → Nat} {sA past held text parted asShown told : Nat → Int32} {pasts runs typed spot from_ reason cause orders order : Int32} {nf : Nat} {x1 : Int32} {r : Int32}  (h : m_alone nf sA x1 = some r) : Met l yX3_alone (ws_ yX3_alone cX3_alone 4 (some .int)) ({ frames := 4, cells := 0, slots := 0, locals := 79 } : Room) (mPc [.ref (a 0), .int x1] D dA a sA past held text parted asShown told pasts runs typed spot from_ reason cause orders order) (QcRead r) 0 0 (fun _ => False) := by
  refine Met.ofW (cc := cX3_alone) (maxL := 4) (ret := (some .int)) (by decide) rfl ?_
  intro p e s m args below meth c s₁ B hml hv
  obtain ⟨rfl, hP, hK⟩ := hv
  have hx := B.exec
  have hb := B.bytes
  have hr := B.returns
  have hts := atoms_spec (ws := ws_ yX3_alone cX3_alone 4 (some .int)) B.pre
  have hts : ∀ w ∈ lw_all, w.before _ s = true := fun w h => hts w (List.mem_cons_of_mem _ h)
  have hown : s.vm.findClass RX3 = some m.cls := findClass_of_methodNamed B.named
  have hlocks := B.notSynchronized
  have hl := lv_entry ([.ref (a 0), .int x1]) (n := 4) (Nat.le_of_ble_eq_true rfl)
  rw [lg_entry_eq]
  generalize (lg_sl ([.ref (a 0), .int x1]) ++ List.replicate (4 - (lg_sl ([.ref (a 0), .int x1])).length) Slot.unset).toArray = ls at hl ⊢
  have hl : lv_has ls 4 [(0, .ref (a 0)), (1, .int x1)] := hl
  unfold m_alone at h
  refine lv_iconst (v := 0) hx hb dX3_alone_0 (by decide) ?_
  refine lv_istore_n (lv' := [(2, .int (0 : Int32)), (0, .ref (a 0)), (1, .int x1)]) hx hb dX3_alone_1 rfl hl (by decide) rfl (fun ls hl => ?_)
  refine lv_aload_n hx hb dX3_alone_2 rfl (lv_at hl 1 rfl) ?_
  refine lv_iload_n hx hb dX3_alone_3 rfl (lv_at hl 2 rfl) ?_
  refine lv_iconst (v := 0) hx hb dX3_alone_4 (by decide) ?_
  obtain ⟨r2, e1, h⟩ := pb_some h
  refine m_callR (W.runV (As := [.int x1, .int (0 : Int32)]) (rest := []) ⟨hx, hb, hml, hown, hts⟩ (met_of e1) (cwV 2 hts (lw_V q1339 q1341 qs27 q77 q1342) rfl rfl rfl hd_of ⟨Nat.le_of_ble_eq_true rfl, Nat.le_of_ble_eq_true rfl⟩) (m_preV hK hP) rfl rfl hl.1 rfl (lv_room (Nat.le_of_ble_eq_true rfl)) dX3_alone_5 ⟨Nat.le_of_ble_eq_true rfl, Nat.le_of_ble_eq_true rfl⟩) ?_
  refine lv_istore_n (lv' := [(3, .int r2), (2, .int (0 : Int32)), (0, .ref (a 0)), (1, .int x1)]) hx hb dX3_alone_8 rfl hl (by decide) rfl (fun ls hl => ?_)
  obtain ⟨o3, e501, h⟩ := pb_some h
  refine lp_alone_1 hx hb hml hown hts hK hP _ _ _ _ _ e501 ls (lv_sub hl [0, 1, 2, 3] rfl) (fun ls hl => ?_)
  refine lv_iload_n hx hb dX3_alone_44 rfl (lv_at hl 0 rfl) ?_
  cases h
  exact W.iret hx hb hr (fun t ht hW => ⟨rfl, ht⟩) (fun q hq => absurd hq List.not_mem_nil) dX3_alone_45
theorem hd_interrupt : yX3_interrupt.cls = RX3 ∧ yX3_interrupt.cls ≠ "java/lang/invoke/MethodHandle" ∧ yX3_interrupt.cls ≠ "java/lang/invoke/VarHandle" ∧ (parseMethodDescriptor yX3_interrupt.desc).map (fun d => d.parameters.length) = some 2 := by decide +kernel
set_option maxHeartbeats 4000000 in
set_option maxRecDepth 100000 in
theorem met_interrupt {l : Launch} {D : va_G} {dA : ClassId} {a : Nat → Nat} {sA past held text parted asShown told : Nat → Int32} {pasts runs typed spot from_ reason cause orders order : Int32} {x1 : Int32} {x2 : Int32} {b : Bool}  (h : m_interrupt sA x1 x2 = some b) : Met l yX3_interrupt (ws_ yX3_interrupt cX3_interrupt 4 (some .boolean)) ({ frames := 2, cells := 0, slots := 0, locals := 34 } : Room) (mPc [.ref (a 0), .int x1, .int x2] D dA a sA past held text parted asShown told pasts runs typed spot from_ reason cause orders order) (QcRead (bi b)) 0 0 (fun _ => False) := by
  refine Met.ofW (cc := cX3_interrupt) (maxL := 4) (ret := (some .boolean)) (by decide) rfl ?_
  intro p e s m args below meth c s₁ B hml hv
  obtain ⟨rfl, hP, hK⟩ := hv
  have hx := B.exec
  have hb := B.bytes
  have hr := B.returns
  have hts := atoms_spec (ws := ws_ yX3_interrupt cX3_interrupt 4 (some .boolean)) B.pre
  have hts : ∀ w ∈ lw_all, w.before _ s = true := fun w h => hts w (List.mem_cons_of_mem _ h)
  have hown : s.vm.findClass RX3 = some m.cls := findClass_of_methodNamed B.named
  have hlocks := B.notSynchronized
  have hl := lv_entry ([.ref (a 0), .int x1, .int x2]) (n := 4) (Nat.le_of_ble_eq_true rfl)
  rw [lg_entry_eq]
  generalize (lg_sl ([.ref (a 0), .int x1, .int x2]) ++ List.replicate (4 - (lg_sl ([.ref (a 0), .int x1, .int x2])).length) Slot.unset).toArray = ls at hl ⊢
  have hl : lv_has ls 4 [(0, .ref (a 0)), (1, .int x1), (2, .int x2)] := hl
  unfold m_interrupt at h
  refine lv_aload_n hx hb dX3_interrupt_0 rfl (lv_at hl 0 rfl) ?_
  refine lv_iload_n hx hb dX3_interrupt_1 rfl (lv_at hl 1 rfl) ?_
  refine lv_iconst (v := 0) hx hb dX3_interrupt_2 (by decide) ?_
  obtain ⟨r2, e1, h⟩ := pb_some h
  refine m_callR (W.runV (As := [.int x1, .int (0 : Int32)]) (rest := []) ⟨hx, hb, hml, hown, hts⟩ (met_of e1) (cwV 2 hts (lw_V q1339 q1341 qs27 q77 q1342) rfl rfl rfl hd_of ⟨Nat.le_of_ble_eq_true rfl, Nat.le_of_ble_eq_true rfl⟩) (m_preV hK hP) rfl rfl hl.1 rfl (lv_room (Nat.le_of_ble_eq_true rfl)) dX3_interrupt_3 ⟨Nat.le_of_ble_eq_true rfl, Nat.le_of_ble_eq_true rfl⟩) ?_
  refine lv_aload_n hx hb dX3_interrupt_6 rfl (lv_at hl 0 rfl) ?_
  refine lv_iload_n hx hb dX3_interrupt_7 rfl (lv_at hl 2 rfl) ?_
  refine lv_iconst (v := 0) hx hb dX3_interrupt_8 (by decide) ?_
  obtain ⟨r4, e3, h⟩ := pb_some h
  refine m_callR (W.runV (As := [.int x2, .int (0 : Int32)]) (rest := [.int r2]) ⟨hx, hb, hml, hown, hts⟩ (met_of e3) (cwV 2 hts (lw_V q1339 q1341 qs27 q77 q1342) rfl rfl rfl hd_of ⟨Nat.le_of_ble_eq_true rfl, Nat.le_of_ble_eq_true rfl⟩) (m_preV hK hP) rfl rfl hl.1 rfl (lv_room (Nat.le_of_ble_eq_true rfl)) dX3_interrupt_9 ⟨Nat.le_of_ble_eq_true rfl, Nat.le_of_ble_eq_true rfl⟩) ?_
  obtain ⟨j11, hj, h⟩ := pb_some h
  refine W.cut (g' := F0 m 35 ls [.int (bi j11)]) ?_ (fun K => ?_)
  · refine lv_istore_n (lv' := [(3, .int (bi j11)), (0, .ref (a 0)), (1, .int x1), (2, .int x2)]) hx hb dX3_interrupt_35 rfl hl (by decide) rfl (fun ls hl => ?_)
    refine lv_iload_n hx hb dX3_interrupt_36 rfl (lv_at hl 0 rfl) ?_
    refine lv_if_eq (tgt := 77) hx hb dX3_interrupt_37 (by decide) (fun c12 => ?_) (fun c12 => ?_)
    · have h := pi_t c12 h
      refine lv_iconst (v := 0) hx hb dX3_interrupt_77 (by decide) ?_
      cases h
      exact W.zret hx hb hr rfl (fun t ht hW => ⟨rfl, ht⟩) (fun q hq => absurd hq List.not_mem_nil) dX3_interrupt_78
    · have h := pi_f c12 h
      refine lv_aload_n hx hb dX3_interrupt_40 rfl (lv_at hl 1 rfl) ?_
      refine lv_iload_n hx hb dX3_interrupt_41 rfl (lv_at hl 2 rfl) ?_
      refine lv_iconst (v := 3) hx hb dX3_interrupt_42 (by decide) ?_
      obtain ⟨r14, e13, h⟩ := pb_some h
      refine m_callR (W.runV (As := [.int x1, .int (3 : Int32)]) (rest := []) ⟨hx, hb, hml, hown, hts⟩ (met_of e13) (cwV 2 hts (lw_V q1339 q1341 qs27 q77 q1342) rfl rfl rfl hd_of ⟨Nat.le_of_ble_eq_true rfl, Nat.le_of_ble_eq_true rfl⟩) (m_preV hK hP) rfl rfl hl.1 rfl (lv_room (Nat.le_of_ble_eq_true rfl)) dX3_interrupt_43 ⟨Nat.le_of_ble_eq_true rfl, Nat.le_of_ble_eq_true rfl⟩) ?_
      refine lv_if_lt (tgt := 77) hx hb dX3_interrupt_46 (by decide) (fun c15 => ?_) (fun c15 => ?_)
      · have h := pi_t c15 h
        refine lv_iconst (v := 0) hx hb dX3_interrupt_77 (by decide) ?_
        cases h
        exact W.zret hx hb hr rfl (fun t ht hW => ⟨rfl, ht⟩) (fun q hq => absurd hq List.not_mem_nil) dX3_interrupt_78
      · have h := pi_f c15 h
        refine lv_aload_n hx hb dX3_interrupt_49 rfl (lv_at hl 1 rfl) ?_
        refine lv_iload_n hx hb dX3_interrupt_50 rfl (lv_at hl 3 rfl) ?_
        refine lv_iconst (v := 3) hx hb dX3_interrupt_51 (by decide) ?_
        obtain ⟨r17, e16, h⟩ := pb_some h
        refine m_callR (W.runV (As := [.int x2, .int (3 : Int32)]) (rest := []) ⟨hx, hb, hml, hown, hts⟩ (met_of e16) (cwV 2 hts (lw_V q1339 q1341 qs27 q77 q1342) rfl rfl rfl hd_of ⟨Nat.le_of_ble_eq_true rfl, Nat.le_of_ble_eq_true rfl⟩) (m_preV hK hP) rfl rfl hl.1 rfl (lv_room (Nat.le_of_ble_eq_true rfl)) dX3_interrupt_52 ⟨Nat.le_of_ble_eq_true rfl, Nat.le_of_ble_eq_true rfl⟩) ?_
        refine lv_if_lt (tgt := 77) hx hb dX3_interrupt_55 (by decide) (fun c18 => ?_) (fun c18 => ?_)
        · have h := pi_t c18 h
          refine lv_iconst (v := 0) hx hb dX3_interrupt_77 (by decide) ?_
          cases h
          exact W.zret hx hb hr rfl (fun t ht hW => ⟨rfl, ht⟩) (fun q hq => absurd hq List.not_mem_nil) dX3_interrupt_78
        · have h := pi_f c18 h
          refine lv_aload_n hx hb dX3_interrupt_58 rfl (lv_at hl 1 rfl) ?_
          refine lv_iload_n hx hb dX3_interrupt_59 rfl (lv_at hl 2 rfl) ?_
          refine lv_iconst (v := 3) hx hb dX3_interrupt_60 (by decide) ?_
          obtain ⟨r20, e19, h⟩ := pb_some h
          refine m_callR (W.runV (As := [.int x1, .int (3 : Int32)]) (rest := []) ⟨hx, hb, hml, hown, hts⟩ (met_of e19) (cwV 2 hts (lw_V q1339 q1341 qs27 q77 q1342) rfl rfl rfl hd_of ⟨Nat.le_of_ble_eq_true rfl, Nat.le_of_ble_eq_true rfl⟩) (m_preV hK hP) rfl rfl hl.1 rfl (lv_room (Nat.le_of_ble_eq_true rfl)) dX3_interrupt_61 ⟨Nat.le_of_ble_eq_true rfl, Nat.le_of_ble_eq_true rfl⟩) ?_
          refine lv_aload_n hx hb dX3_interrupt_64 rfl (lv_at hl 1 rfl) ?_
          refine lv_iload_n hx hb dX3_interrupt_65 rfl (lv_at hl 3 rfl) ?_
          refine lv_iconst (v := 3) hx hb dX3_interrupt_66 (by decide) ?_
          obtain ⟨r22, e21, h⟩ := pb_some h
          refine m_callR (W.runV (As := [.int x2, .int (3 : Int32)]) (rest := [.int r20]) ⟨hx, hb, hml, hown, hts⟩ (met_of e21) (cwV 2 hts (lw_V q1339 q1341 qs27 q77 q1342) rfl rfl rfl hd_of ⟨Nat.le_of_ble_eq_true rfl, Nat.le_of_ble_eq_true rfl⟩) (m_preV hK hP) rfl rfl hl.1 rfl (lv_room (Nat.le_of_ble_eq_true rfl)) dX3_interrupt_67 ⟨Nat.le_of_ble_eq_true rfl, Nat.le_of_ble_eq_true rfl⟩) ?_
          refine lv_icmp_eq (tgt := 77) hx hb dX3_interrupt_70 (by decide) (fun c23 => ?_) (fun c23 => ?_)
          · have h := pi_t c23 h
            refine lv_iconst (v := 0) hx hb dX3_interrupt_77 (by decide) ?_
            cases h
            exact W.zret hx hb hr rfl (fun t ht hW => ⟨rfl, ht⟩) (fun q hq => absurd hq List.not_mem_nil) dX3_interrupt_78
          · have h := pi_f c23 h
            refine lv_iconst (v := 1) hx hb dX3_interrupt_73 (by decide) ?_
            refine lv_goto (tgt := 78) hx hb dX3_interrupt_74 (by decide) ?_
            cases h
            exact W.zret hx hb hr rfl (fun t ht hW => ⟨rfl, ht⟩) (fun q hq => absurd hq List.not_mem_nil) dX3_interrupt_78
  · have h := hj
    refine lv_icmp_le (tgt := 34) hx hb dX3_interrupt_12 (by decide) (fun c5 => ?_) (fun c5 => ?_)
    · have h := pi_t c5 h
      refine lv_iconst (v := 0) hx hb dX3_interrupt_34 (by decide) ?_
      cases h
      exact K
    · have h := pi_f c5 h
      refine lv_aload_n hx hb dX3_interrupt_15 rfl (lv_at hl 0 rfl) ?_
      refine lv_iload_n hx hb dX3_interrupt_16 rfl (lv_at hl 1 rfl) ?_
      refine lv_iconst (v := 0) hx hb dX3_interrupt_17 (by decide) ?_
      obtain ⟨r7, e6, h⟩ := pb_some h
      refine m_callR (W.runV (As := [.int x1, .int (0 : Int32)]) (rest := []) ⟨hx, hb, hml, hown, hts⟩ (met_of e6) (cwV 2 hts (lw_V q1339 q1341 qs27 q77 q1342) rfl rfl rfl hd_of ⟨Nat.le_of_ble_eq_true rfl, Nat.le_of_ble_eq_true rfl⟩) (m_preV hK hP) rfl rfl hl.1 rfl (lv_room (Nat.le_of_ble_eq_true rfl)) dX3_interrupt_18 ⟨Nat.le_of_ble_eq_true rfl, Nat.le_of_ble_eq_true rfl⟩) ?_
      refine lv_aload_n hx hb dX3_interrupt_21 rfl (lv_at hl 0 rfl) ?_
      refine lv_iload_n hx hb dX3_interrupt_22 rfl (lv_at hl 2 rfl) ?_
      refine lv_iconst (v := 1) hx hb dX3_interrupt_23 (by decide) ?_
      obtain ⟨r9, e8, h⟩ := pb_some h
      refine m_callR (W.runV (As := [.int x2, .int (1 : Int32)]) (rest := [.int r7]) ⟨hx, hb, hml, hown, hts⟩ (met_of e8) (cwV 2 hts (lw_V q1339 q1341 qs27 q77 q1342) rfl rfl rfl hd_of ⟨Nat.le_of_ble_eq_true rfl, Nat.le_of_ble_eq_true rfl⟩) (m_preV hK hP) rfl rfl hl.1 rfl (lv_room (Nat.le_of_ble_eq_true rfl)) dX3_interrupt_24 ⟨Nat.le_of_ble_eq_true rfl, Nat.le_of_ble_eq_true rfl⟩) ?_
      refine lv_icmp_ge (tgt := 34) hx hb dX3_interrupt_27 (by decide) (fun c10 => ?_) (fun c10 => ?_)
      · have h := pi_t c10 h
        refine lv_iconst (v := 0) hx hb dX3_interrupt_34 (by decide) ?_
        cases h
        exact K
      · have h := pi_f c10 h
        refine lv_iconst (v := 1) hx hb dX3_interrupt_30 (by decide) ?_
        refine lv_goto (tgt := 35) hx hb dX3_interrupt_31 (by decide) ?_
        cases h
        exact K
theorem hd_overlap : yX3_overlap.cls = RX3 ∧ yX3_overlap.cls ≠ "java/lang/invoke/MethodHandle" ∧ yX3_overlap.cls ≠ "java/lang/invoke/VarHandle" ∧ (parseMethodDescriptor yX3_overlap.desc).map (fun d => d.parameters.length) = some 2 := by decide +kernel
set_option maxHeartbeats 4000000 in
set_option maxRecDepth 100000 in
theorem met_overlap {l : Launch} {D : va_G} {dA : ClassId} {a : Nat → Nat} {sA past held text parted asShown told : Nat → Int32} {pasts runs typed spot from_ reason cause orders order : Int32} {x1 : Int32} {x2 : Int32} {b : Bool}  (h : m_overlap sA x1 x2 = some b) : Met l yX3_overlap (ws_ yX3_overlap cX3_overlap 3 (some .boolean)) ({ frames := 2, cells := 0, slots := 0, locals := 34 } : Room) (mPc [.ref (a 0), .int x1, .int x2] D dA a sA past held text parted asShown told pasts runs typed spot from_ reason cause orders order) (QcRead (bi b)) 0 0 (fun _ => False) := by
  refine Met.ofW (cc := cX3_overlap) (maxL := 3) (ret := (some .boolean)) (by decide) rfl ?_
  intro p e s m args below meth c s₁ B hml hv
  obtain ⟨rfl, hP, hK⟩ := hv
  have hx := B.exec
  have hb := B.bytes
  have hr := B.returns
  have hts := atoms_spec (ws := ws_ yX3_overlap cX3_overlap 3 (some .boolean)) B.pre
  have hts : ∀ w ∈ lw_all, w.before _ s = true := fun w h => hts w (List.mem_cons_of_mem _ h)
  have hown : s.vm.findClass RX3 = some m.cls := findClass_of_methodNamed B.named
  have hlocks := B.notSynchronized
  have hl := lv_entry ([.ref (a 0), .int x1, .int x2]) (n := 3) (Nat.le_of_ble_eq_true rfl)
  rw [lg_entry_eq]
  generalize (lg_sl ([.ref (a 0), .int x1, .int x2]) ++ List.replicate (3 - (lg_sl ([.ref (a 0), .int x1, .int x2])).length) Slot.unset).toArray = ls at hl ⊢
  have hl : lv_has ls 3 [(0, .ref (a 0)), (1, .int x1), (2, .int x2)] := hl
  unfold m_overlap at h
  refine lv_iload_n hx hb dX3_overlap_0 rfl (lv_at hl 1 rfl) ?_
  refine lv_iload_n hx hb dX3_overlap_1 rfl (lv_at hl 2 rfl) ?_
  refine lv_icmp_eq (tgt := 39) hx hb dX3_overlap_2 (by decide) (fun c1 => ?_) (fun c1 => ?_)
  · have h := pi_t c1 h
    refine lv_iconst (v := 0) hx hb dX3_overlap_39 (by decide) ?_
    cases h
    exact W.zret hx hb hr rfl (fun t ht hW => ⟨rfl, ht⟩) (fun q hq => absurd hq List.not_mem_nil) dX3_overlap_40
  · have h := pi_f c1 h
    refine lv_aload_n hx hb dX3_overlap_5 rfl (lv_at hl 0 rfl) ?_
    refine lv_iload_n hx hb dX3_overlap_6 rfl (lv_at hl 1 rfl) ?_
    refine lv_iconst (v := 0) hx hb dX3_overlap_7 (by decide) ?_
    obtain ⟨r3, e2, h⟩ := pb_some h
    refine m_callR (W.runV (As := [.int x1, .int (0 : Int32)]) (rest := []) ⟨hx, hb, hml, hown, hts⟩ (met_of e2) (cwV 2 hts (lw_V q1339 q1341 qs27 q77 q1342) rfl rfl rfl hd_of ⟨Nat.le_of_ble_eq_true rfl, Nat.le_of_ble_eq_true rfl⟩) (m_preV hK hP) rfl rfl hl.1 rfl (lv_room (Nat.le_of_ble_eq_true rfl)) dX3_overlap_8 ⟨Nat.le_of_ble_eq_true rfl, Nat.le_of_ble_eq_true rfl⟩) ?_
    refine lv_aload_n hx hb dX3_overlap_11 rfl (lv_at hl 0 rfl) ?_
    refine lv_iload_n hx hb dX3_overlap_12 rfl (lv_at hl 2 rfl) ?_
    refine lv_iconst (v := 1) hx hb dX3_overlap_13 (by decide) ?_
    obtain ⟨r5, e4, h⟩ := pb_some h
    refine m_callR (W.runV (As := [.int x2, .int (1 : Int32)]) (rest := [.int r3]) ⟨hx, hb, hml, hown, hts⟩ (met_of e4) (cwV 2 hts (lw_V q1339 q1341 qs27 q77 q1342) rfl rfl rfl hd_of ⟨Nat.le_of_ble_eq_true rfl, Nat.le_of_ble_eq_true rfl⟩) (m_preV hK hP) rfl rfl hl.1 rfl (lv_room (Nat.le_of_ble_eq_true rfl)) dX3_overlap_14 ⟨Nat.le_of_ble_eq_true rfl, Nat.le_of_ble_eq_true rfl⟩) ?_
    refine lv_icmp_ge (tgt := 39) hx hb dX3_overlap_17 (by decide) (fun c6 => ?_) (fun c6 => ?_)
    · have h := pi_t c6 h
      refine lv_iconst (v := 0) hx hb dX3_overlap_39 (by decide) ?_
      cases h
      exact W.zret hx hb hr rfl (fun t ht hW => ⟨rfl, ht⟩) (fun q hq => absurd hq List.not_mem_nil) dX3_overlap_40
    · have h := pi_f c6 h
      refine lv_aload_n hx hb dX3_overlap_20 rfl (lv_at hl 0 rfl) ?_
      refine lv_iload_n hx hb dX3_overlap_21 rfl (lv_at hl 2 rfl) ?_
      refine lv_iconst (v := 0) hx hb dX3_overlap_22 (by decide) ?_
      obtain ⟨r8, e7, h⟩ := pb_some h
      refine m_callR (W.runV (As := [.int x2, .int (0 : Int32)]) (rest := []) ⟨hx, hb, hml, hown, hts⟩ (met_of e7) (cwV 2 hts (lw_V q1339 q1341 qs27 q77 q1342) rfl rfl rfl hd_of ⟨Nat.le_of_ble_eq_true rfl, Nat.le_of_ble_eq_true rfl⟩) (m_preV hK hP) rfl rfl hl.1 rfl (lv_room (Nat.le_of_ble_eq_true rfl)) dX3_overlap_23 ⟨Nat.le_of_ble_eq_true rfl, Nat.le_of_ble_eq_true rfl⟩) ?_
      refine lv_aload_n hx hb dX3_overlap_26 rfl (lv_at hl 0 rfl) ?_
      refine lv_iload_n hx hb dX3_overlap_27 rfl (lv_at hl 1 rfl) ?_
      refine lv_iconst (v := 1) hx hb dX3_overlap_28 (by decide) ?_
      obtain ⟨r10, e9, h⟩ := pb_some h
      refine m_callR (W.runV (As := [.int x1, .int (1 : Int32)]) (rest := [.int r8]) ⟨hx, hb, hml, hown, hts⟩ (met_of e9) (cwV 2 hts (lw_V q1339 q1341 qs27 q77 q1342) rfl rfl rfl hd_of ⟨Nat.le_of_ble_eq_true rfl, Nat.le_of_ble_eq_true rfl⟩) (m_preV hK hP) rfl rfl hl.1 rfl (lv_room (Nat.le_of_ble_eq_true rfl)) dX3_overlap_29 ⟨Nat.le_of_ble_eq_true rfl, Nat.le_of_ble_eq_true rfl⟩) ?_
      refine lv_icmp_ge (tgt := 39) hx hb dX3_overlap_32 (by decide) (fun c11 => ?_) (fun c11 => ?_)
      · have h := pi_t c11 h
        refine lv_iconst (v := 0) hx hb dX3_overlap_39 (by decide) ?_
        cases h
        exact W.zret hx hb hr rfl (fun t ht hW => ⟨rfl, ht⟩) (fun q hq => absurd hq List.not_mem_nil) dX3_overlap_40
      · have h := pi_f c11 h
        refine lv_iconst (v := 1) hx hb dX3_overlap_35 (by decide) ?_
        refine lv_goto (tgt := 40) hx hb dX3_overlap_36 (by decide) ?_
        cases h
        exact W.zret hx hb hr rfl (fun t ht hW => ⟨rfl, ht⟩) (fun q hq => absurd hq List.not_mem_nil) dX3_overlap_40
theorem hd_overlapping : yX3_overlapping.cls = RX3 ∧ yX3_overlapping.cls ≠ "java/lang/invoke/MethodHandle" ∧ yX3_overlapping.cls ≠ "java/lang/invoke/VarHandle" ∧ (parseMethodDescriptor yX3_overlapping.desc).map (fun d => d.parameters.length) = some 2 := by decide +kernel
set_option maxHeartbeats 4000000 in
set_option maxRecDepth 100000 in
theorem lp_overlapping_1 {p : Program} {l : Launch} {e : Env} {s : State} {m : MethodId} {args : Array Value} {below : List Frame} {meth : Method} {c : Code} {D : va_G} {dA : ClassId} {a : Nat → Nat} {Q : State → Prop} (hx : p.tables.exec = Jvm.exec) (hb : c.code = cX3_overlapping) (hml : c.maxLocals = 5) (hown : s.vm.findClass RX3 = some m.cls) (hts : ∀ w ∈ lw_all, w.before args s = true) {H : Heap} {locs : List Loc} {sA : Nat → Int32} {past : Nat → Int32} {held : Nat → Int32} {text : Nat → Int32} {parted : Nat → Int32} {asShown : Nat → Int32} {told : Nat → Int32} {pasts : Int32} {runs : Int32} {typed : Int32} {spot : Int32} {from_ : Int32} {reason : Int32} {cause : Int32} {orders : Int32} {order : Int32} (hK : va_K D gCl [(dA, .int)] s) (hP : va_P D gCl (mW dA a sA past held text parted asShown told pasts runs typed spot from_ reason cause orders order) H) {x1 : Int32} {x2 : Int32} (nf : Nat) : ∀ (n : Nat) (y4 : Int32) (y3 : Int32) (z : Int32), m_overlapping_L1 nf sA x1 x2 n y4 y3 = some z → ∀ ls : Array Slot, lv_has ls 5 [(4, .int y4), (3, .int y3), (0, .ref (a 0)), (1, .int x1), (2, .int x2)] → (∀ ls : Array Slot, lv_has ls 5 [(3, .int z), (0, .ref (a 0)), (1, .int x1), (2, .int x2)] → W p l e ({ frames := 3, cells := 0, slots := 0, locals := 57 } : Room) s m args below meth c H locs 0 0 Q (F0 m 62 ls [])) → W p l e ({ frames := 3, cells := 0, slots := 0, locals := 57 } : Room) s m args below meth c H locs 0 0 Q (F0 m 5 ls []) := by
  intro n
  induction n with
  | zero => intro y4 y3 z h ls hl K; exact absurd h (by simp [m_overlapping_L1])
  | succ n ih =>
    intro y4 y3 z h ls hl K
    unfold m_overlapping_L1 at h
    refine lv_iload hx hb dX3_overlapping_5 (lv_at hl 0 rfl) ?_
    refine lv_aload_n hx hb dX3_overlapping_7 rfl (lv_at hl 2 rfl) ?_
    refine va_get (ci := 3) (v := .ref (a 1)) (C := RX3) (T := TX3) (N := 16) hx hb hts in_X3 hown hK hP 0 rfl rfl 0 (by decide) (hts _ q1273) (fun _ h9 => h9) rfl dX3_overlapping_8 ?_
    refine lv_sipush (v := 282) hx hb dX3_overlapping_11 (by decide) ?_
    refine m_iald (k := 282) hx hb hK hP 1 0 rfl rfl (by decide) (by decide) dX3_overlapping_14 ?_
    refine lv_icmp_ge (tgt := 62) hx hb dX3_overlapping_15 (by decide) (fun c1 => ?_) (fun c1 => ?_)
    · have h := pi_t c1 h
      cases h
      exact K ls (lv_sub hl [1, 2, 3, 4] rfl)
    · have h := pi_f c1 h
      refine lv_iload_n hx hb dX3_overlapping_18 rfl (lv_at hl 1 rfl) ?_
      refine lv_iload_n hx hb dX3_overlapping_19 rfl (lv_at hl 4 rfl) ?_
      obtain ⟨j9, hj, h⟩ := pb_some h
      refine W.cut (g' := F0 m 54 ls [.int j9, .int y3]) ?_ (fun K => ?_)
      · refine lv_ior hx hb dX3_overlapping_54 ?_
        refine lv_istore_n (lv' := [(3, .int (y3 ||| j9)), (4, .int y4), (0, .ref (a 0)), (1, .int x1), (2, .int x2)]) hx hb dX3_overlapping_55 rfl hl (by decide) rfl (fun ls hl => ?_)
        refine lv_iinc (v := (y4 + (1 : Int32))) (lv' := [(4, .int (y4 + (1 : Int32))), (3, .int (y3 ||| j9)), (0, .ref (a 0)), (1, .int x1), (2, .int x2)]) hx hb dX3_overlapping_56 hl (k := 1) rfl (by rfl) (by decide) rfl (fun ls hl => ?_)
        refine lv_goto (tgt := 5) hx hb dX3_overlapping_59 (by decide) ?_
        exact ih _ _ _ h ls (lv_sub hl [0, 1, 2, 3, 4] rfl) K
      · have h := hj
        refine lv_if_eq (tgt := 36) hx hb dX3_overlapping_20 (by decide) (fun c2 => ?_) (fun c2 => ?_)
        · have h := pi_t c2 h
          refine lv_aload_n hx hb dX3_overlapping_36 rfl (lv_at hl 2 rfl) ?_
          refine lv_iload_n hx hb dX3_overlapping_37 rfl (lv_at hl 3 rfl) ?_
          refine lv_iload hx hb dX3_overlapping_38 (lv_at hl 0 rfl) ?_
          obtain ⟨b4, e3, h⟩ := pb_some h
          refine m_callR (W.runV (As := [.int x1, .int y4]) (rest := [.int y3]) ⟨hx, hb, hml, hown, hts⟩ (met_overlap e3) (cwV 2 hts (lw_V q1439 q1441 qs40 q77 q1442) rfl rfl rfl hd_overlap ⟨Nat.le_of_ble_eq_true rfl, Nat.le_of_ble_eq_true rfl⟩) (m_preV hK hP) rfl rfl hl.1 rfl (lv_room (Nat.le_of_ble_eq_true rfl)) dX3_overlapping_40 ⟨Nat.le_of_ble_eq_true rfl, Nat.le_of_ble_eq_true rfl⟩) ?_
          refine lv_if_eq (tgt := 53) hx hb dX3_overlapping_43 (by decide) (fun c5 => ?_) (fun c5 => ?_)
          · have h := pi_t c5 h
            refine lv_iconst (v := 0) hx hb dX3_overlapping_53 (by decide) ?_
            cases h
            exact K
          · have h := pi_f c5 h
            refine lv_iconst (v := 1) hx hb dX3_overlapping_46 (by decide) ?_
            refine lv_iload hx hb dX3_overlapping_47 (lv_at hl 0 rfl) ?_
            refine lv_ishl hx hb dX3_overlapping_49 ?_
            refine lv_goto (tgt := 54) hx hb dX3_overlapping_50 (by decide) ?_
            cases h
            exact K
        · have h := pi_f c2 h
          refine lv_aload_n hx hb dX3_overlapping_23 rfl (lv_at hl 2 rfl) ?_
          refine lv_iload_n hx hb dX3_overlapping_24 rfl (lv_at hl 3 rfl) ?_
          refine lv_iload hx hb dX3_overlapping_25 (lv_at hl 0 rfl) ?_
          obtain ⟨b7, e6, h⟩ := pb_some h
          refine m_callR (W.runV (As := [.int x1, .int y4]) (rest := [.int y3]) ⟨hx, hb, hml, hown, hts⟩ (met_interrupt e6) (cwV 2 hts (lw_V q1435 q1437 qs39 q77 q1438) rfl rfl rfl hd_interrupt ⟨Nat.le_of_ble_eq_true rfl, Nat.le_of_ble_eq_true rfl⟩) (m_preV hK hP) rfl rfl hl.1 rfl (lv_room (Nat.le_of_ble_eq_true rfl)) dX3_overlapping_27 ⟨Nat.le_of_ble_eq_true rfl, Nat.le_of_ble_eq_true rfl⟩) ?_
          refine lv_if_eq (tgt := 53) hx hb dX3_overlapping_30 (by decide) (fun c8 => ?_) (fun c8 => ?_)
          · have h := pi_t c8 h
            refine lv_iconst (v := 0) hx hb dX3_overlapping_53 (by decide) ?_
            cases h
            exact K
          · have h := pi_f c8 h
            refine lv_goto (tgt := 46) hx hb dX3_overlapping_33 (by decide) ?_
            refine lv_iconst (v := 1) hx hb dX3_overlapping_46 (by decide) ?_
            refine lv_iload hx hb dX3_overlapping_47 (lv_at hl 0 rfl) ?_
            refine lv_ishl hx hb dX3_overlapping_49 ?_
            refine lv_goto (tgt := 54) hx hb dX3_overlapping_50 (by decide) ?_
            cases h
            exact K
set_option maxHeartbeats 4000000 in
set_option maxRecDepth 100000 in
theorem met_overlapping {l : Launch} {D : va_G} {dA : ClassId} {a : Nat → Nat} {sA past held text parted asShown told : Nat → Int32} {pasts runs typed spot from_ reason cause orders order : Int32} {nf : Nat} {x1 : Int32} {x2 : Int32} {r : Int32}  (h : m_overlapping nf sA x1 x2 = some r) : Met l yX3_overlapping (ws_ yX3_overlapping cX3_overlapping 5 (some .int)) ({ frames := 3, cells := 0, slots := 0, locals := 57 } : Room) (mPc [.ref (a 0), .int x1, .int x2] D dA a sA past held text parted asShown told pasts runs typed spot from_ reason cause orders order) (QcRead r) 0 0 (fun _ => False) := by
  refine Met.ofW (cc := cX3_overlapping) (maxL := 5) (ret := (some .int)) (by decide) rfl ?_
  intro p e s m args below meth c s₁ B hml hv
  obtain ⟨rfl, hP, hK⟩ := hv
  have hx := B.exec
  have hb := B.bytes
  have hr := B.returns
  have hts := atoms_spec (ws := ws_ yX3_overlapping cX3_overlapping 5 (some .int)) B.pre
  have hts : ∀ w ∈ lw_all, w.before _ s = true := fun w h => hts w (List.mem_cons_of_mem _ h)
  have hown : s.vm.findClass RX3 = some m.cls := findClass_of_methodNamed B.named
  have hlocks := B.notSynchronized
  have hl := lv_entry ([.ref (a 0), .int x1, .int x2]) (n := 5) (Nat.le_of_ble_eq_true rfl)
  rw [lg_entry_eq]
  generalize (lg_sl ([.ref (a 0), .int x1, .int x2]) ++ List.replicate (5 - (lg_sl ([.ref (a 0), .int x1, .int x2])).length) Slot.unset).toArray = ls at hl ⊢
  have hl : lv_has ls 5 [(0, .ref (a 0)), (1, .int x1), (2, .int x2)] := hl
  unfold m_overlapping at h
  refine lv_iconst (v := 0) hx hb dX3_overlapping_0 (by decide) ?_
  refine lv_istore_n (lv' := [(3, .int (0 : Int32)), (0, .ref (a 0)), (1, .int x1), (2, .int x2)]) hx hb dX3_overlapping_1 rfl hl (by decide) rfl (fun ls hl => ?_)
  refine lv_iconst (v := 0) hx hb dX3_overlapping_2 (by decide) ?_
  refine lv_istore (lv' := [(4, .int (0 : Int32)), (3, .int (0 : Int32)), (0, .ref (a 0)), (1, .int x1), (2, .int x2)]) hx hb dX3_overlapping_3 hl (by decide) rfl (fun ls hl => ?_)
  obtain ⟨o1, e501, h⟩ := pb_some h
  refine lp_overlapping_1 hx hb hml hown hts hK hP _ _ _ _ _ e501 ls (lv_sub hl [0, 1, 2, 3, 4] rfl) (fun ls hl => ?_)
  refine lv_iload_n hx hb dX3_overlapping_62 rfl (lv_at hl 0 rfl) ?_
  cases h
  exact W.iret hx hb hr (fun t ht hW => ⟨rfl, ht⟩) (fun q hq => absurd hq List.not_mem_nil) dX3_overlapping_63
theorem hd_turnOf : yX3_turnOf.cls = RX3 ∧ yX3_turnOf.cls ≠ "java/lang/invoke/MethodHandle" ∧ yX3_turnOf.cls ≠ "java/lang/invoke/VarHandle" ∧ (parseMethodDescriptor yX3_turnOf.desc).map (fun d => d.parameters.length) = some 2 := by decide +kernel
set_option maxHeartbeats 4000000 in
set_option maxRecDepth 100000 in
theorem met_turnOf {l : Launch} {D : va_G} {dA : ClassId} {a : Nat → Nat} {sA past held text parted asShown told : Nat → Int32} {pasts runs typed spot from_ reason cause orders order : Int32} {nf : Nat} {x1 : Int32} {x2 : Int32} {r : Int32}  (h : m_turnOf nf sA x1 x2 = some r) : Met l yX3_turnOf (ws_ yX3_turnOf cX3_turnOf 3 (some .int)) ({ frames := 5, cells := 0, slots := 0, locals := 102 } : Room) (mPc [.ref (a 0), .int x1, .int x2] D dA a sA past held text parted asShown told pasts runs typed spot from_ reason cause orders order) (QcRead r) 0 0 (fun _ => False) := by
  refine Met.ofW (cc := cX3_turnOf) (maxL := 3) (ret := (some .int)) (by decide) rfl ?_
  intro p e s m args below meth c s₁ B hml hv
  obtain ⟨rfl, hP, hK⟩ := hv
  have hx := B.exec
  have hb := B.bytes
  have hr := B.returns
  have hts := atoms_spec (ws := ws_ yX3_turnOf cX3_turnOf 3 (some .int)) B.pre
  have hts : ∀ w ∈ lw_all, w.before _ s = true := fun w h => hts w (List.mem_cons_of_mem _ h)
  have hown : s.vm.findClass RX3 = some m.cls := findClass_of_methodNamed B.named
  have hlocks := B.notSynchronized
  have hl := lv_entry ([.ref (a 0), .int x1, .int x2]) (n := 3) (Nat.le_of_ble_eq_true rfl)
  rw [lg_entry_eq]
  generalize (lg_sl ([.ref (a 0), .int x1, .int x2]) ++ List.replicate (3 - (lg_sl ([.ref (a 0), .int x1, .int x2])).length) Slot.unset).toArray = ls at hl ⊢
  have hl : lv_has ls 3 [(0, .ref (a 0)), (1, .int x1), (2, .int x2)] := hl
  unfold m_turnOf at h
  refine lv_aload_n hx hb dX3_turnOf_0 rfl (lv_at hl 0 rfl) ?_
  refine lv_iload_n hx hb dX3_turnOf_1 rfl (lv_at hl 1 rfl) ?_
  obtain ⟨b2, e1, h⟩ := pb_some h
  refine m_callR (W.runV (As := [.int x1]) (rest := []) ⟨hx, hb, hml, hown, hts⟩ (met_isTurn e1) (cwV 1 hts (lw_V q1358 q1360 qs30 q77 q1361) rfl rfl rfl hd_isTurn ⟨Nat.le_of_ble_eq_true rfl, Nat.le_of_ble_eq_true rfl⟩) (m_preV hK hP) rfl rfl hl.1 rfl (lv_room (Nat.le_of_ble_eq_true rfl)) dX3_turnOf_2 ⟨Nat.le_of_ble_eq_true rfl, Nat.le_of_ble_eq_true rfl⟩) ?_
  refine lv_if_eq (tgt := 18) hx hb dX3_turnOf_5 (by decide) (fun c3 => ?_) (fun c3 => ?_)
  · have h := pi_t c3 h
    refine lv_ldc hx hb hown (hts _ q1329) dX3_turnOf_18 ?_
    cases h
    exact W.iret hx hb hr (fun t ht hW => ⟨rfl, ht⟩) (fun q hq => absurd hq List.not_mem_nil) dX3_turnOf_20
  · have h := pi_f c3 h
    refine lv_iload_n hx hb dX3_turnOf_8 rfl (lv_at hl 2 rfl) ?_
    refine lv_iconst (v := 0) hx hb dX3_turnOf_9 (by decide) ?_
    refine lv_bipush (v := 7) hx hb dX3_turnOf_10 (by decide) ?_
    obtain ⟨b5, e4, h⟩ := pb_some h
    refine m_callR (W.runS (As := [.int x2, .int (0 : Int32), .int (7 : Int32)]) (rest := []) ⟨hx, hb, hml, hown, hts⟩ (met_in e4) (va_cwS 3 hts (lw_S q1326 q1327 q77 q1328) rfl rfl rfl hd_in ⟨Nat.le_of_ble_eq_true rfl, Nat.le_of_ble_eq_true rfl⟩) m_preS rfl rfl hl.1 rfl (lv_room (Nat.le_of_ble_eq_true rfl)) dX3_turnOf_12 ⟨Nat.le_of_ble_eq_true rfl, Nat.le_of_ble_eq_true rfl⟩) ?_
    refine lv_if_ne (tgt := 21) hx hb dX3_turnOf_15 (by decide) (fun c6 => ?_) (fun c6 => ?_)
    · have h := pi_f c6 h
      refine lv_iload_n hx hb dX3_turnOf_21 rfl (lv_at hl 2 rfl) ?_
      by_cases c7 : x2 = (3 : Int32)
      · have h := pi_t c7 h
        refine lv_tableIn (off := 34) (tgt := 56) hx hb dX3_turnOf_22 (by rw [c7]; decide) (by rw [c7]; decide) (by rw [c7]; decide) (by decide) ?_
        refine lv_aload_n hx hb dX3_turnOf_56 rfl (lv_at hl 0 rfl) ?_
        refine lv_iload_n hx hb dX3_turnOf_57 rfl (lv_at hl 1 rfl) ?_
        refine lv_iconst (v := 3) hx hb dX3_turnOf_58 (by decide) ?_
        obtain ⟨r9, e8, h⟩ := pb_some h
        refine m_callR (W.runV (As := [.int x1, .int (3 : Int32)]) (rest := []) ⟨hx, hb, hml, hown, hts⟩ (met_of e8) (cwV 2 hts (lw_V q1339 q1341 qs27 q77 q1342) rfl rfl rfl hd_of ⟨Nat.le_of_ble_eq_true rfl, Nat.le_of_ble_eq_true rfl⟩) (m_preV hK hP) rfl rfl hl.1 rfl (lv_room (Nat.le_of_ble_eq_true rfl)) dX3_turnOf_59 ⟨Nat.le_of_ble_eq_true rfl, Nat.le_of_ble_eq_true rfl⟩) ?_
        refine lv_if_ge (tgt := 70) hx hb dX3_turnOf_62 (by decide) (fun c10 => ?_) (fun c10 => ?_)
        · have h := pi_t c10 h
          refine lv_aload_n hx hb dX3_turnOf_70 rfl (lv_at hl 0 rfl) ?_
          refine lv_iload_n hx hb dX3_turnOf_71 rfl (lv_at hl 1 rfl) ?_
          refine lv_iconst (v := 3) hx hb dX3_turnOf_72 (by decide) ?_
          obtain ⟨r12, e11, h⟩ := pb_some h
          refine m_callR (W.runV (As := [.int x1, .int (3 : Int32)]) (rest := []) ⟨hx, hb, hml, hown, hts⟩ (met_of e11) (cwV 2 hts (lw_V q1339 q1341 qs27 q77 q1342) rfl rfl rfl hd_of ⟨Nat.le_of_ble_eq_true rfl, Nat.le_of_ble_eq_true rfl⟩) (m_preV hK hP) rfl rfl hl.1 rfl (lv_room (Nat.le_of_ble_eq_true rfl)) dX3_turnOf_73 ⟨Nat.le_of_ble_eq_true rfl, Nat.le_of_ble_eq_true rfl⟩) ?_
          cases h
          exact W.iret hx hb hr (fun t ht hW => ⟨rfl, ht⟩) (fun q hq => absurd hq List.not_mem_nil) dX3_turnOf_76
        · have h := pi_f c10 h
          refine lv_ldc hx hb hown (hts _ q1430) dX3_turnOf_65 ?_
          refine lv_goto (tgt := 76) hx hb dX3_turnOf_67 (by decide) ?_
          cases h
          exact W.iret hx hb hr (fun t ht hW => ⟨rfl, ht⟩) (fun q hq => absurd hq List.not_mem_nil) dX3_turnOf_76
      have h := pi_f c7 h
      by_cases c13 : x2 = (4 : Int32)
      · have h := pi_t c13 h
        refine lv_tableIn (off := 78) (tgt := 100) hx hb dX3_turnOf_22 (by rw [c13]; decide) (by rw [c13]; decide) (by rw [c13]; decide) (by decide) ?_
        refine lv_aload_n hx hb dX3_turnOf_100 rfl (lv_at hl 0 rfl) ?_
        refine lv_iload_n hx hb dX3_turnOf_101 rfl (lv_at hl 1 rfl) ?_
        refine lv_iload_n hx hb dX3_turnOf_102 rfl (lv_at hl 2 rfl) ?_
        obtain ⟨r15, e14, h⟩ := pb_some h
        refine m_callR (W.runV (As := [.int x1, .int x2]) (rest := []) ⟨hx, hb, hml, hown, hts⟩ (met_of e14) (cwV 2 hts (lw_V q1339 q1341 qs27 q77 q1342) rfl rfl rfl hd_of ⟨Nat.le_of_ble_eq_true rfl, Nat.le_of_ble_eq_true rfl⟩) (m_preV hK hP) rfl rfl hl.1 rfl (lv_room (Nat.le_of_ble_eq_true rfl)) dX3_turnOf_103 ⟨Nat.le_of_ble_eq_true rfl, Nat.le_of_ble_eq_true rfl⟩) ?_
        cases h
        exact W.iret hx hb hr (fun t ht hW => ⟨rfl, ht⟩) (fun q hq => absurd hq List.not_mem_nil) dX3_turnOf_106
      have h := pi_f c13 h
      by_cases c16 : x2 = (5 : Int32)
      · have h := pi_t c16 h
        refine lv_tableIn (off := 55) (tgt := 77) hx hb dX3_turnOf_22 (by rw [c16]; decide) (by rw [c16]; decide) (by rw [c16]; decide) (by decide) ?_
        refine lv_aload_n hx hb dX3_turnOf_77 rfl (lv_at hl 0 rfl) ?_
        refine lv_iload_n hx hb dX3_turnOf_78 rfl (lv_at hl 1 rfl) ?_
        refine lv_iload_n hx hb dX3_turnOf_79 rfl (lv_at hl 2 rfl) ?_
        refine lv_bipush (v := 6) hx hb dX3_turnOf_80 (by decide) ?_
        obtain ⟨j18, hj, h⟩ := pb_some h
        refine W.cut (g' := F0 m 90 ls [.int (bi j18), .int x1, .ref (a 0)]) ?_ (fun K => ?_)
        · obtain ⟨r20, e19, h⟩ := pb_some h
          refine m_callR (W.runV (As := [.int x1, .int (bi j18)]) (rest := []) ⟨hx, hb, hml, hown, hts⟩ (met_overlapping e19) (cwV 2 hts (lw_V q1431 q1433 qs38 q77 q1434) rfl rfl rfl hd_overlapping ⟨Nat.le_of_ble_eq_true rfl, Nat.le_of_ble_eq_true rfl⟩) (m_preV hK hP) rfl rfl hl.1 rfl (lv_room (Nat.le_of_ble_eq_true rfl)) dX3_turnOf_90 ⟨Nat.le_of_ble_eq_true rfl, Nat.le_of_ble_eq_true rfl⟩) ?_
          cases h
          exact W.iret hx hb hr (fun t ht hW => ⟨rfl, ht⟩) (fun q hq => absurd hq List.not_mem_nil) dX3_turnOf_93
        · have h := hj
          refine lv_icmp_ne (tgt := 89) hx hb dX3_turnOf_82 (by decide) (fun c17 => ?_) (fun c17 => ?_)
          · have h := pi_f c17 h
            refine lv_iconst (v := 0) hx hb dX3_turnOf_89 (by decide) ?_
            cases h
            exact K
          · have h := pi_t c17 h
            refine lv_iconst (v := 1) hx hb dX3_turnOf_85 (by decide) ?_
            refine lv_goto (tgt := 90) hx hb dX3_turnOf_86 (by decide) ?_
            cases h
            exact K
      have h := pi_f c16 h
      by_cases c21 : x2 = (6 : Int32)
      · have h := pi_t c21 h
        refine lv_tableIn (off := 55) (tgt := 77) hx hb dX3_turnOf_22 (by rw [c21]; decide) (by rw [c21]; decide) (by rw [c21]; decide) (by decide) ?_
        refine lv_aload_n hx hb dX3_turnOf_77 rfl (lv_at hl 0 rfl) ?_
        refine lv_iload_n hx hb dX3_turnOf_78 rfl (lv_at hl 1 rfl) ?_
        refine lv_iload_n hx hb dX3_turnOf_79 rfl (lv_at hl 2 rfl) ?_
        refine lv_bipush (v := 6) hx hb dX3_turnOf_80 (by decide) ?_
        obtain ⟨j23, hj, h⟩ := pb_some h
        refine W.cut (g' := F0 m 90 ls [.int (bi j23), .int x1, .ref (a 0)]) ?_ (fun K => ?_)
        · obtain ⟨r25, e24, h⟩ := pb_some h
          refine m_callR (W.runV (As := [.int x1, .int (bi j23)]) (rest := []) ⟨hx, hb, hml, hown, hts⟩ (met_overlapping e24) (cwV 2 hts (lw_V q1431 q1433 qs38 q77 q1434) rfl rfl rfl hd_overlapping ⟨Nat.le_of_ble_eq_true rfl, Nat.le_of_ble_eq_true rfl⟩) (m_preV hK hP) rfl rfl hl.1 rfl (lv_room (Nat.le_of_ble_eq_true rfl)) dX3_turnOf_90 ⟨Nat.le_of_ble_eq_true rfl, Nat.le_of_ble_eq_true rfl⟩) ?_
          cases h
          exact W.iret hx hb hr (fun t ht hW => ⟨rfl, ht⟩) (fun q hq => absurd hq List.not_mem_nil) dX3_turnOf_93
        · have h := hj
          refine lv_icmp_ne (tgt := 89) hx hb dX3_turnOf_82 (by decide) (fun c22 => ?_) (fun c22 => ?_)
          · have h := pi_f c22 h
            refine lv_iconst (v := 0) hx hb dX3_turnOf_89 (by decide) ?_
            cases h
            exact K
          · have h := pi_t c22 h
            refine lv_iconst (v := 1) hx hb dX3_turnOf_85 (by decide) ?_
            refine lv_goto (tgt := 90) hx hb dX3_turnOf_86 (by decide) ?_
            cases h
            exact K
      have h := pi_f c21 h
      by_cases c26 : x2 = (7 : Int32)
      · have h := pi_t c26 h
        refine lv_tableIn (off := 72) (tgt := 94) hx hb dX3_turnOf_22 (by rw [c26]; decide) (by rw [c26]; decide) (by rw [c26]; decide) (by decide) ?_
        refine lv_aload_n hx hb dX3_turnOf_94 rfl (lv_at hl 0 rfl) ?_
        refine lv_iload_n hx hb dX3_turnOf_95 rfl (lv_at hl 1 rfl) ?_
        obtain ⟨r28, e27, h⟩ := pb_some h
        refine m_callR (W.runV (As := [.int x1]) (rest := []) ⟨hx, hb, hml, hown, hts⟩ (met_alone e27) (cwV 1 hts (lw_V q1443 q1445 qs41 q77 q1446) rfl rfl rfl hd_alone ⟨Nat.le_of_ble_eq_true rfl, Nat.le_of_ble_eq_true rfl⟩) (m_preV hK hP) rfl rfl hl.1 rfl (lv_room (Nat.le_of_ble_eq_true rfl)) dX3_turnOf_96 ⟨Nat.le_of_ble_eq_true rfl, Nat.le_of_ble_eq_true rfl⟩) ?_
        cases h
        exact W.iret hx hb hr (fun t ht hW => ⟨rfl, ht⟩) (fun q hq => absurd hq List.not_mem_nil) dX3_turnOf_99
      have h := pi_f c26 h
      refine lv_tableOut (tgt := 100) hx hb dX3_turnOf_22 (sw_out 3 7 (fun k h1 h2 => ?_)) (by decide) ?_
      · rcases (show k = 3 ∨ k = 4 ∨ k = 5 ∨ k = 6 ∨ k = 7 by omega) with rfl | rfl | rfl | rfl | rfl
        · exact sw_ne (by decide) c7
        · exact sw_ne (by decide) c13
        · exact sw_ne (by decide) c16
        · exact sw_ne (by decide) c21
        · exact sw_ne (by decide) c26
      refine lv_aload_n hx hb dX3_turnOf_100 rfl (lv_at hl 0 rfl) ?_
      refine lv_iload_n hx hb dX3_turnOf_101 rfl (lv_at hl 1 rfl) ?_
      refine lv_iload_n hx hb dX3_turnOf_102 rfl (lv_at hl 2 rfl) ?_
      obtain ⟨r30, e29, h⟩ := pb_some h
      refine m_callR (W.runV (As := [.int x1, .int x2]) (rest := []) ⟨hx, hb, hml, hown, hts⟩ (met_of e29) (cwV 2 hts (lw_V q1339 q1341 qs27 q77 q1342) rfl rfl rfl hd_of ⟨Nat.le_of_ble_eq_true rfl, Nat.le_of_ble_eq_true rfl⟩) (m_preV hK hP) rfl rfl hl.1 rfl (lv_room (Nat.le_of_ble_eq_true rfl)) dX3_turnOf_103 ⟨Nat.le_of_ble_eq_true rfl, Nat.le_of_ble_eq_true rfl⟩) ?_
      cases h
      exact W.iret hx hb hr (fun t ht hW => ⟨rfl, ht⟩) (fun q hq => absurd hq List.not_mem_nil) dX3_turnOf_106
    · have h := pi_t c6 h
      refine lv_ldc hx hb hown (hts _ q1329) dX3_turnOf_18 ?_
      cases h
      exact W.iret hx hb hr (fun t ht hW => ⟨rfl, ht⟩) (fun q hq => absurd hq List.not_mem_nil) dX3_turnOf_20
theorem hd_termAt : yX3_termAt.cls = RX3 ∧ yX3_termAt.cls ≠ "java/lang/invoke/MethodHandle" ∧ yX3_termAt.cls ≠ "java/lang/invoke/VarHandle" ∧ (parseMethodDescriptor yX3_termAt.desc).map (fun d => d.parameters.length) = some 3 := by decide +kernel
set_option maxHeartbeats 4000000 in
set_option maxRecDepth 100000 in
theorem met_termAt {l : Launch} {D : va_G} {dA : ClassId} {a : Nat → Nat} {sA past held text parted asShown told : Nat → Int32} {pasts runs typed spot from_ reason cause orders order : Int32} {nf : Nat} {x1 : Int32} {x2 : Int32} {x3 : Int32} {r : Int32}  (h : m_termAt nf sA x1 x2 x3 = some r) : Met l yX3_termAt (ws_ yX3_termAt cX3_termAt 5 (some .int)) ({ frames := 2, cells := 0, slots := 0, locals := 34 } : Room) (mPc [.ref (a 0), .int x1, .int x2, .int x3] D dA a sA past held text parted asShown told pasts runs typed spot from_ reason cause orders order) (QcRead r) 0 0 (fun _ => False) := by
  refine Met.ofW (cc := cX3_termAt) (maxL := 5) (ret := (some .int)) (by decide) rfl ?_
  intro p e s m args below meth c s₁ B hml hv
  obtain ⟨rfl, hP, hK⟩ := hv
  have hx := B.exec
  have hb := B.bytes
  have hr := B.returns
  have hts := atoms_spec (ws := ws_ yX3_termAt cX3_termAt 5 (some .int)) B.pre
  have hts : ∀ w ∈ lw_all, w.before _ s = true := fun w h => hts w (List.mem_cons_of_mem _ h)
  have hown : s.vm.findClass RX3 = some m.cls := findClass_of_methodNamed B.named
  have hlocks := B.notSynchronized
  have hl := lv_entry ([.ref (a 0), .int x1, .int x2, .int x3]) (n := 5) (Nat.le_of_ble_eq_true rfl)
  rw [lg_entry_eq]
  generalize (lg_sl ([.ref (a 0), .int x1, .int x2, .int x3]) ++ List.replicate (5 - (lg_sl ([.ref (a 0), .int x1, .int x2, .int x3])).length) Slot.unset).toArray = ls at hl ⊢
  have hl : lv_has ls 5 [(0, .ref (a 0)), (1, .int x1), (2, .int x2), (3, .int x3)] := hl
  unfold m_termAt at h
  refine lv_aload_n hx hb dX3_termAt_0 rfl (lv_at hl 0 rfl) ?_
  refine lv_iload_n hx hb dX3_termAt_1 rfl (lv_at hl 1 rfl) ?_
  obtain ⟨b2, e1, h⟩ := pb_some h
  refine m_callR (W.runV (As := [.int x1]) (rest := []) ⟨hx, hb, hml, hown, hts⟩ (met_isTurn e1) (cwV 1 hts (lw_V q1358 q1360 qs30 q77 q1361) rfl rfl rfl hd_isTurn ⟨Nat.le_of_ble_eq_true rfl, Nat.le_of_ble_eq_true rfl⟩) (m_preV hK hP) rfl rfl hl.1 rfl (lv_room (Nat.le_of_ble_eq_true rfl)) dX3_termAt_2 ⟨Nat.le_of_ble_eq_true rfl, Nat.le_of_ble_eq_true rfl⟩) ?_
  refine lv_if_eq (tgt := 21) hx hb dX3_termAt_5 (by decide) (fun c3 => ?_) (fun c3 => ?_)
  · have h := pi_t c3 h
    refine lv_ldc hx hb hown (hts _ q1329) dX3_termAt_21 ?_
    cases h
    exact W.iret hx hb hr (fun t ht hW => ⟨rfl, ht⟩) (fun q hq => absurd hq List.not_mem_nil) dX3_termAt_23
  · have h := pi_f c3 h
    refine lv_iload_n hx hb dX3_termAt_8 rfl (lv_at hl 2 rfl) ?_
    refine lv_if_lt (tgt := 21) hx hb dX3_termAt_9 (by decide) (fun c4 => ?_) (fun c4 => ?_)
    · have h := pi_t c4 h
      refine lv_ldc hx hb hown (hts _ q1329) dX3_termAt_21 ?_
      cases h
      exact W.iret hx hb hr (fun t ht hW => ⟨rfl, ht⟩) (fun q hq => absurd hq List.not_mem_nil) dX3_termAt_23
    · have h := pi_f c4 h
      refine lv_iload_n hx hb dX3_termAt_12 rfl (lv_at hl 3 rfl) ?_
      refine lv_iconst (v := 0) hx hb dX3_termAt_13 (by decide) ?_
      refine lv_iconst (v := 1) hx hb dX3_termAt_14 (by decide) ?_
      obtain ⟨b6, e5, h⟩ := pb_some h
      refine m_callR (W.runS (As := [.int x3, .int (0 : Int32), .int (1 : Int32)]) (rest := []) ⟨hx, hb, hml, hown, hts⟩ (met_in e5) (va_cwS 3 hts (lw_S q1326 q1327 q77 q1328) rfl rfl rfl hd_in ⟨Nat.le_of_ble_eq_true rfl, Nat.le_of_ble_eq_true rfl⟩) m_preS rfl rfl hl.1 rfl (lv_room (Nat.le_of_ble_eq_true rfl)) dX3_termAt_15 ⟨Nat.le_of_ble_eq_true rfl, Nat.le_of_ble_eq_true rfl⟩) ?_
      refine lv_if_ne (tgt := 24) hx hb dX3_termAt_18 (by decide) (fun c7 => ?_) (fun c7 => ?_)
      · have h := pi_f c7 h
        refine lv_iload_n hx hb dX3_termAt_24 rfl (lv_at hl 2 rfl) ?_
        refine lv_aload_n hx hb dX3_termAt_25 rfl (lv_at hl 0 rfl) ?_
        refine lv_iload_n hx hb dX3_termAt_26 rfl (lv_at hl 1 rfl) ?_
        refine lv_iconst (v := 4) hx hb dX3_termAt_27 (by decide) ?_
        obtain ⟨r9, e8, h⟩ := pb_some h
        refine m_callR (W.runV (As := [.int x1, .int (4 : Int32)]) (rest := [.int x2]) ⟨hx, hb, hml, hown, hts⟩ (met_of e8) (cwV 2 hts (lw_V q1339 q1341 qs27 q77 q1342) rfl rfl rfl hd_of ⟨Nat.le_of_ble_eq_true rfl, Nat.le_of_ble_eq_true rfl⟩) (m_preV hK hP) rfl rfl hl.1 rfl (lv_room (Nat.le_of_ble_eq_true rfl)) dX3_termAt_28 ⟨Nat.le_of_ble_eq_true rfl, Nat.le_of_ble_eq_true rfl⟩) ?_
        refine lv_icmp_lt (tgt := 37) hx hb dX3_termAt_31 (by decide) (fun c10 => ?_) (fun c10 => ?_)
        · have h := pi_t c10 h
          refine lv_aload_n hx hb dX3_termAt_37 rfl (lv_at hl 0 rfl) ?_
          refine lv_iload_n hx hb dX3_termAt_38 rfl (lv_at hl 1 rfl) ?_
          refine lv_iconst (v := 5) hx hb dX3_termAt_39 (by decide) ?_
          refine lv_iload_n hx hb dX3_termAt_40 rfl (lv_at hl 2 rfl) ?_
          refine lv_iadd hx hb dX3_termAt_41 ?_
          obtain ⟨r12, e11, h⟩ := pb_some h
          refine m_callR (W.runV (As := [.int x1, .int ((5 : Int32) + x2)]) (rest := []) ⟨hx, hb, hml, hown, hts⟩ (met_of e11) (cwV 2 hts (lw_V q1339 q1341 qs27 q77 q1342) rfl rfl rfl hd_of ⟨Nat.le_of_ble_eq_true rfl, Nat.le_of_ble_eq_true rfl⟩) (m_preV hK hP) rfl rfl hl.1 rfl (lv_room (Nat.le_of_ble_eq_true rfl)) dX3_termAt_42 ⟨Nat.le_of_ble_eq_true rfl, Nat.le_of_ble_eq_true rfl⟩) ?_
          refine lv_istore (lv' := [(4, .int r12), (0, .ref (a 0)), (1, .int x1), (2, .int x2), (3, .int x3)]) hx hb dX3_termAt_45 hl (by decide) rfl (fun ls hl => ?_)
          refine lv_iload_n hx hb dX3_termAt_47 rfl (lv_at hl 4 rfl) ?_
          refine lv_if_ne (tgt := 56) hx hb dX3_termAt_48 (by decide) (fun c13 => ?_) (fun c13 => ?_)
          · have h := pi_f c13 h
            refine lv_aload_n hx hb dX3_termAt_56 rfl (lv_at hl 1 rfl) ?_
            refine lv_iload hx hb dX3_termAt_57 (lv_at hl 0 rfl) ?_
            obtain ⟨r15, e14, h⟩ := pb_some h
            refine m_callR (W.runV (As := [.int r12]) (rest := []) ⟨hx, hb, hml, hown, hts⟩ (met_shown e14) (cwV 1 hts (lw_V q1390 q1392 qs34 q77 q1393) rfl rfl rfl hd_shown ⟨Nat.le_of_ble_eq_true rfl, Nat.le_of_ble_eq_true rfl⟩) (m_preV hK hP) rfl rfl hl.1 rfl (lv_room (Nat.le_of_ble_eq_true rfl)) dX3_termAt_59 ⟨Nat.le_of_ble_eq_true rfl, Nat.le_of_ble_eq_true rfl⟩) ?_
            cases h
            exact W.iret hx hb hr (fun t ht hW => ⟨rfl, ht⟩) (fun q hq => absurd hq List.not_mem_nil) dX3_termAt_62
          · have h := pi_t c13 h
            refine lv_iload hx hb dX3_termAt_51 (lv_at hl 0 rfl) ?_
            refine lv_goto (tgt := 62) hx hb dX3_termAt_53 (by decide) ?_
            cases h
            exact W.iret hx hb hr (fun t ht hW => ⟨rfl, ht⟩) (fun q hq => absurd hq List.not_mem_nil) dX3_termAt_62
        · have h := pi_f c10 h
          refine lv_ldc hx hb hown (hts _ q1430) dX3_termAt_34 ?_
          cases h
          exact W.iret hx hb hr (fun t ht hW => ⟨rfl, ht⟩) (fun q hq => absurd hq List.not_mem_nil) dX3_termAt_36
      · have h := pi_t c7 h
        refine lv_ldc hx hb hown (hts _ q1329) dX3_termAt_21 ?_
        cases h
        exact W.iret hx hb hr (fun t ht hW => ⟨rfl, ht⟩) (fun q hq => absurd hq List.not_mem_nil) dX3_termAt_23
theorem hd_chain : yX3_chain.cls = RX3 ∧ yX3_chain.cls ≠ "java/lang/invoke/MethodHandle" ∧ yX3_chain.cls ≠ "java/lang/invoke/VarHandle" ∧ (parseMethodDescriptor yX3_chain.desc).map (fun d => d.parameters.length) = some 1 := by decide +kernel
set_option maxHeartbeats 4000000 in
set_option maxRecDepth 100000 in
theorem lp_chain_1 {p : Program} {l : Launch} {e : Env} {s : State} {m : MethodId} {args : Array Value} {below : List Frame} {meth : Method} {c : Code} {D : va_G} {dA : ClassId} {a : Nat → Nat} {Q : State → Prop} (hx : p.tables.exec = Jvm.exec) (hb : c.code = cX3_chain) (hml : c.maxLocals = 4) (hown : s.vm.findClass RX3 = some m.cls) (hts : ∀ w ∈ lw_all, w.before args s = true) {H : Heap} {locs : List Loc} {sA : Nat → Int32} {past : Nat → Int32} {held : Nat → Int32} {text : Nat → Int32} {parted : Nat → Int32} {asShown : Nat → Int32} {told : Nat → Int32} {pasts : Int32} {runs : Int32} {typed : Int32} {spot : Int32} {from_ : Int32} {reason : Int32} {cause : Int32} {orders : Int32} {order : Int32} (hK : va_K D gCl [(dA, .int)] s) (hP : va_P D gCl (mW dA a sA past held text parted asShown told pasts runs typed spot from_ reason cause orders order) H)  (nf : Nat) : ∀ (n : Nat) (y3 : Int32) (y2 : Int32) (z : Int32), m_chain_L1 nf sA n y3 y2 = some z → ∀ ls : Array Slot, lv_has ls 4 [(3, .int y3), (2, .int y2), (0, .ref (a 0))] → (∀ ls : Array Slot, lv_has ls 4 [(2, .int z), (0, .ref (a 0))] → W p l e ({ frames := 1, cells := 0, slots := 0, locals := 12 } : Room) s m args below meth c H locs 0 0 Q (F0 m 34 ls [])) → W p l e ({ frames := 1, cells := 0, slots := 0, locals := 12 } : Room) s m args below meth c H locs 0 0 Q (F0 m 4 ls []) := by
  intro n
  induction n with
  | zero => intro y3 y2 z h ls hl K; exact absurd h (by simp [m_chain_L1])
  | succ n ih =>
    intro y3 y2 z h ls hl K
    unfold m_chain_L1 at h
    refine lv_aload_n hx hb dX3_chain_4 rfl (lv_at hl 2 rfl) ?_
    refine va_get (ci := 3) (v := .ref (a 1)) (C := RX3) (T := TX3) (N := 16) hx hb hts in_X3 hown hK hP 0 rfl rfl 0 (by decide) (hts _ q1273) (fun _ h9 => h9) rfl dX3_chain_5 ?_
    refine lv_sipush (v := 260) hx hb dX3_chain_8 (by decide) ?_
    refine lv_iload_n hx hb dX3_chain_11 rfl (lv_at hl 0 rfl) ?_
    refine lv_iadd hx hb dX3_chain_12 ?_
    obtain ⟨g1, h⟩ := pg_some h
    refine va_iald hx hb hK hP 1 0 rfl rfl g1 dX3_chain_13 ?_
    refine lv_if_lt (tgt := 34) hx hb dX3_chain_14 (by decide) (fun c2 => ?_) (fun c2 => ?_)
    · have h := pi_t c2 h
      cases h
      exact K ls (lv_sub hl [1, 2] rfl)
    · have h := pi_f c2 h
      refine lv_iinc (v := (y2 + (1 : Int32))) (lv' := [(2, .int (y2 + (1 : Int32))), (3, .int y3), (0, .ref (a 0))]) hx hb dX3_chain_17 hl (k := 1) rfl (by rfl) (by decide) rfl (fun ls hl => ?_)
      refine lv_aload_n hx hb dX3_chain_20 rfl (lv_at hl 2 rfl) ?_
      refine va_get (ci := 3) (v := .ref (a 1)) (C := RX3) (T := TX3) (N := 16) hx hb hts in_X3 hown hK hP 0 rfl rfl 0 (by decide) (hts _ q1273) (fun _ h9 => h9) rfl dX3_chain_21 ?_
      refine lv_sipush (v := 260) hx hb dX3_chain_24 (by decide) ?_
      refine lv_iload_n hx hb dX3_chain_27 rfl (lv_at hl 1 rfl) ?_
      refine lv_iadd hx hb dX3_chain_28 ?_
      refine va_iald hx hb hK hP 1 0 rfl rfl g1 dX3_chain_29 ?_
      refine lv_istore_n (lv' := [(3, .int (sA ((260 : Int32) + y3).toNatClampNeg)), (2, .int (y2 + (1 : Int32))), (0, .ref (a 0))]) hx hb dX3_chain_30 rfl hl (by decide) rfl (fun ls hl => ?_)
      refine lv_goto (tgt := 4) hx hb dX3_chain_31 (by decide) ?_
      exact ih _ _ _ h ls (lv_sub hl [0, 1, 2] rfl) K
set_option maxHeartbeats 4000000 in
set_option maxRecDepth 100000 in
theorem met_chain {l : Launch} {D : va_G} {dA : ClassId} {a : Nat → Nat} {sA past held text parted asShown told : Nat → Int32} {pasts runs typed spot from_ reason cause orders order : Int32} {nf : Nat} {x1 : Int32} {r : Int32}  (h : m_chain nf sA x1 = some r) : Met l yX3_chain (ws_ yX3_chain cX3_chain 4 (some .int)) ({ frames := 1, cells := 0, slots := 0, locals := 12 } : Room) (mPc [.ref (a 0), .int x1] D dA a sA past held text parted asShown told pasts runs typed spot from_ reason cause orders order) (QcRead r) 0 0 (fun _ => False) := by
  refine Met.ofW (cc := cX3_chain) (maxL := 4) (ret := (some .int)) (by decide) rfl ?_
  intro p e s m args below meth c s₁ B hml hv
  obtain ⟨rfl, hP, hK⟩ := hv
  have hx := B.exec
  have hb := B.bytes
  have hr := B.returns
  have hts := atoms_spec (ws := ws_ yX3_chain cX3_chain 4 (some .int)) B.pre
  have hts : ∀ w ∈ lw_all, w.before _ s = true := fun w h => hts w (List.mem_cons_of_mem _ h)
  have hown : s.vm.findClass RX3 = some m.cls := findClass_of_methodNamed B.named
  have hlocks := B.notSynchronized
  have hl := lv_entry ([.ref (a 0), .int x1]) (n := 4) (Nat.le_of_ble_eq_true rfl)
  rw [lg_entry_eq]
  generalize (lg_sl ([.ref (a 0), .int x1]) ++ List.replicate (4 - (lg_sl ([.ref (a 0), .int x1])).length) Slot.unset).toArray = ls at hl ⊢
  have hl : lv_has ls 4 [(0, .ref (a 0)), (1, .int x1)] := hl
  unfold m_chain at h
  refine lv_iconst (v := 0) hx hb dX3_chain_0 (by decide) ?_
  refine lv_istore_n (lv' := [(2, .int (0 : Int32)), (0, .ref (a 0)), (1, .int x1)]) hx hb dX3_chain_1 rfl hl (by decide) rfl (fun ls hl => ?_)
  refine lv_iload_n hx hb dX3_chain_2 rfl (lv_at hl 2 rfl) ?_
  refine lv_istore_n (lv' := [(3, .int x1), (2, .int (0 : Int32)), (0, .ref (a 0)), (1, .int x1)]) hx hb dX3_chain_3 rfl hl (by decide) rfl (fun ls hl => ?_)
  obtain ⟨o1, e501, h⟩ := pb_some h
  refine lp_chain_1 hx hb hml hown hts hK hP _ _ _ _ _ e501 ls (lv_sub hl [0, 1, 2] rfl) (fun ls hl => ?_)
  refine lv_iload_n hx hb dX3_chain_34 rfl (lv_at hl 0 rfl) ?_
  cases h
  exact W.iret hx hb hr (fun t ht hW => ⟨rfl, ht⟩) (fun q hq => absurd hq List.not_mem_nil) dX3_chain_35
theorem hd_shows : yX3_shows.cls = RX3 ∧ yX3_shows.cls ≠ "java/lang/invoke/MethodHandle" ∧ yX3_shows.cls ≠ "java/lang/invoke/VarHandle" ∧ (parseMethodDescriptor yX3_shows.desc).map (fun d => d.parameters.length) = some 2 := by decide +kernel
set_option maxHeartbeats 4000000 in
set_option maxRecDepth 100000 in
theorem lp_shows_1 {p : Program} {l : Launch} {e : Env} {s : State} {m : MethodId} {args : Array Value} {below : List Frame} {meth : Method} {c : Code} {D : va_G} {dA : ClassId} {a : Nat → Nat} {Q : State → Prop} (hx : p.tables.exec = Jvm.exec) (hb : c.code = cX3_shows) (hml : c.maxLocals = 5) (hown : s.vm.findClass RX3 = some m.cls) (hts : ∀ w ∈ lw_all, w.before args s = true) {H : Heap} {locs : List Loc} {sA : Nat → Int32} {past : Nat → Int32} {held : Nat → Int32} {text : Nat → Int32} {parted : Nat → Int32} {asShown : Nat → Int32} {told : Nat → Int32} {pasts : Int32} {runs : Int32} {typed : Int32} {spot : Int32} {from_ : Int32} {reason : Int32} {cause : Int32} {orders : Int32} {order : Int32} (hK : va_K D gCl [(dA, .int)] s) (hP : va_P D gCl (mW dA a sA past held text parted asShown told pasts runs typed spot from_ reason cause orders order) H) {x1 : Int32} {x2 : Int32} (nf : Nat) : ∀ (n : Nat) (y4 : Int32) (y3 : Int32) (z : Int32), m_shows_L1 nf sA x1 x2 n y4 y3 = some z → ∀ ls : Array Slot, lv_has ls 5 [(4, .int y4), (3, .int y3), (0, .ref (a 0)), (1, .int x1), (2, .int x2)] → (∀ ls : Array Slot, lv_has ls 5 [(3, .int z), (0, .ref (a 0)), (1, .int x1), (2, .int x2)] → W p l e ({ frames := 2, cells := 0, slots := 0, locals := 34 } : Room) s m args below meth c H locs 0 0 Q (F0 m 47 ls [])) → W p l e ({ frames := 2, cells := 0, slots := 0, locals := 34 } : Room) s m args below meth c H locs 0 0 Q (F0 m 5 ls []) := by
  intro n
  induction n with
  | zero => intro y4 y3 z h ls hl K; exact absurd h (by simp [m_shows_L1])
  | succ n ih =>
    intro y4 y3 z h ls hl K
    unfold m_shows_L1 at h
    refine lv_iload hx hb dX3_shows_5 (lv_at hl 0 rfl) ?_
    refine lv_aload_n hx hb dX3_shows_7 rfl (lv_at hl 2 rfl) ?_
    refine lv_iload_n hx hb dX3_shows_8 rfl (lv_at hl 3 rfl) ?_
    refine lv_iconst (v := 4) hx hb dX3_shows_9 (by decide) ?_
    obtain ⟨r2, e1, h⟩ := pb_some h
    refine m_callR (W.runV (As := [.int x1, .int (4 : Int32)]) (rest := [.int y4]) ⟨hx, hb, hml, hown, hts⟩ (met_of e1) (cwV 2 hts (lw_V q1339 q1341 qs27 q77 q1342) rfl rfl rfl hd_of ⟨Nat.le_of_ble_eq_true rfl, Nat.le_of_ble_eq_true rfl⟩) (m_preV hK hP) rfl rfl hl.1 rfl (lv_room (Nat.le_of_ble_eq_true rfl)) dX3_shows_10 ⟨Nat.le_of_ble_eq_true rfl, Nat.le_of_ble_eq_true rfl⟩) ?_
    refine lv_icmp_ge (tgt := 47) hx hb dX3_shows_13 (by decide) (fun c3 => ?_) (fun c3 => ?_)
    · have h := pi_t c3 h
      cases h
      exact K ls (lv_sub hl [1, 2, 3, 4] rfl)
    · have h := pi_f c3 h
      refine lv_iload_n hx hb dX3_shows_16 rfl (lv_at hl 1 rfl) ?_
      refine lv_aload_n hx hb dX3_shows_17 rfl (lv_at hl 2 rfl) ?_
      refine lv_aload_n hx hb dX3_shows_18 rfl (lv_at hl 2 rfl) ?_
      refine lv_iload_n hx hb dX3_shows_19 rfl (lv_at hl 3 rfl) ?_
      refine lv_iconst (v := 5) hx hb dX3_shows_20 (by decide) ?_
      refine lv_iload hx hb dX3_shows_21 (lv_at hl 0 rfl) ?_
      refine lv_iadd hx hb dX3_shows_23 ?_
      obtain ⟨r5, e4, h⟩ := pb_some h
      refine m_callR (W.runV (As := [.int x1, .int ((5 : Int32) + y4)]) (rest := [.ref (a 0), .int y3]) ⟨hx, hb, hml, hown, hts⟩ (met_of e4) (cwV 2 hts (lw_V q1339 q1341 qs27 q77 q1342) rfl rfl rfl hd_of ⟨Nat.le_of_ble_eq_true rfl, Nat.le_of_ble_eq_true rfl⟩) (m_preV hK hP) rfl rfl hl.1 rfl (lv_room (Nat.le_of_ble_eq_true rfl)) dX3_shows_24 ⟨Nat.le_of_ble_eq_true rfl, Nat.le_of_ble_eq_true rfl⟩) ?_
      obtain ⟨r7, e6, h⟩ := pb_some h
      refine m_callR (W.runV (As := [.int r5]) (rest := [.int y3]) ⟨hx, hb, hml, hown, hts⟩ (met_shown e6) (cwV 1 hts (lw_V q1390 q1392 qs34 q77 q1393) rfl rfl rfl hd_shown ⟨Nat.le_of_ble_eq_true rfl, Nat.le_of_ble_eq_true rfl⟩) (m_preV hK hP) rfl rfl hl.1 rfl (lv_room (Nat.le_of_ble_eq_true rfl)) dX3_shows_27 ⟨Nat.le_of_ble_eq_true rfl, Nat.le_of_ble_eq_true rfl⟩) ?_
      refine lv_iload_n hx hb dX3_shows_30 rfl (lv_at hl 4 rfl) ?_
      obtain ⟨j9, hj, h⟩ := pb_some h
      refine W.cut (g' := F0 m 39 ls [.int (bi j9), .int y3]) ?_ (fun K => ?_)
      · refine lv_iadd hx hb dX3_shows_39 ?_
        refine lv_istore_n (lv' := [(3, .int (y3 + (bi j9))), (4, .int y4), (0, .ref (a 0)), (1, .int x1), (2, .int x2)]) hx hb dX3_shows_40 rfl hl (by decide) rfl (fun ls hl => ?_)
        refine lv_iinc (v := (y4 + (1 : Int32))) (lv' := [(4, .int (y4 + (1 : Int32))), (3, .int (y3 + (bi j9))), (0, .ref (a 0)), (1, .int x1), (2, .int x2)]) hx hb dX3_shows_41 hl (k := 1) rfl (by rfl) (by decide) rfl (fun ls hl => ?_)
        refine lv_goto (tgt := 5) hx hb dX3_shows_44 (by decide) ?_
        exact ih _ _ _ h ls (lv_sub hl [0, 1, 2, 3, 4] rfl) K
      · have h := hj
        refine lv_icmp_ne (tgt := 38) hx hb dX3_shows_31 (by decide) (fun c8 => ?_) (fun c8 => ?_)
        · have h := pi_f c8 h
          refine lv_iconst (v := 0) hx hb dX3_shows_38 (by decide) ?_
          cases h
          exact K
        · have h := pi_t c8 h
          refine lv_iconst (v := 1) hx hb dX3_shows_34 (by decide) ?_
          refine lv_goto (tgt := 39) hx hb dX3_shows_35 (by decide) ?_
          cases h
          exact K
set_option maxHeartbeats 4000000 in
set_option maxRecDepth 100000 in
theorem met_shows {l : Launch} {D : va_G} {dA : ClassId} {a : Nat → Nat} {sA past held text parted asShown told : Nat → Int32} {pasts runs typed spot from_ reason cause orders order : Int32} {nf : Nat} {x1 : Int32} {x2 : Int32} {r : Int32}  (h : m_shows nf sA x1 x2 = some r) : Met l yX3_shows (ws_ yX3_shows cX3_shows 5 (some .int)) ({ frames := 2, cells := 0, slots := 0, locals := 34 } : Room) (mPc [.ref (a 0), .int x1, .int x2] D dA a sA past held text parted asShown told pasts runs typed spot from_ reason cause orders order) (QcRead r) 0 0 (fun _ => False) := by
  refine Met.ofW (cc := cX3_shows) (maxL := 5) (ret := (some .int)) (by decide) rfl ?_
  intro p e s m args below meth c s₁ B hml hv
  obtain ⟨rfl, hP, hK⟩ := hv
  have hx := B.exec
  have hb := B.bytes
  have hr := B.returns
  have hts := atoms_spec (ws := ws_ yX3_shows cX3_shows 5 (some .int)) B.pre
  have hts : ∀ w ∈ lw_all, w.before _ s = true := fun w h => hts w (List.mem_cons_of_mem _ h)
  have hown : s.vm.findClass RX3 = some m.cls := findClass_of_methodNamed B.named
  have hlocks := B.notSynchronized
  have hl := lv_entry ([.ref (a 0), .int x1, .int x2]) (n := 5) (Nat.le_of_ble_eq_true rfl)
  rw [lg_entry_eq]
  generalize (lg_sl ([.ref (a 0), .int x1, .int x2]) ++ List.replicate (5 - (lg_sl ([.ref (a 0), .int x1, .int x2])).length) Slot.unset).toArray = ls at hl ⊢
  have hl : lv_has ls 5 [(0, .ref (a 0)), (1, .int x1), (2, .int x2)] := hl
  unfold m_shows at h
  refine lv_iconst (v := 0) hx hb dX3_shows_0 (by decide) ?_
  refine lv_istore_n (lv' := [(3, .int (0 : Int32)), (0, .ref (a 0)), (1, .int x1), (2, .int x2)]) hx hb dX3_shows_1 rfl hl (by decide) rfl (fun ls hl => ?_)
  refine lv_iconst (v := 0) hx hb dX3_shows_2 (by decide) ?_
  refine lv_istore (lv' := [(4, .int (0 : Int32)), (3, .int (0 : Int32)), (0, .ref (a 0)), (1, .int x1), (2, .int x2)]) hx hb dX3_shows_3 hl (by decide) rfl (fun ls hl => ?_)
  obtain ⟨o1, e501, h⟩ := pb_some h
  refine lp_shows_1 hx hb hml hown hts hK hP _ _ _ _ _ e501 ls (lv_sub hl [0, 1, 2, 3, 4] rfl) (fun ls hl => ?_)
  refine lv_iload_n hx hb dX3_shows_47 rfl (lv_at hl 0 rfl) ?_
  cases h
  exact W.iret hx hb hr (fun t ht hW => ⟨rfl, ht⟩) (fun q hq => absurd hq List.not_mem_nil) dX3_shows_48
theorem hd_showing : yX3_showing.cls = RX3 ∧ yX3_showing.cls ≠ "java/lang/invoke/MethodHandle" ∧ yX3_showing.cls ≠ "java/lang/invoke/VarHandle" ∧ (parseMethodDescriptor yX3_showing.desc).map (fun d => d.parameters.length) = some 2 := by decide +kernel
set_option maxHeartbeats 4000000 in
set_option maxRecDepth 100000 in
theorem lp_showing_1 {p : Program} {l : Launch} {e : Env} {s : State} {m : MethodId} {args : Array Value} {below : List Frame} {meth : Method} {c : Code} {D : va_G} {dA : ClassId} {a : Nat → Nat} {Q : State → Prop} (hx : p.tables.exec = Jvm.exec) (hb : c.code = cX3_showing) (hml : c.maxLocals = 7) (hown : s.vm.findClass RX3 = some m.cls) (hts : ∀ w ∈ lw_all, w.before args s = true) {H : Heap} {locs : List Loc} {sA : Nat → Int32} {past : Nat → Int32} {held : Nat → Int32} {text : Nat → Int32} {parted : Nat → Int32} {asShown : Nat → Int32} {told : Nat → Int32} {pasts : Int32} {runs : Int32} {typed : Int32} {spot : Int32} {from_ : Int32} {reason : Int32} {cause : Int32} {orders : Int32} {order : Int32} (hK : va_K D gCl [(dA, .int)] s) (hP : va_P D gCl (mW dA a sA past held text parted asShown told pasts runs typed spot from_ reason cause orders order) H) {x1 : Int32} {x2 : Int32} (nf : Nat) : ∀ (n : Nat) (y4 : Int32) (y3 : Int32) (z : Int32), m_showing_L1 nf sA x1 x2 n y4 y3 = some z → ∀ ls : Array Slot, lv_has ls 7 [(4, .int y4), (3, .int y3), (0, .ref (a 0)), (1, .int x1), (2, .int x2)] → (∀ ls : Array Slot, lv_has ls 7 [(3, .int z), (0, .ref (a 0)), (1, .int x1), (2, .int x2)] → W p l e ({ frames := 3, cells := 0, slots := 0, locals := 58 } : Room) s m args below meth c H locs 0 0 Q (F0 m 96 ls [])) → W p l e ({ frames := 3, cells := 0, slots := 0, locals := 58 } : Room) s m args below meth c H locs 0 0 Q (F0 m 5 ls []) := by
  intro n
  induction n with
  | zero => intro y4 y3 z h ls hl K; exact absurd h (by simp [m_showing_L1])
  | succ n ih =>
    intro y4 y3 z h ls hl K
    unfold m_showing_L1 at h
    refine lv_iload hx hb dX3_showing_5 (lv_at hl 0 rfl) ?_
    refine lv_aload_n hx hb dX3_showing_7 rfl (lv_at hl 2 rfl) ?_
    refine va_get (ci := 3) (v := .ref (a 1)) (C := RX3) (T := TX3) (N := 16) hx hb hts in_X3 hown hK hP 0 rfl rfl 0 (by decide) (hts _ q1273) (fun _ h9 => h9) rfl dX3_showing_8 ?_
    refine lv_sipush (v := 282) hx hb dX3_showing_11 (by decide) ?_
    refine m_iald (k := 282) hx hb hK hP 1 0 rfl rfl (by decide) (by decide) dX3_showing_14 ?_
    refine lv_icmp_ge (tgt := 96) hx hb dX3_showing_15 (by decide) (fun c1 => ?_) (fun c1 => ?_)
    · have h := pi_t c1 h
      cases h
      exact K ls (lv_sub hl [1, 2, 3, 4] rfl)
    · have h := pi_f c1 h
      refine lv_aload_n hx hb dX3_showing_18 rfl (lv_at hl 2 rfl) ?_
      refine lv_iload hx hb dX3_showing_19 (lv_at hl 0 rfl) ?_
      refine lv_iload_n hx hb dX3_showing_21 rfl (lv_at hl 3 rfl) ?_
      obtain ⟨r3, e2, h⟩ := pb_some h
      refine m_callR (W.runV (As := [.int y4, .int x1]) (rest := []) ⟨hx, hb, hml, hown, hts⟩ (met_shows e2) (cwV 2 hts (lw_V q1475 q1477 qs47 q77 q1478) rfl rfl rfl hd_shows ⟨Nat.le_of_ble_eq_true rfl, Nat.le_of_ble_eq_true rfl⟩) (m_preV hK hP) rfl rfl hl.1 rfl (lv_room (Nat.le_of_ble_eq_true rfl)) dX3_showing_22 ⟨Nat.le_of_ble_eq_true rfl, Nat.le_of_ble_eq_true rfl⟩) ?_
      refine lv_istore (lv' := [(5, .int r3), (4, .int y4), (3, .int y3), (0, .ref (a 0)), (1, .int x1), (2, .int x2)]) hx hb dX3_showing_25 hl (by decide) rfl (fun ls hl => ?_)
      refine lv_aload_n hx hb dX3_showing_27 rfl (lv_at hl 3 rfl) ?_
      refine lv_iload hx hb dX3_showing_28 (lv_at hl 1 rfl) ?_
      refine lv_iconst (v := 3) hx hb dX3_showing_30 (by decide) ?_
      obtain ⟨r5, e4, h⟩ := pb_some h
      refine m_callR (W.runV (As := [.int y4, .int (3 : Int32)]) (rest := []) ⟨hx, hb, hml, hown, hts⟩ (met_of e4) (cwV 2 hts (lw_V q1339 q1341 qs27 q77 q1342) rfl rfl rfl hd_of ⟨Nat.le_of_ble_eq_true rfl, Nat.le_of_ble_eq_true rfl⟩) (m_preV hK hP) rfl rfl hl.1 rfl (lv_room (Nat.le_of_ble_eq_true rfl)) dX3_showing_31 ⟨Nat.le_of_ble_eq_true rfl, Nat.le_of_ble_eq_true rfl⟩) ?_
      obtain ⟨j9, hj, h⟩ := pb_some h
      refine W.cut (g' := F0 m 50 ls [.int j9]) ?_ (fun K => ?_)
      · refine lv_istore (lv' := [(6, .int j9), (5, .int r3), (4, .int y4), (3, .int y3), (0, .ref (a 0)), (1, .int x1), (2, .int x2)]) hx hb dX3_showing_50 hl (by decide) rfl (fun ls hl => ?_)
        refine lv_iload_n hx hb dX3_showing_52 rfl (lv_at hl 6 rfl) ?_
        refine lv_iconst (v := 3) hx hb dX3_showing_53 (by decide) ?_
        obtain ⟨j14, hj, h⟩ := pb_some h
        refine W.cut (g' := F0 m 89 ls [.int j14]) ?_ (fun K => ?_)
        · refine lv_istore_n (lv' := [(3, .int j14), (6, .int j9), (5, .int r3), (4, .int y4), (0, .ref (a 0)), (1, .int x1), (2, .int x2)]) hx hb dX3_showing_89 rfl hl (by decide) rfl (fun ls hl => ?_)
          refine lv_iinc (v := (y4 + (1 : Int32))) (lv' := [(4, .int (y4 + (1 : Int32))), (3, .int j14), (6, .int j9), (5, .int r3), (0, .ref (a 0)), (1, .int x1), (2, .int x2)]) hx hb dX3_showing_90 hl (k := 3) rfl (by rfl) (by decide) rfl (fun ls hl => ?_)
          refine lv_goto (tgt := 5) hx hb dX3_showing_93 (by decide) ?_
          exact ih _ _ _ h ls (lv_sub hl [0, 1, 4, 5, 6] rfl) K
        · have h := hj
          refine lv_icmp_ne (tgt := 64) hx hb dX3_showing_54 (by decide) (fun c10 => ?_) (fun c10 => ?_)
          · have h := pi_f c10 h
            refine lv_iload hx hb dX3_showing_64 (lv_at hl 1 rfl) ?_
            refine lv_if_ne (tgt := 73) hx hb dX3_showing_66 (by decide) (fun c11 => ?_) (fun c11 => ?_)
            · have h := pi_f c11 h
              refine lv_iload_n hx hb dX3_showing_73 rfl (lv_at hl 3 rfl) ?_
              refine lv_iload_n hx hb dX3_showing_74 rfl (lv_at hl 6 rfl) ?_
              refine lv_iconst (v := 4) hx hb dX3_showing_75 (by decide) ?_
              obtain ⟨j13, hj, h⟩ := pb_some h
              refine W.cut (g' := F0 m 88 ls [.int j13, .int y3]) ?_ (fun K => ?_)
              · refine lv_ior hx hb dX3_showing_88 ?_
                cases h
                exact K
              · have h := hj
                refine lv_icmp_ne (tgt := 86) hx hb dX3_showing_76 (by decide) (fun c12 => ?_) (fun c12 => ?_)
                · have h := pi_f c12 h
                  refine lv_iload hx hb dX3_showing_86 (lv_at hl 0 rfl) ?_
                  cases h
                  exact K
                · have h := pi_t c12 h
                  refine lv_iconst (v := 1) hx hb dX3_showing_79 (by decide) ?_
                  refine lv_iload hx hb dX3_showing_80 (lv_at hl 2 rfl) ?_
                  refine lv_ishl hx hb dX3_showing_82 ?_
                  refine lv_goto (tgt := 88) hx hb dX3_showing_83 (by decide) ?_
                  cases h
                  exact K
            · have h := pi_t c11 h
              refine lv_iload_n hx hb dX3_showing_69 rfl (lv_at hl 3 rfl) ?_
              refine lv_goto (tgt := 89) hx hb dX3_showing_70 (by decide) ?_
              cases h
              exact K
          · have h := pi_t c10 h
            refine lv_iload_n hx hb dX3_showing_57 rfl (lv_at hl 3 rfl) ?_
            refine lv_iload hx hb dX3_showing_58 (lv_at hl 1 rfl) ?_
            refine lv_iadd hx hb dX3_showing_60 ?_
            refine lv_goto (tgt := 89) hx hb dX3_showing_61 (by decide) ?_
            cases h
            exact K
      · have h := hj
        refine lv_if_lt (tgt := 49) hx hb dX3_showing_34 (by decide) (fun c6 => ?_) (fun c6 => ?_)
        · have h := pi_t c6 h
          refine lv_iconst (v := 0) hx hb dX3_showing_49 (by decide) ?_
          cases h
          exact K
        · have h := pi_f c6 h
          refine lv_iconst (v := 1) hx hb dX3_showing_37 (by decide) ?_
          refine lv_aload_n hx hb dX3_showing_38 rfl (lv_at hl 3 rfl) ?_
          refine lv_iload hx hb dX3_showing_39 (lv_at hl 1 rfl) ?_
          refine lv_iconst (v := 3) hx hb dX3_showing_41 (by decide) ?_
          obtain ⟨r8, e7, h⟩ := pb_some h
          refine m_callR (W.runV (As := [.int y4, .int (3 : Int32)]) (rest := [.int (1 : Int32)]) ⟨hx, hb, hml, hown, hts⟩ (met_of e7) (cwV 2 hts (lw_V q1339 q1341 qs27 q77 q1342) rfl rfl rfl hd_of ⟨Nat.le_of_ble_eq_true rfl, Nat.le_of_ble_eq_true rfl⟩) (m_preV hK hP) rfl rfl hl.1 rfl (lv_room (Nat.le_of_ble_eq_true rfl)) dX3_showing_42 ⟨Nat.le_of_ble_eq_true rfl, Nat.le_of_ble_eq_true rfl⟩) ?_
          refine lv_ishl hx hb dX3_showing_45 ?_
          refine lv_goto (tgt := 50) hx hb dX3_showing_46 (by decide) ?_
          cases h
          exact K
set_option maxHeartbeats 4000000 in
set_option maxRecDepth 100000 in
theorem met_showing {l : Launch} {D : va_G} {dA : ClassId} {a : Nat → Nat} {sA past held text parted asShown told : Nat → Int32} {pasts runs typed spot from_ reason cause orders order : Int32} {nf : Nat} {x1 : Int32} {x2 : Int32} {r : Int32}  (h : m_showing nf sA x1 x2 = some r) : Met l yX3_showing (ws_ yX3_showing cX3_showing 7 (some .int)) ({ frames := 3, cells := 0, slots := 0, locals := 58 } : Room) (mPc [.ref (a 0), .int x1, .int x2] D dA a sA past held text parted asShown told pasts runs typed spot from_ reason cause orders order) (QcRead r) 0 0 (fun _ => False) := by
  refine Met.ofW (cc := cX3_showing) (maxL := 7) (ret := (some .int)) (by decide) rfl ?_
  intro p e s m args below meth c s₁ B hml hv
  obtain ⟨rfl, hP, hK⟩ := hv
  have hx := B.exec
  have hb := B.bytes
  have hr := B.returns
  have hts := atoms_spec (ws := ws_ yX3_showing cX3_showing 7 (some .int)) B.pre
  have hts : ∀ w ∈ lw_all, w.before _ s = true := fun w h => hts w (List.mem_cons_of_mem _ h)
  have hown : s.vm.findClass RX3 = some m.cls := findClass_of_methodNamed B.named
  have hlocks := B.notSynchronized
  have hl := lv_entry ([.ref (a 0), .int x1, .int x2]) (n := 7) (Nat.le_of_ble_eq_true rfl)
  rw [lg_entry_eq]
  generalize (lg_sl ([.ref (a 0), .int x1, .int x2]) ++ List.replicate (7 - (lg_sl ([.ref (a 0), .int x1, .int x2])).length) Slot.unset).toArray = ls at hl ⊢
  have hl : lv_has ls 7 [(0, .ref (a 0)), (1, .int x1), (2, .int x2)] := hl
  unfold m_showing at h
  refine lv_iconst (v := 0) hx hb dX3_showing_0 (by decide) ?_
  refine lv_istore_n (lv' := [(3, .int (0 : Int32)), (0, .ref (a 0)), (1, .int x1), (2, .int x2)]) hx hb dX3_showing_1 rfl hl (by decide) rfl (fun ls hl => ?_)
  refine lv_iconst (v := 0) hx hb dX3_showing_2 (by decide) ?_
  refine lv_istore (lv' := [(4, .int (0 : Int32)), (3, .int (0 : Int32)), (0, .ref (a 0)), (1, .int x1), (2, .int x2)]) hx hb dX3_showing_3 hl (by decide) rfl (fun ls hl => ?_)
  obtain ⟨o1, e501, h⟩ := pb_some h
  refine lp_showing_1 hx hb hml hown hts hK hP _ _ _ _ _ e501 ls (lv_sub hl [0, 1, 2, 3, 4] rfl) (fun ls hl => ?_)
  refine lv_iload_n hx hb dX3_showing_96 rfl (lv_at hl 0 rfl) ?_
  cases h
  exact W.iret hx hb hr (fun t ht hW => ⟨rfl, ht⟩) (fun q hq => absurd hq List.not_mem_nil) dX3_showing_97
theorem hd_shownAs : yX3_shownAs.cls = RX3 ∧ yX3_shownAs.cls ≠ "java/lang/invoke/MethodHandle" ∧ yX3_shownAs.cls ≠ "java/lang/invoke/VarHandle" ∧ (parseMethodDescriptor yX3_shownAs.desc).map (fun d => d.parameters.length) = some 1 := by decide +kernel
set_option maxHeartbeats 4000000 in
set_option maxRecDepth 100000 in
theorem lp_shownAs_1 {p : Program} {l : Launch} {e : Env} {s : State} {m : MethodId} {args : Array Value} {below : List Frame} {meth : Method} {c : Code} {D : va_G} {dA : ClassId} {a : Nat → Nat} {Q : State → Prop} (hx : p.tables.exec = Jvm.exec) (hb : c.code = cX3_shownAs) (hml : c.maxLocals = 4) (hown : s.vm.findClass RX3 = some m.cls) (hts : ∀ w ∈ lw_all, w.before args s = true) {H : Heap} {locs : List Loc} {sA : Nat → Int32} {past : Nat → Int32} {held : Nat → Int32} {text : Nat → Int32} {parted : Nat → Int32} {asShown : Nat → Int32} {told : Nat → Int32} {pasts : Int32} {runs : Int32} {typed : Int32} {spot : Int32} {from_ : Int32} {reason : Int32} {cause : Int32} {orders : Int32} {order : Int32} (hK : va_K D gCl [(dA, .int)] s) (hP : va_P D gCl (mW dA a sA past held text parted asShown told pasts runs typed spot from_ reason cause orders order) H) {x1 : Int32} (nf : Nat) : ∀ (n : Nat) (y3 : Int32) (y2 : Int32) (z : Int32), m_shownAs_L1 nf sA x1 n y3 y2 = some z → ∀ ls : Array Slot, lv_has ls 4 [(3, .int y3), (2, .int y2), (0, .ref (a 0)), (1, .int x1)] → (∀ ls : Array Slot, lv_has ls 4 [(2, .int z), (0, .ref (a 0)), (1, .int x1)] → W p l e ({ frames := 2, cells := 0, slots := 0, locals := 34 } : Room) s m args below meth c H locs 0 0 Q (F0 m 35 ls [])) → W p l e ({ frames := 2, cells := 0, slots := 0, locals := 34 } : Room) s m args below meth c H locs 0 0 Q (F0 m 4 ls []) := by
  intro n
  induction n with
  | zero => intro y3 y2 z h ls hl K; exact absurd h (by simp [m_shownAs_L1])
  | succ n ih =>
    intro y3 y2 z h ls hl K
    unfold m_shownAs_L1 at h
    refine lv_iload_n hx hb dX3_shownAs_4 rfl (lv_at hl 0 rfl) ?_
    refine lv_bipush (v := 16) hx hb dX3_shownAs_5 (by decide) ?_
    refine lv_icmp_ge (tgt := 35) hx hb dX3_shownAs_7 (by decide) (fun c1 => ?_) (fun c1 => ?_)
    · have h := pi_t c1 h
      cases h
      exact K ls (lv_sub hl [1, 2, 3] rfl)
    · have h := pi_f c1 h
      refine lv_iload_n hx hb dX3_shownAs_10 rfl (lv_at hl 1 rfl) ?_
      refine lv_aload_n hx hb dX3_shownAs_11 rfl (lv_at hl 2 rfl) ?_
      refine lv_iload_n hx hb dX3_shownAs_12 rfl (lv_at hl 0 rfl) ?_
      obtain ⟨r3, e2, h⟩ := pb_some h
      refine m_callR (W.runV (As := [.int y3]) (rest := [.int y2]) ⟨hx, hb, hml, hown, hts⟩ (met_shown e2) (cwV 1 hts (lw_V q1390 q1392 qs34 q77 q1393) rfl rfl rfl hd_shown ⟨Nat.le_of_ble_eq_true rfl, Nat.le_of_ble_eq_true rfl⟩) (m_preV hK hP) rfl rfl hl.1 rfl (lv_room (Nat.le_of_ble_eq_true rfl)) dX3_shownAs_13 ⟨Nat.le_of_ble_eq_true rfl, Nat.le_of_ble_eq_true rfl⟩) ?_
      refine lv_iload_n hx hb dX3_shownAs_16 rfl (lv_at hl 3 rfl) ?_
      obtain ⟨j5, hj, h⟩ := pb_some h
      refine W.cut (g' := F0 m 27 ls [.int j5, .int y2]) ?_ (fun K => ?_)
      · refine lv_ior hx hb dX3_shownAs_27 ?_
        refine lv_istore_n (lv' := [(2, .int (y2 ||| j5)), (3, .int y3), (0, .ref (a 0)), (1, .int x1)]) hx hb dX3_shownAs_28 rfl hl (by decide) rfl (fun ls hl => ?_)
        refine lv_iinc (v := (y3 + (1 : Int32))) (lv' := [(3, .int (y3 + (1 : Int32))), (2, .int (y2 ||| j5)), (0, .ref (a 0)), (1, .int x1)]) hx hb dX3_shownAs_29 hl (k := 1) rfl (by rfl) (by decide) rfl (fun ls hl => ?_)
        refine lv_goto (tgt := 4) hx hb dX3_shownAs_32 (by decide) ?_
        exact ih _ _ _ h ls (lv_sub hl [0, 1, 2, 3] rfl) K
      · have h := hj
        refine lv_icmp_ne (tgt := 26) hx hb dX3_shownAs_17 (by decide) (fun c4 => ?_) (fun c4 => ?_)
        · have h := pi_f c4 h
          refine lv_iconst (v := 0) hx hb dX3_shownAs_26 (by decide) ?_
          cases h
          exact K
        · have h := pi_t c4 h
          refine lv_iconst (v := 1) hx hb dX3_shownAs_20 (by decide) ?_
          refine lv_iload_n hx hb dX3_shownAs_21 rfl (lv_at hl 0 rfl) ?_
          refine lv_ishl hx hb dX3_shownAs_22 ?_
          refine lv_goto (tgt := 27) hx hb dX3_shownAs_23 (by decide) ?_
          cases h
          exact K
set_option maxHeartbeats 4000000 in
set_option maxRecDepth 100000 in
theorem met_shownAs {l : Launch} {D : va_G} {dA : ClassId} {a : Nat → Nat} {sA past held text parted asShown told : Nat → Int32} {pasts runs typed spot from_ reason cause orders order : Int32} {nf : Nat} {x1 : Int32} {r : Int32}  (h : m_shownAs nf sA x1 = some r) : Met l yX3_shownAs (ws_ yX3_shownAs cX3_shownAs 4 (some .int)) ({ frames := 2, cells := 0, slots := 0, locals := 34 } : Room) (mPc [.ref (a 0), .int x1] D dA a sA past held text parted asShown told pasts runs typed spot from_ reason cause orders order) (QcRead r) 0 0 (fun _ => False) := by
  refine Met.ofW (cc := cX3_shownAs) (maxL := 4) (ret := (some .int)) (by decide) rfl ?_
  intro p e s m args below meth c s₁ B hml hv
  obtain ⟨rfl, hP, hK⟩ := hv
  have hx := B.exec
  have hb := B.bytes
  have hr := B.returns
  have hts := atoms_spec (ws := ws_ yX3_shownAs cX3_shownAs 4 (some .int)) B.pre
  have hts : ∀ w ∈ lw_all, w.before _ s = true := fun w h => hts w (List.mem_cons_of_mem _ h)
  have hown : s.vm.findClass RX3 = some m.cls := findClass_of_methodNamed B.named
  have hlocks := B.notSynchronized
  have hl := lv_entry ([.ref (a 0), .int x1]) (n := 4) (Nat.le_of_ble_eq_true rfl)
  rw [lg_entry_eq]
  generalize (lg_sl ([.ref (a 0), .int x1]) ++ List.replicate (4 - (lg_sl ([.ref (a 0), .int x1])).length) Slot.unset).toArray = ls at hl ⊢
  have hl : lv_has ls 4 [(0, .ref (a 0)), (1, .int x1)] := hl
  unfold m_shownAs at h
  refine lv_iconst (v := 0) hx hb dX3_shownAs_0 (by decide) ?_
  refine lv_istore_n (lv' := [(2, .int (0 : Int32)), (0, .ref (a 0)), (1, .int x1)]) hx hb dX3_shownAs_1 rfl hl (by decide) rfl (fun ls hl => ?_)
  refine lv_iconst (v := 0) hx hb dX3_shownAs_2 (by decide) ?_
  refine lv_istore_n (lv' := [(3, .int (0 : Int32)), (2, .int (0 : Int32)), (0, .ref (a 0)), (1, .int x1)]) hx hb dX3_shownAs_3 rfl hl (by decide) rfl (fun ls hl => ?_)
  obtain ⟨o1, e501, h⟩ := pb_some h
  refine lp_shownAs_1 hx hb hml hown hts hK hP _ _ _ _ _ e501 ls (lv_sub hl [0, 1, 2, 3] rfl) (fun ls hl => ?_)
  refine lv_iload_n hx hb dX3_shownAs_35 rfl (lv_at hl 0 rfl) ?_
  cases h
  exact W.iret hx hb hr (fun t ht hW => ⟨rfl, ht⟩) (fun q hq => absurd hq List.not_mem_nil) dX3_shownAs_36
