/-! LectureTurnsModel: walks, 2 (printed by wip/gen/gen_model.py) -/
theorem hd_termOf : yX3_termOf.cls = RX3 ∧ yX3_termOf.cls ≠ "java/lang/invoke/MethodHandle" ∧ yX3_termOf.cls ≠ "java/lang/invoke/VarHandle" ∧ (parseMethodDescriptor yX3_termOf.desc).map (fun d => d.parameters.length) = some 2 := by decide +kernel
set_option maxHeartbeats 4000000 in
set_option maxRecDepth 100000 in
theorem met_termOf {l : Launch} {D : va_G} {dA : ClassId} {a : Nat → Nat} {sA past held text parted asShown told : Nat → Int32} {pasts runs typed spot from_ reason cause orders order : Int32} {nf : Nat} {x1 : Int32} {x2 : Int32} {r : Int32}  (h : m_termOf nf sA x1 x2 = some r) : Met l yX3_termOf (ws_ yX3_termOf cX3_termOf 3 (some .int)) ({ frames := 4, cells := 0, slots := 0, locals := 84 } : Room) (mPc [.ref (a 0), .int x1, .int x2] D dA a sA past held text parted asShown told pasts runs typed spot from_ reason cause orders order) (QcRead r) 0 0 (fun _ => False) := by
  refine Met.ofW (cc := cX3_termOf) (maxL := 3) (ret := (some .int)) (by decide) rfl ?_
  intro p e s m args below meth c s₁ B hml hv
  obtain ⟨rfl, hP, hK⟩ := hv
  have hx := B.exec
  have hb := B.bytes
  have hr := B.returns
  have hts := atoms_spec (ws := ws_ yX3_termOf cX3_termOf 3 (some .int)) B.pre
  have hts : ∀ w ∈ lw_all, w.before _ s = true := fun w h => hts w (List.mem_cons_of_mem _ h)
  have hown : s.vm.findClass RX3 = some m.cls := findClass_of_methodNamed B.named
  have hlocks := B.notSynchronized
  have hl := lv_entry ([.ref (a 0), .int x1, .int x2]) (n := 3) (Nat.le_of_ble_eq_true rfl)
  rw [lg_entry_eq]
  generalize (lg_sl ([.ref (a 0), .int x1, .int x2]) ++ List.replicate (3 - (lg_sl ([.ref (a 0), .int x1, .int x2])).length) Slot.unset).toArray = ls at hl ⊢
  have hl : lv_has ls 3 [(0, .ref (a 0)), (1, .int x1), (2, .int x2)] := hl
  unfold m_termOf at h
  refine lv_iload_n hx hb dX3_termOf_0 rfl (lv_at hl 1 rfl) ?_
  obtain ⟨b2, e1, h⟩ := pb_some h
  refine m_callR (W.runS (As := [.int x1]) (rest := []) ⟨hx, hb, hml, hown, hts⟩ (met_isTerm e1) (va_cwS 1 hts (lw_S q1362 q1363 q77 q1364) rfl rfl rfl hd_isTerm ⟨Nat.le_of_ble_eq_true rfl, Nat.le_of_ble_eq_true rfl⟩) m_preS rfl rfl hl.1 rfl (lv_room (Nat.le_of_ble_eq_true rfl)) dX3_termOf_1 ⟨Nat.le_of_ble_eq_true rfl, Nat.le_of_ble_eq_true rfl⟩) ?_
  refine lv_if_eq (tgt := 17) hx hb dX3_termOf_4 (by decide) (fun c3 => ?_) (fun c3 => ?_)
  · have h := pi_t c3 h
    refine lv_ldc hx hb hown (hts _ q1329) dX3_termOf_17 ?_
    cases h
    exact W.iret hx hb hr (fun t ht hW => ⟨rfl, ht⟩) (fun q hq => absurd hq List.not_mem_nil) dX3_termOf_19
  · have h := pi_f c3 h
    refine lv_iload_n hx hb dX3_termOf_7 rfl (lv_at hl 2 rfl) ?_
    refine lv_iconst (v := 0) hx hb dX3_termOf_8 (by decide) ?_
    refine lv_bipush (v := 6) hx hb dX3_termOf_9 (by decide) ?_
    obtain ⟨b5, e4, h⟩ := pb_some h
    refine m_callR (W.runS (As := [.int x2, .int (0 : Int32), .int (6 : Int32)]) (rest := []) ⟨hx, hb, hml, hown, hts⟩ (met_in e4) (va_cwS 3 hts (lw_S q1326 q1327 q77 q1328) rfl rfl rfl hd_in ⟨Nat.le_of_ble_eq_true rfl, Nat.le_of_ble_eq_true rfl⟩) m_preS rfl rfl hl.1 rfl (lv_room (Nat.le_of_ble_eq_true rfl)) dX3_termOf_11 ⟨Nat.le_of_ble_eq_true rfl, Nat.le_of_ble_eq_true rfl⟩) ?_
    refine lv_if_ne (tgt := 20) hx hb dX3_termOf_14 (by decide) (fun c6 => ?_) (fun c6 => ?_)
    · have h := pi_f c6 h
      refine lv_iload_n hx hb dX3_termOf_20 rfl (lv_at hl 2 rfl) ?_
      by_cases c7 : x2 = (0 : Int32)
      · have h := pi_t c7 h
        refine lv_tableIn (off := 43) (tgt := 64) hx hb dX3_termOf_21 (by rw [c7]; decide) (by rw [c7]; decide) (by rw [c7]; decide) (by decide) ?_
        refine lv_aload_n hx hb dX3_termOf_64 rfl (lv_at hl 0 rfl) ?_
        refine va_get (ci := 3) (v := .ref (a 1)) (C := RX3) (T := TX3) (N := 16) hx hb hts in_X3 hown hK hP 0 rfl rfl 0 (by decide) (hts _ q1273) (fun _ h9 => h9) rfl dX3_termOf_65 ?_
        refine lv_sipush (v := 260) hx hb dX3_termOf_68 (by decide) ?_
        refine lv_iload_n hx hb dX3_termOf_71 rfl (lv_at hl 1 rfl) ?_
        refine lv_iadd hx hb dX3_termOf_72 ?_
        obtain ⟨g8, h⟩ := pg_some h
        refine va_iald hx hb hK hP 1 0 rfl rfl g8 dX3_termOf_73 ?_
        refine lv_if_ge (tgt := 82) hx hb dX3_termOf_74 (by decide) (fun c9 => ?_) (fun c9 => ?_)
        · have h := pi_t c9 h
          refine lv_aload_n hx hb dX3_termOf_82 rfl (lv_at hl 0 rfl) ?_
          refine va_get (ci := 3) (v := .ref (a 1)) (C := RX3) (T := TX3) (N := 16) hx hb hts in_X3 hown hK hP 0 rfl rfl 0 (by decide) (hts _ q1273) (fun _ h9 => h9) rfl dX3_termOf_83 ?_
          refine lv_sipush (v := 260) hx hb dX3_termOf_86 (by decide) ?_
          refine lv_iload_n hx hb dX3_termOf_89 rfl (lv_at hl 1 rfl) ?_
          refine lv_iadd hx hb dX3_termOf_90 ?_
          refine va_iald hx hb hK hP 1 0 rfl rfl g8 dX3_termOf_91 ?_
          cases h
          exact W.iret hx hb hr (fun t ht hW => ⟨rfl, ht⟩) (fun q hq => absurd hq List.not_mem_nil) dX3_termOf_92
        · have h := pi_f c9 h
          refine lv_ldc hx hb hown (hts _ q1430) dX3_termOf_77 ?_
          refine lv_goto (tgt := 92) hx hb dX3_termOf_79 (by decide) ?_
          cases h
          exact W.iret hx hb hr (fun t ht hW => ⟨rfl, ht⟩) (fun q hq => absurd hq List.not_mem_nil) dX3_termOf_92
      have h := pi_f c7 h
      by_cases c10 : x2 = (1 : Int32)
      · have h := pi_t c10 h
        refine lv_tableIn (off := 72) (tgt := 93) hx hb dX3_termOf_21 (by rw [c10]; decide) (by rw [c10]; decide) (by rw [c10]; decide) (by decide) ?_
        refine lv_aload_n hx hb dX3_termOf_93 rfl (lv_at hl 0 rfl) ?_
        refine lv_iload_n hx hb dX3_termOf_94 rfl (lv_at hl 1 rfl) ?_
        obtain ⟨r12, e11, h⟩ := pb_some h
        refine m_callR (W.runV (As := [.int x1]) (rest := []) ⟨hx, hb, hml, hown, hts⟩ (met_shown e11) (cwV 1 hts (lw_V q1390 q1392 qs34 q77 q1393) rfl rfl rfl hd_shown ⟨Nat.le_of_ble_eq_true rfl, Nat.le_of_ble_eq_true rfl⟩) (m_preV hK hP) rfl rfl hl.1 rfl (lv_room (Nat.le_of_ble_eq_true rfl)) dX3_termOf_95 ⟨Nat.le_of_ble_eq_true rfl, Nat.le_of_ble_eq_true rfl⟩) ?_
        cases h
        exact W.iret hx hb hr (fun t ht hW => ⟨rfl, ht⟩) (fun q hq => absurd hq List.not_mem_nil) dX3_termOf_98
      have h := pi_f c10 h
      by_cases c13 : x2 = (2 : Int32)
      · have h := pi_t c13 h
        refine lv_tableIn (off := 78) (tgt := 99) hx hb dX3_termOf_21 (by rw [c13]; decide) (by rw [c13]; decide) (by rw [c13]; decide) (by decide) ?_
        refine lv_aload_n hx hb dX3_termOf_99 rfl (lv_at hl 0 rfl) ?_
        refine lv_iload_n hx hb dX3_termOf_100 rfl (lv_at hl 1 rfl) ?_
        obtain ⟨r15, e14, h⟩ := pb_some h
        refine m_callR (W.runV (As := [.int x1]) (rest := []) ⟨hx, hb, hml, hown, hts⟩ (met_chain e14) (cwV 1 hts (lw_V q1463 q1465 qs44 q77 q1466) rfl rfl rfl hd_chain ⟨Nat.le_of_ble_eq_true rfl, Nat.le_of_ble_eq_true rfl⟩) (m_preV hK hP) rfl rfl hl.1 rfl (lv_room (Nat.le_of_ble_eq_true rfl)) dX3_termOf_101 ⟨Nat.le_of_ble_eq_true rfl, Nat.le_of_ble_eq_true rfl⟩) ?_
        cases h
        exact W.iret hx hb hr (fun t ht hW => ⟨rfl, ht⟩) (fun q hq => absurd hq List.not_mem_nil) dX3_termOf_104
      have h := pi_f c13 h
      by_cases c16 : x2 = (3 : Int32)
      · have h := pi_t c16 h
        refine lv_tableIn (off := 90) (tgt := 111) hx hb dX3_termOf_21 (by rw [c16]; decide) (by rw [c16]; decide) (by rw [c16]; decide) (by decide) ?_
        refine lv_aload_n hx hb dX3_termOf_111 rfl (lv_at hl 0 rfl) ?_
        refine lv_iload_n hx hb dX3_termOf_112 rfl (lv_at hl 1 rfl) ?_
        refine lv_iload_n hx hb dX3_termOf_113 rfl (lv_at hl 2 rfl) ?_
        obtain ⟨r18, e17, h⟩ := pb_some h
        refine m_callR (W.runV (As := [.int x1, .int x2]) (rest := []) ⟨hx, hb, hml, hown, hts⟩ (met_showing e17) (cwV 2 hts (lw_V q1471 q1473 qs46 q77 q1474) rfl rfl rfl hd_showing ⟨Nat.le_of_ble_eq_true rfl, Nat.le_of_ble_eq_true rfl⟩) (m_preV hK hP) rfl rfl hl.1 rfl (lv_room (Nat.le_of_ble_eq_true rfl)) dX3_termOf_114 ⟨Nat.le_of_ble_eq_true rfl, Nat.le_of_ble_eq_true rfl⟩) ?_
        cases h
        exact W.iret hx hb hr (fun t ht hW => ⟨rfl, ht⟩) (fun q hq => absurd hq List.not_mem_nil) dX3_termOf_117
      have h := pi_f c16 h
      by_cases c19 : x2 = (4 : Int32)
      · have h := pi_t c19 h
        refine lv_tableIn (off := 90) (tgt := 111) hx hb dX3_termOf_21 (by rw [c19]; decide) (by rw [c19]; decide) (by rw [c19]; decide) (by decide) ?_
        refine lv_aload_n hx hb dX3_termOf_111 rfl (lv_at hl 0 rfl) ?_
        refine lv_iload_n hx hb dX3_termOf_112 rfl (lv_at hl 1 rfl) ?_
        refine lv_iload_n hx hb dX3_termOf_113 rfl (lv_at hl 2 rfl) ?_
        obtain ⟨r21, e20, h⟩ := pb_some h
        refine m_callR (W.runV (As := [.int x1, .int x2]) (rest := []) ⟨hx, hb, hml, hown, hts⟩ (met_showing e20) (cwV 2 hts (lw_V q1471 q1473 qs46 q77 q1474) rfl rfl rfl hd_showing ⟨Nat.le_of_ble_eq_true rfl, Nat.le_of_ble_eq_true rfl⟩) (m_preV hK hP) rfl rfl hl.1 rfl (lv_room (Nat.le_of_ble_eq_true rfl)) dX3_termOf_114 ⟨Nat.le_of_ble_eq_true rfl, Nat.le_of_ble_eq_true rfl⟩) ?_
        cases h
        exact W.iret hx hb hr (fun t ht hW => ⟨rfl, ht⟩) (fun q hq => absurd hq List.not_mem_nil) dX3_termOf_117
      have h := pi_f c19 h
      by_cases c22 : x2 = (5 : Int32)
      · have h := pi_t c22 h
        refine lv_tableIn (off := 90) (tgt := 111) hx hb dX3_termOf_21 (by rw [c22]; decide) (by rw [c22]; decide) (by rw [c22]; decide) (by decide) ?_
        refine lv_aload_n hx hb dX3_termOf_111 rfl (lv_at hl 0 rfl) ?_
        refine lv_iload_n hx hb dX3_termOf_112 rfl (lv_at hl 1 rfl) ?_
        refine lv_iload_n hx hb dX3_termOf_113 rfl (lv_at hl 2 rfl) ?_
        obtain ⟨r24, e23, h⟩ := pb_some h
        refine m_callR (W.runV (As := [.int x1, .int x2]) (rest := []) ⟨hx, hb, hml, hown, hts⟩ (met_showing e23) (cwV 2 hts (lw_V q1471 q1473 qs46 q77 q1474) rfl rfl rfl hd_showing ⟨Nat.le_of_ble_eq_true rfl, Nat.le_of_ble_eq_true rfl⟩) (m_preV hK hP) rfl rfl hl.1 rfl (lv_room (Nat.le_of_ble_eq_true rfl)) dX3_termOf_114 ⟨Nat.le_of_ble_eq_true rfl, Nat.le_of_ble_eq_true rfl⟩) ?_
        cases h
        exact W.iret hx hb hr (fun t ht hW => ⟨rfl, ht⟩) (fun q hq => absurd hq List.not_mem_nil) dX3_termOf_117
      have h := pi_f c22 h
      by_cases c25 : x2 = (6 : Int32)
      · have h := pi_t c25 h
        refine lv_tableIn (off := 84) (tgt := 105) hx hb dX3_termOf_21 (by rw [c25]; decide) (by rw [c25]; decide) (by rw [c25]; decide) (by decide) ?_
        refine lv_aload_n hx hb dX3_termOf_105 rfl (lv_at hl 0 rfl) ?_
        refine lv_iload_n hx hb dX3_termOf_106 rfl (lv_at hl 1 rfl) ?_
        obtain ⟨r27, e26, h⟩ := pb_some h
        refine m_callR (W.runV (As := [.int x1]) (rest := []) ⟨hx, hb, hml, hown, hts⟩ (met_shownAs e26) (cwV 1 hts (lw_V q1467 q1469 qs45 q77 q1470) rfl rfl rfl hd_shownAs ⟨Nat.le_of_ble_eq_true rfl, Nat.le_of_ble_eq_true rfl⟩) (m_preV hK hP) rfl rfl hl.1 rfl (lv_room (Nat.le_of_ble_eq_true rfl)) dX3_termOf_107 ⟨Nat.le_of_ble_eq_true rfl, Nat.le_of_ble_eq_true rfl⟩) ?_
        cases h
        exact W.iret hx hb hr (fun t ht hW => ⟨rfl, ht⟩) (fun q hq => absurd hq List.not_mem_nil) dX3_termOf_110
      have h := pi_f c25 h
      refine lv_tableOut (tgt := 111) hx hb dX3_termOf_21 (sw_out 0 6 (fun k h1 h2 => ?_)) (by decide) ?_
      · rcases (show k = 0 ∨ k = 1 ∨ k = 2 ∨ k = 3 ∨ k = 4 ∨ k = 5 ∨ k = 6 by omega) with rfl | rfl | rfl | rfl | rfl | rfl | rfl
        · exact sw_ne (by decide) c7
        · exact sw_ne (by decide) c10
        · exact sw_ne (by decide) c13
        · exact sw_ne (by decide) c16
        · exact sw_ne (by decide) c19
        · exact sw_ne (by decide) c22
        · exact sw_ne (by decide) c25
      refine lv_aload_n hx hb dX3_termOf_111 rfl (lv_at hl 0 rfl) ?_
      refine lv_iload_n hx hb dX3_termOf_112 rfl (lv_at hl 1 rfl) ?_
      refine lv_iload_n hx hb dX3_termOf_113 rfl (lv_at hl 2 rfl) ?_
      obtain ⟨r29, e28, h⟩ := pb_some h
      refine m_callR (W.runV (As := [.int x1, .int x2]) (rest := []) ⟨hx, hb, hml, hown, hts⟩ (met_showing e28) (cwV 2 hts (lw_V q1471 q1473 qs46 q77 q1474) rfl rfl rfl hd_showing ⟨Nat.le_of_ble_eq_true rfl, Nat.le_of_ble_eq_true rfl⟩) (m_preV hK hP) rfl rfl hl.1 rfl (lv_room (Nat.le_of_ble_eq_true rfl)) dX3_termOf_114 ⟨Nat.le_of_ble_eq_true rfl, Nat.le_of_ble_eq_true rfl⟩) ?_
      cases h
      exact W.iret hx hb hr (fun t ht hW => ⟨rfl, ht⟩) (fun q hq => absurd hq List.not_mem_nil) dX3_termOf_117
    · have h := pi_t c6 h
      refine lv_ldc hx hb hown (hts _ q1329) dX3_termOf_17 ?_
      cases h
      exact W.iret hx hb hr (fun t ht hW => ⟨rfl, ht⟩) (fun q hq => absurd hq List.not_mem_nil) dX3_termOf_19
theorem hd_secondsOf : yX3_secondsOf.cls = RX3 ∧ yX3_secondsOf.cls ≠ "java/lang/invoke/MethodHandle" ∧ yX3_secondsOf.cls ≠ "java/lang/invoke/VarHandle" ∧ (parseMethodDescriptor yX3_secondsOf.desc).map (fun d => d.parameters.length) = some 1 := by decide +kernel
set_option maxHeartbeats 4000000 in
set_option maxRecDepth 100000 in
theorem lp_secondsOf_1 {p : Program} {l : Launch} {e : Env} {s : State} {m : MethodId} {args : Array Value} {below : List Frame} {meth : Method} {c : Code} {D : va_G} {dA : ClassId} {a : Nat → Nat} {Q : State → Prop} (hx : p.tables.exec = Jvm.exec) (hb : c.code = cX3_secondsOf) (hml : c.maxLocals = 4) (hown : s.vm.findClass RX3 = some m.cls) (hts : ∀ w ∈ lw_all, w.before args s = true) {H : Heap} {locs : List Loc} {sA : Nat → Int32} {past : Nat → Int32} {held : Nat → Int32} {text : Nat → Int32} {parted : Nat → Int32} {asShown : Nat → Int32} {told : Nat → Int32} {pasts : Int32} {runs : Int32} {typed : Int32} {spot : Int32} {from_ : Int32} {reason : Int32} {cause : Int32} {orders : Int32} {order : Int32} (hK : va_K D gCl [(dA, .int)] s) (hP : va_P D gCl (mW dA a sA past held text parted asShown told pasts runs typed spot from_ reason cause orders order) H) {x1 : Int32} (nf : Nat) : ∀ (n : Nat) (y3 : Int32) (y2 : Int32) (z : Int32), m_secondsOf_L1 nf sA x1 n y3 y2 = some z → ∀ ls : Array Slot, lv_has ls 4 [(3, .int y3), (2, .int y2), (0, .ref (a 0)), (1, .int x1)] → (∀ ls : Array Slot, lv_has ls 4 [(2, .int z), (0, .ref (a 0)), (1, .int x1)] → W p l e ({ frames := 2, cells := 0, slots := 0, locals := 34 } : Room) s m args below meth c H locs 0 0 Q (F0 m 52 ls [])) → W p l e ({ frames := 2, cells := 0, slots := 0, locals := 34 } : Room) s m args below meth c H locs 0 0 Q (F0 m 4 ls []) := by
  intro n
  induction n with
  | zero => intro y3 y2 z h ls hl K; exact absurd h (by simp [m_secondsOf_L1])
  | succ n ih =>
    intro y3 y2 z h ls hl K
    unfold m_secondsOf_L1 at h
    refine lv_iload_n hx hb dX3_secondsOf_4 rfl (lv_at hl 0 rfl) ?_
    refine lv_aload_n hx hb dX3_secondsOf_5 rfl (lv_at hl 2 rfl) ?_
    refine va_get (ci := 3) (v := .ref (a 1)) (C := RX3) (T := TX3) (N := 16) hx hb hts in_X3 hown hK hP 0 rfl rfl 0 (by decide) (hts _ q1273) (fun _ h9 => h9) rfl dX3_secondsOf_6 ?_
    refine lv_sipush (v := 282) hx hb dX3_secondsOf_9 (by decide) ?_
    refine m_iald (k := 282) hx hb hK hP 1 0 rfl rfl (by decide) (by decide) dX3_secondsOf_12 ?_
    refine lv_icmp_ge (tgt := 52) hx hb dX3_secondsOf_13 (by decide) (fun c1 => ?_) (fun c1 => ?_)
    · have h := pi_t c1 h
      cases h
      exact K ls (lv_sub hl [1, 2, 3] rfl)
    · have h := pi_f c1 h
      refine lv_iload_n hx hb dX3_secondsOf_16 rfl (lv_at hl 1 rfl) ?_
      refine lv_aload_n hx hb dX3_secondsOf_17 rfl (lv_at hl 2 rfl) ?_
      refine lv_iload_n hx hb dX3_secondsOf_18 rfl (lv_at hl 0 rfl) ?_
      refine lv_iconst (v := 3) hx hb dX3_secondsOf_19 (by decide) ?_
      obtain ⟨r3, e2, h⟩ := pb_some h
      refine m_callR (W.runV (As := [.int y3, .int (3 : Int32)]) (rest := [.int y2]) ⟨hx, hb, hml, hown, hts⟩ (met_of e2) (cwV 2 hts (lw_V q1339 q1341 qs27 q77 q1342) rfl rfl rfl hd_of ⟨Nat.le_of_ble_eq_true rfl, Nat.le_of_ble_eq_true rfl⟩) (m_preV hK hP) rfl rfl hl.1 rfl (lv_room (Nat.le_of_ble_eq_true rfl)) dX3_secondsOf_20 ⟨Nat.le_of_ble_eq_true rfl, Nat.le_of_ble_eq_true rfl⟩) ?_
      refine lv_iload_n hx hb dX3_secondsOf_23 rfl (lv_at hl 3 rfl) ?_
      obtain ⟨j9, hj, h⟩ := pb_some h
      refine W.cut (g' := F0 m 44 ls [.int j9, .int y2]) ?_ (fun K => ?_)
      · refine lv_iadd hx hb dX3_secondsOf_44 ?_
        refine lv_istore_n (lv' := [(2, .int (y2 + j9)), (3, .int y3), (0, .ref (a 0)), (1, .int x1)]) hx hb dX3_secondsOf_45 rfl hl (by decide) rfl (fun ls hl => ?_)
        refine lv_iinc (v := (y3 + (1 : Int32))) (lv' := [(3, .int (y3 + (1 : Int32))), (2, .int (y2 + j9)), (0, .ref (a 0)), (1, .int x1)]) hx hb dX3_secondsOf_46 hl (k := 1) rfl (by rfl) (by decide) rfl (fun ls hl => ?_)
        refine lv_goto (tgt := 4) hx hb dX3_secondsOf_49 (by decide) ?_
        exact ih _ _ _ h ls (lv_sub hl [0, 1, 2, 3] rfl) K
      · have h := hj
        refine lv_icmp_ne (tgt := 43) hx hb dX3_secondsOf_24 (by decide) (fun c4 => ?_) (fun c4 => ?_)
        · have h := pi_f c4 h
          refine lv_iconst (v := 0) hx hb dX3_secondsOf_43 (by decide) ?_
          cases h
          exact K
        · have h := pi_t c4 h
          refine lv_aload_n hx hb dX3_secondsOf_27 rfl (lv_at hl 2 rfl) ?_
          refine lv_iload_n hx hb dX3_secondsOf_28 rfl (lv_at hl 0 rfl) ?_
          refine lv_iconst (v := 1) hx hb dX3_secondsOf_29 (by decide) ?_
          obtain ⟨r6, e5, h⟩ := pb_some h
          refine m_callR (W.runV (As := [.int y3, .int (1 : Int32)]) (rest := [.int y2]) ⟨hx, hb, hml, hown, hts⟩ (met_of e5) (cwV 2 hts (lw_V q1339 q1341 qs27 q77 q1342) rfl rfl rfl hd_of ⟨Nat.le_of_ble_eq_true rfl, Nat.le_of_ble_eq_true rfl⟩) (m_preV hK hP) rfl rfl hl.1 rfl (lv_room (Nat.le_of_ble_eq_true rfl)) dX3_secondsOf_30 ⟨Nat.le_of_ble_eq_true rfl, Nat.le_of_ble_eq_true rfl⟩) ?_
          refine lv_aload_n hx hb dX3_secondsOf_33 rfl (lv_at hl 2 rfl) ?_
          refine lv_iload_n hx hb dX3_secondsOf_34 rfl (lv_at hl 0 rfl) ?_
          refine lv_iconst (v := 0) hx hb dX3_secondsOf_35 (by decide) ?_
          obtain ⟨r8, e7, h⟩ := pb_some h
          refine m_callR (W.runV (As := [.int y3, .int (0 : Int32)]) (rest := [.int r6, .int y2]) ⟨hx, hb, hml, hown, hts⟩ (met_of e7) (cwV 2 hts (lw_V q1339 q1341 qs27 q77 q1342) rfl rfl rfl hd_of ⟨Nat.le_of_ble_eq_true rfl, Nat.le_of_ble_eq_true rfl⟩) (m_preV hK hP) rfl rfl hl.1 rfl (lv_room (Nat.le_of_ble_eq_true rfl)) dX3_secondsOf_36 ⟨Nat.le_of_ble_eq_true rfl, Nat.le_of_ble_eq_true rfl⟩) ?_
          refine lv_isub hx hb dX3_secondsOf_39 ?_
          refine lv_goto (tgt := 44) hx hb dX3_secondsOf_40 (by decide) ?_
          cases h
          exact K
set_option maxHeartbeats 4000000 in
set_option maxRecDepth 100000 in
theorem met_secondsOf {l : Launch} {D : va_G} {dA : ClassId} {a : Nat → Nat} {sA past held text parted asShown told : Nat → Int32} {pasts runs typed spot from_ reason cause orders order : Int32} {nf : Nat} {x1 : Int32} {r : Int32}  (h : m_secondsOf nf sA x1 = some r) : Met l yX3_secondsOf (ws_ yX3_secondsOf cX3_secondsOf 4 (some .int)) ({ frames := 2, cells := 0, slots := 0, locals := 34 } : Room) (mPc [.ref (a 0), .int x1] D dA a sA past held text parted asShown told pasts runs typed spot from_ reason cause orders order) (QcRead r) 0 0 (fun _ => False) := by
  refine Met.ofW (cc := cX3_secondsOf) (maxL := 4) (ret := (some .int)) (by decide) rfl ?_
  intro p e s m args below meth c s₁ B hml hv
  obtain ⟨rfl, hP, hK⟩ := hv
  have hx := B.exec
  have hb := B.bytes
  have hr := B.returns
  have hts := atoms_spec (ws := ws_ yX3_secondsOf cX3_secondsOf 4 (some .int)) B.pre
  have hts : ∀ w ∈ lw_all, w.before _ s = true := fun w h => hts w (List.mem_cons_of_mem _ h)
  have hown : s.vm.findClass RX3 = some m.cls := findClass_of_methodNamed B.named
  have hlocks := B.notSynchronized
  have hl := lv_entry ([.ref (a 0), .int x1]) (n := 4) (Nat.le_of_ble_eq_true rfl)
  rw [lg_entry_eq]
  generalize (lg_sl ([.ref (a 0), .int x1]) ++ List.replicate (4 - (lg_sl ([.ref (a 0), .int x1])).length) Slot.unset).toArray = ls at hl ⊢
  have hl : lv_has ls 4 [(0, .ref (a 0)), (1, .int x1)] := hl
  unfold m_secondsOf at h
  refine lv_iconst (v := 0) hx hb dX3_secondsOf_0 (by decide) ?_
  refine lv_istore_n (lv' := [(2, .int (0 : Int32)), (0, .ref (a 0)), (1, .int x1)]) hx hb dX3_secondsOf_1 rfl hl (by decide) rfl (fun ls hl => ?_)
  refine lv_iconst (v := 0) hx hb dX3_secondsOf_2 (by decide) ?_
  refine lv_istore_n (lv' := [(3, .int (0 : Int32)), (2, .int (0 : Int32)), (0, .ref (a 0)), (1, .int x1)]) hx hb dX3_secondsOf_3 rfl hl (by decide) rfl (fun ls hl => ?_)
  obtain ⟨o1, e501, h⟩ := pb_some h
  refine lp_secondsOf_1 hx hb hml hown hts hK hP _ _ _ _ _ e501 ls (lv_sub hl [0, 1, 2, 3] rfl) (fun ls hl => ?_)
  refine lv_iload_n hx hb dX3_secondsOf_52 rfl (lv_at hl 0 rfl) ?_
  cases h
  exact W.iret hx hb hr (fun t ht hW => ⟨rfl, ht⟩) (fun q hq => absurd hq List.not_mem_nil) dX3_secondsOf_53
theorem hd_termsOf : yX3_termsOf.cls = RX3 ∧ yX3_termsOf.cls ≠ "java/lang/invoke/MethodHandle" ∧ yX3_termsOf.cls ≠ "java/lang/invoke/VarHandle" ∧ (parseMethodDescriptor yX3_termsOf.desc).map (fun d => d.parameters.length) = some 2 := by decide +kernel
set_option maxHeartbeats 4000000 in
set_option maxRecDepth 100000 in
theorem lp_termsOf_2 {p : Program} {l : Launch} {e : Env} {s : State} {m : MethodId} {args : Array Value} {below : List Frame} {meth : Method} {c : Code} {D : va_G} {dA : ClassId} {a : Nat → Nat} {Q : State → Prop} (hx : p.tables.exec = Jvm.exec) (hb : c.code = cX3_termsOf) (hml : c.maxLocals = 6) (hown : s.vm.findClass RX3 = some m.cls) (hts : ∀ w ∈ lw_all, w.before args s = true) {H : Heap} {locs : List Loc} {sA : Nat → Int32} {past : Nat → Int32} {held : Nat → Int32} {text : Nat → Int32} {parted : Nat → Int32} {asShown : Nat → Int32} {told : Nat → Int32} {pasts : Int32} {runs : Int32} {typed : Int32} {spot : Int32} {from_ : Int32} {reason : Int32} {cause : Int32} {orders : Int32} {order : Int32} (hK : va_K D gCl [(dA, .int)] s) (hP : va_P D gCl (mW dA a sA past held text parted asShown told pasts runs typed spot from_ reason cause orders order) H) {x4 : Int32} {x1 : Int32} {x2 : Int32} (nf : Nat) : ∀ (n : Nat) (y5 : Int32) (y3 : Int32) (z : Int32), m_termsOf_L2 nf sA x4 x2 n y5 y3 = some z → ∀ ls : Array Slot, lv_has ls 6 [(5, .int y5), (3, .int y3), (4, .int x4), (0, .ref (a 0)), (1, .int x1), (2, .int x2)] → (∀ ls : Array Slot, lv_has ls 6 [(3, .int z), (4, .int x4), (0, .ref (a 0)), (1, .int x1), (2, .int x2)] → W p l e ({ frames := 2, cells := 0, slots := 0, locals := 34 } : Room) s m args below meth c H locs 0 0 Q (F0 m 91 ls [])) → W p l e ({ frames := 2, cells := 0, slots := 0, locals := 34 } : Room) s m args below meth c H locs 0 0 Q (F0 m 50 ls []) := by
  intro n
  induction n with
  | zero => intro y5 y3 z h ls hl K; exact absurd h (by simp [m_termsOf_L2])
  | succ n ih =>
    intro y5 y3 z h ls hl K
    unfold m_termsOf_L2 at h
    refine lv_iload hx hb dX3_termsOf_50 (lv_at hl 0 rfl) ?_
    refine lv_aload_n hx hb dX3_termsOf_52 rfl (lv_at hl 3 rfl) ?_
    refine lv_iload hx hb dX3_termsOf_53 (lv_at hl 2 rfl) ?_
    refine lv_iconst (v := 4) hx hb dX3_termsOf_55 (by decide) ?_
    obtain ⟨r2, e1, h⟩ := pb_some h
    refine m_callR (W.runV (As := [.int x4, .int (4 : Int32)]) (rest := [.int y5]) ⟨hx, hb, hml, hown, hts⟩ (met_of e1) (cwV 2 hts (lw_V q1339 q1341 qs27 q77 q1342) rfl rfl rfl hd_of ⟨Nat.le_of_ble_eq_true rfl, Nat.le_of_ble_eq_true rfl⟩) (m_preV hK hP) rfl rfl hl.1 rfl (lv_room (Nat.le_of_ble_eq_true rfl)) dX3_termsOf_56 ⟨Nat.le_of_ble_eq_true rfl, Nat.le_of_ble_eq_true rfl⟩) ?_
    refine lv_icmp_ge (tgt := 91) hx hb dX3_termsOf_59 (by decide) (fun c3 => ?_) (fun c3 => ?_)
    · have h := pi_t c3 h
      cases h
      exact K ls (lv_sub hl [1, 2, 3, 4, 5] rfl)
    · have h := pi_f c3 h
      refine lv_iload_n hx hb dX3_termsOf_62 rfl (lv_at hl 5 rfl) ?_
      refine lv_if_eq (tgt := 91) hx hb dX3_termsOf_63 (by decide) (fun c4 => ?_) (fun c4 => ?_)
      · have h := pi_t c4 h
        cases h
        exact K ls (lv_sub hl [1, 2, 3, 4, 5] rfl)
      · have h := pi_f c4 h
        refine lv_iload_n hx hb dX3_termsOf_66 rfl (lv_at hl 1 rfl) ?_
        refine lv_iconst (v := 1) hx hb dX3_termsOf_67 (by decide) ?_
        refine lv_aload_n hx hb dX3_termsOf_68 rfl (lv_at hl 3 rfl) ?_
        refine lv_aload_n hx hb dX3_termsOf_69 rfl (lv_at hl 3 rfl) ?_
        refine lv_iload hx hb dX3_termsOf_70 (lv_at hl 2 rfl) ?_
        refine lv_iconst (v := 5) hx hb dX3_termsOf_72 (by decide) ?_
        refine lv_iload hx hb dX3_termsOf_73 (lv_at hl 0 rfl) ?_
        refine lv_iadd hx hb dX3_termsOf_75 ?_
        obtain ⟨r6, e5, h⟩ := pb_some h
        refine m_callR (W.runV (As := [.int x4, .int ((5 : Int32) + y5)]) (rest := [.ref (a 0), .int (1 : Int32), .int y3]) ⟨hx, hb, hml, hown, hts⟩ (met_of e5) (cwV 2 hts (lw_V q1339 q1341 qs27 q77 q1342) rfl rfl rfl hd_of ⟨Nat.le_of_ble_eq_true rfl, Nat.le_of_ble_eq_true rfl⟩) (m_preV hK hP) rfl rfl hl.1 rfl (lv_room (Nat.le_of_ble_eq_true rfl)) dX3_termsOf_76 ⟨Nat.le_of_ble_eq_true rfl, Nat.le_of_ble_eq_true rfl⟩) ?_
        obtain ⟨r8, e7, h⟩ := pb_some h
        refine m_callR (W.runV (As := [.int r6]) (rest := [.int (1 : Int32), .int y3]) ⟨hx, hb, hml, hown, hts⟩ (met_shown e7) (cwV 1 hts (lw_V q1390 q1392 qs34 q77 q1393) rfl rfl rfl hd_shown ⟨Nat.le_of_ble_eq_true rfl, Nat.le_of_ble_eq_true rfl⟩) (m_preV hK hP) rfl rfl hl.1 rfl (lv_room (Nat.le_of_ble_eq_true rfl)) dX3_termsOf_79 ⟨Nat.le_of_ble_eq_true rfl, Nat.le_of_ble_eq_true rfl⟩) ?_
        refine lv_ishl hx hb dX3_termsOf_82 ?_
        refine lv_ior hx hb dX3_termsOf_83 ?_
        refine lv_istore_n (lv' := [(3, .int (y3 ||| ((1 : Int32) <<< (r8 &&& 31)))), (5, .int y5), (4, .int x4), (0, .ref (a 0)), (1, .int x1), (2, .int x2)]) hx hb dX3_termsOf_84 rfl hl (by decide) rfl (fun ls hl => ?_)
        refine lv_iinc (v := (y5 + (1 : Int32))) (lv' := [(5, .int (y5 + (1 : Int32))), (3, .int (y3 ||| ((1 : Int32) <<< (r8 &&& 31)))), (4, .int x4), (0, .ref (a 0)), (1, .int x1), (2, .int x2)]) hx hb dX3_termsOf_85 hl (k := 1) rfl (by rfl) (by decide) rfl (fun ls hl => ?_)
        refine lv_goto (tgt := 50) hx hb dX3_termsOf_88 (by decide) ?_
        exact ih _ _ _ h ls (lv_sub hl [0, 1, 2, 3, 4, 5] rfl) K
set_option maxHeartbeats 4000000 in
set_option maxRecDepth 100000 in
theorem lp_termsOf_1 {p : Program} {l : Launch} {e : Env} {s : State} {m : MethodId} {args : Array Value} {below : List Frame} {meth : Method} {c : Code} {D : va_G} {dA : ClassId} {a : Nat → Nat} {Q : State → Prop} (hx : p.tables.exec = Jvm.exec) (hb : c.code = cX3_termsOf) (hml : c.maxLocals = 6) (hown : s.vm.findClass RX3 = some m.cls) (hts : ∀ w ∈ lw_all, w.before args s = true) {H : Heap} {locs : List Loc} {sA : Nat → Int32} {past : Nat → Int32} {held : Nat → Int32} {text : Nat → Int32} {parted : Nat → Int32} {asShown : Nat → Int32} {told : Nat → Int32} {pasts : Int32} {runs : Int32} {typed : Int32} {spot : Int32} {from_ : Int32} {reason : Int32} {cause : Int32} {orders : Int32} {order : Int32} (hK : va_K D gCl [(dA, .int)] s) (hP : va_P D gCl (mW dA a sA past held text parted asShown told pasts runs typed spot from_ reason cause orders order) H) {x1 : Int32} {x2 : Int32} (nf : Nat) : ∀ (n : Nat) (y4 : Int32) (y3 : Int32) (z : Int32), m_termsOf_L1 nf sA x1 x2 n y4 y3 = some z → ∀ ls : Array Slot, lv_has ls 6 [(4, .int y4), (3, .int y3), (0, .ref (a 0)), (1, .int x1), (2, .int x2)] → (∀ ls : Array Slot, lv_has ls 6 [(3, .int z), (0, .ref (a 0)), (1, .int x1), (2, .int x2)] → W p l e ({ frames := 2, cells := 0, slots := 0, locals := 34 } : Room) s m args below meth c H locs 0 0 Q (F0 m 97 ls [])) → W p l e ({ frames := 2, cells := 0, slots := 0, locals := 34 } : Room) s m args below meth c H locs 0 0 Q (F0 m 5 ls []) := by
  intro n
  induction n with
  | zero => intro y4 y3 z h ls hl K; exact absurd h (by simp [m_termsOf_L1])
  | succ n ih =>
    intro y4 y3 z h ls hl K
    unfold m_termsOf_L1 at h
    refine lv_iload hx hb dX3_termsOf_5 (lv_at hl 0 rfl) ?_
    refine lv_aload_n hx hb dX3_termsOf_7 rfl (lv_at hl 2 rfl) ?_
    refine va_get (ci := 3) (v := .ref (a 1)) (C := RX3) (T := TX3) (N := 16) hx hb hts in_X3 hown hK hP 0 rfl rfl 0 (by decide) (hts _ q1273) (fun _ h9 => h9) rfl dX3_termsOf_8 ?_
    refine lv_sipush (v := 282) hx hb dX3_termsOf_11 (by decide) ?_
    refine m_iald (k := 282) hx hb hK hP 1 0 rfl rfl (by decide) (by decide) dX3_termsOf_14 ?_
    refine lv_icmp_ge (tgt := 97) hx hb dX3_termsOf_15 (by decide) (fun c1 => ?_) (fun c1 => ?_)
    · have h := pi_t c1 h
      cases h
      exact K ls (lv_sub hl [1, 2, 3, 4] rfl)
    · have h := pi_f c1 h
      refine lv_aload_n hx hb dX3_termsOf_18 rfl (lv_at hl 2 rfl) ?_
      refine lv_iload hx hb dX3_termsOf_19 (lv_at hl 0 rfl) ?_
      refine lv_iconst (v := 3) hx hb dX3_termsOf_21 (by decide) ?_
      obtain ⟨r3, e2, h⟩ := pb_some h
      refine m_callR (W.runV (As := [.int y4, .int (3 : Int32)]) (rest := []) ⟨hx, hb, hml, hown, hts⟩ (met_of e2) (cwV 2 hts (lw_V q1339 q1341 qs27 q77 q1342) rfl rfl rfl hd_of ⟨Nat.le_of_ble_eq_true rfl, Nat.le_of_ble_eq_true rfl⟩) (m_preV hK hP) rfl rfl hl.1 rfl (lv_room (Nat.le_of_ble_eq_true rfl)) dX3_termsOf_22 ⟨Nat.le_of_ble_eq_true rfl, Nat.le_of_ble_eq_true rfl⟩) ?_
      refine lv_iload_n hx hb dX3_termsOf_25 rfl (lv_at hl 3 rfl) ?_
      obtain ⟨j10, hj, h⟩ := pb_some h
      refine W.cutL (G := fun ls => lv_has ls 6 [(4, .int y4), (3, .int j10), (0, .ref (a 0)), (1, .int x1), (2, .int x2)]) (pc' := 91) (st' := []) (fun ls hl => ?_) (fun K => ?_)
      · refine lv_iinc (v := (y4 + (1 : Int32))) (lv' := [(4, .int (y4 + (1 : Int32))), (3, .int j10), (0, .ref (a 0)), (1, .int x1), (2, .int x2)]) hx hb dX3_termsOf_91 hl (k := 0) rfl (by rfl) (by decide) rfl (fun ls hl => ?_)
        refine lv_goto (tgt := 5) hx hb dX3_termsOf_94 (by decide) ?_
        exact ih _ _ _ h ls (lv_sub hl [0, 1, 2, 3, 4] rfl) K
      · have h := hj
        refine lv_icmp_ne (tgt := 91) hx hb dX3_termsOf_26 (by decide) (fun c4 => ?_) (fun c4 => ?_)
        · have h := pi_f c4 h
          cases h
          exact K _ (lv_sub hl [0, 1, 2, 3, 4] rfl)
        · have h := pi_t c4 h
          refine lv_iload_n hx hb dX3_termsOf_29 rfl (lv_at hl 1 rfl) ?_
          refine lv_iload_n hx hb dX3_termsOf_30 rfl (lv_at hl 4 rfl) ?_
          obtain ⟨j8, hj, h⟩ := pb_some h
          refine W.cut (g' := F0 m 45 ls [.int j8, .int y3]) ?_ (fun K => ?_)
          · refine lv_iadd hx hb dX3_termsOf_45 ?_
            refine lv_istore_n (lv' := [(3, .int (y3 + j8)), (4, .int y4), (0, .ref (a 0)), (1, .int x1), (2, .int x2)]) hx hb dX3_termsOf_46 rfl hl (by decide) rfl (fun ls hl => ?_)
            refine lv_iconst (v := 0) hx hb dX3_termsOf_47 (by decide) ?_
            refine lv_istore (lv' := [(5, .int (0 : Int32)), (3, .int (y3 + j8)), (4, .int y4), (0, .ref (a 0)), (1, .int x1), (2, .int x2)]) hx hb dX3_termsOf_48 hl (by decide) rfl (fun ls hl => ?_)
            obtain ⟨o9, e501, h⟩ := pb_some h
            refine lp_termsOf_2 hx hb hml hown hts hK hP _ _ _ _ _ e501 ls (lv_sub hl [0, 1, 2, 3, 4, 5] rfl) (fun ls hl => ?_)
            cases h
            exact K _ (lv_sub hl [1, 0, 2, 3, 4] rfl)
          · have h := hj
            refine lv_if_eq (tgt := 38) hx hb dX3_termsOf_31 (by decide) (fun c5 => ?_) (fun c5 => ?_)
            · have h := pi_t c5 h
              refine lv_aload_n hx hb dX3_termsOf_38 rfl (lv_at hl 2 rfl) ?_
              refine lv_iload hx hb dX3_termsOf_39 (lv_at hl 0 rfl) ?_
              refine lv_iconst (v := 4) hx hb dX3_termsOf_41 (by decide) ?_
              obtain ⟨r7, e6, h⟩ := pb_some h
              refine m_callR (W.runV (As := [.int y4, .int (4 : Int32)]) (rest := [.int y3]) ⟨hx, hb, hml, hown, hts⟩ (met_of e6) (cwV 2 hts (lw_V q1339 q1341 qs27 q77 q1342) rfl rfl rfl hd_of ⟨Nat.le_of_ble_eq_true rfl, Nat.le_of_ble_eq_true rfl⟩) (m_preV hK hP) rfl rfl hl.1 rfl (lv_room (Nat.le_of_ble_eq_true rfl)) dX3_termsOf_42 ⟨Nat.le_of_ble_eq_true rfl, Nat.le_of_ble_eq_true rfl⟩) ?_
              cases h
              exact K
            · have h := pi_f c5 h
              refine lv_iconst (v := 0) hx hb dX3_termsOf_34 (by decide) ?_
              refine lv_goto (tgt := 45) hx hb dX3_termsOf_35 (by decide) ?_
              cases h
              exact K
set_option maxHeartbeats 4000000 in
set_option maxRecDepth 100000 in
theorem met_termsOf {l : Launch} {D : va_G} {dA : ClassId} {a : Nat → Nat} {sA past held text parted asShown told : Nat → Int32} {pasts runs typed spot from_ reason cause orders order : Int32} {nf : Nat} {x1 : Int32} {x2 : Int32} {r : Int32}  (h : m_termsOf nf sA x1 x2 = some r) : Met l yX3_termsOf (ws_ yX3_termsOf cX3_termsOf 6 (some .int)) ({ frames := 2, cells := 0, slots := 0, locals := 34 } : Room) (mPc [.ref (a 0), .int x1, .int x2] D dA a sA past held text parted asShown told pasts runs typed spot from_ reason cause orders order) (QcRead r) 0 0 (fun _ => False) := by
  refine Met.ofW (cc := cX3_termsOf) (maxL := 6) (ret := (some .int)) (by decide) rfl ?_
  intro p e s m args below meth c s₁ B hml hv
  obtain ⟨rfl, hP, hK⟩ := hv
  have hx := B.exec
  have hb := B.bytes
  have hr := B.returns
  have hts := atoms_spec (ws := ws_ yX3_termsOf cX3_termsOf 6 (some .int)) B.pre
  have hts : ∀ w ∈ lw_all, w.before _ s = true := fun w h => hts w (List.mem_cons_of_mem _ h)
  have hown : s.vm.findClass RX3 = some m.cls := findClass_of_methodNamed B.named
  have hlocks := B.notSynchronized
  have hl := lv_entry ([.ref (a 0), .int x1, .int x2]) (n := 6) (Nat.le_of_ble_eq_true rfl)
  rw [lg_entry_eq]
  generalize (lg_sl ([.ref (a 0), .int x1, .int x2]) ++ List.replicate (6 - (lg_sl ([.ref (a 0), .int x1, .int x2])).length) Slot.unset).toArray = ls at hl ⊢
  have hl : lv_has ls 6 [(0, .ref (a 0)), (1, .int x1), (2, .int x2)] := hl
  unfold m_termsOf at h
  refine lv_iconst (v := 0) hx hb dX3_termsOf_0 (by decide) ?_
  refine lv_istore_n (lv' := [(3, .int (0 : Int32)), (0, .ref (a 0)), (1, .int x1), (2, .int x2)]) hx hb dX3_termsOf_1 rfl hl (by decide) rfl (fun ls hl => ?_)
  refine lv_iconst (v := 0) hx hb dX3_termsOf_2 (by decide) ?_
  refine lv_istore (lv' := [(4, .int (0 : Int32)), (3, .int (0 : Int32)), (0, .ref (a 0)), (1, .int x1), (2, .int x2)]) hx hb dX3_termsOf_3 hl (by decide) rfl (fun ls hl => ?_)
  obtain ⟨o1, e501, h⟩ := pb_some h
  refine lp_termsOf_1 hx hb hml hown hts hK hP _ _ _ _ _ e501 ls (lv_sub hl [0, 1, 2, 3, 4] rfl) (fun ls hl => ?_)
  refine lv_iload_n hx hb dX3_termsOf_97 rfl (lv_at hl 0 rfl) ?_
  cases h
  exact W.iret hx hb hr (fun t ht hW => ⟨rfl, ht⟩) (fun q hq => absurd hq List.not_mem_nil) dX3_termsOf_98
theorem hd_byMinute : yX3_byMinute.cls = RX3 ∧ yX3_byMinute.cls ≠ "java/lang/invoke/MethodHandle" ∧ yX3_byMinute.cls ≠ "java/lang/invoke/VarHandle" ∧ (parseMethodDescriptor yX3_byMinute.desc).map (fun d => d.parameters.length) = some 1 := by decide +kernel
set_option maxHeartbeats 4000000 in
set_option maxRecDepth 100000 in
theorem met_byMinute {l : Launch} {D : va_G} {dA : ClassId} {a : Nat → Nat} {sA past held text parted asShown told : Nat → Int32} {pasts runs typed spot from_ reason cause orders order : Int32} {nf : Nat} {x1 : Int32} {r : Int32}  (h : m_byMinute nf sA x1 = some r) : Met l yX3_byMinute (ws_ yX3_byMinute cX3_byMinute 4 (some .int)) ({ frames := 3, cells := 0, slots := 0, locals := 59 } : Room) (mPc [.ref (a 0), .int x1] D dA a sA past held text parted asShown told pasts runs typed spot from_ reason cause orders order) (QcRead r) 0 0 (fun _ => False) := by
  refine Met.ofW (cc := cX3_byMinute) (maxL := 4) (ret := (some .int)) (by decide) rfl ?_
  intro p e s m args below meth c s₁ B hml hv
  obtain ⟨rfl, hP, hK⟩ := hv
  have hx := B.exec
  have hb := B.bytes
  have hr := B.returns
  have hts := atoms_spec (ws := ws_ yX3_byMinute cX3_byMinute 4 (some .int)) B.pre
  have hts : ∀ w ∈ lw_all, w.before _ s = true := fun w h => hts w (List.mem_cons_of_mem _ h)
  have hown : s.vm.findClass RX3 = some m.cls := findClass_of_methodNamed B.named
  have hlocks := B.notSynchronized
  have hl := lv_entry ([.ref (a 0), .int x1]) (n := 4) (Nat.le_of_ble_eq_true rfl)
  rw [lg_entry_eq]
  generalize (lg_sl ([.ref (a 0), .int x1]) ++ List.replicate (4 - (lg_sl ([.ref (a 0), .int x1])).length) Slot.unset).toArray = ls at hl ⊢
  have hl : lv_has ls 4 [(0, .ref (a 0)), (1, .int x1)] := hl
  unfold m_byMinute at h
  refine lv_aload_n hx hb dX3_byMinute_0 rfl (lv_at hl 0 rfl) ?_
  refine lv_iload_n hx hb dX3_byMinute_1 rfl (lv_at hl 1 rfl) ?_
  obtain ⟨r2, e1, h⟩ := pb_some h
  refine m_callR (W.runV (As := [.int x1]) (rest := []) ⟨hx, hb, hml, hown, hts⟩ (met_secondsOf e1) (cwV 1 hts (lw_V q1483 q1485 qs48 q77 q1486) rfl rfl rfl hd_secondsOf ⟨Nat.le_of_ble_eq_true rfl, Nat.le_of_ble_eq_true rfl⟩) (m_preV hK hP) rfl rfl hl.1 rfl (lv_room (Nat.le_of_ble_eq_true rfl)) dX3_byMinute_2 ⟨Nat.le_of_ble_eq_true rfl, Nat.le_of_ble_eq_true rfl⟩) ?_
  refine lv_istore_n (lv' := [(2, .int r2), (0, .ref (a 0)), (1, .int x1)]) hx hb dX3_byMinute_5 rfl hl (by decide) rfl (fun ls hl => ?_)
  refine lv_aload_n hx hb dX3_byMinute_6 rfl (lv_at hl 1 rfl) ?_
  refine lv_iload_n hx hb dX3_byMinute_7 rfl (lv_at hl 2 rfl) ?_
  refine lv_iconst (v := 0) hx hb dX3_byMinute_8 (by decide) ?_
  obtain ⟨r4, e3, h⟩ := pb_some h
  refine m_callR (W.runV (As := [.int x1, .int (0 : Int32)]) (rest := []) ⟨hx, hb, hml, hown, hts⟩ (met_termsOf e3) (cwV 2 hts (lw_V q1487 q1489 qs49 q77 q1490) rfl rfl rfl hd_termsOf ⟨Nat.le_of_ble_eq_true rfl, Nat.le_of_ble_eq_true rfl⟩) (m_preV hK hP) rfl rfl hl.1 rfl (lv_room (Nat.le_of_ble_eq_true rfl)) dX3_byMinute_9 ⟨Nat.le_of_ble_eq_true rfl, Nat.le_of_ble_eq_true rfl⟩) ?_
  refine lv_i2f hx hb dX3_byMinute_12 ?_
  refine lv_ldcf hx hb hown (hts _ q1499) dX3_byMinute_13 ?_
  obtain ⟨g5, h⟩ := pg_some h
  refine lv_fmul hx hb dX3_byMinute_15 g5 ?_
  refine lv_iload_n hx hb dX3_byMinute_16 rfl (lv_at hl 0 rfl) ?_
  obtain ⟨j7, hj, h⟩ := pb_some h
  refine W.cut (g' := F0 m 25 ls [.int j7, .float (FP.fmul (FP.i2f r4) (1114636288 : UInt32))]) ?_ (fun K => ?_)
  · refine lv_i2f hx hb dX3_byMinute_25 ?_
    obtain ⟨g8, h⟩ := pg_some h
    refine lv_fdiv hx hb dX3_byMinute_26 g8 ?_
    refine lv_fstore_n (lv' := [(3, .float (FP.fdiv (FP.fmul (FP.i2f r4) (1114636288 : UInt32)) (FP.i2f j7))), (2, .int r2), (0, .ref (a 0)), (1, .int x1)]) hx hb dX3_byMinute_27 rfl hl (by decide) rfl (fun ls hl => ?_)
    refine lv_iload_n hx hb dX3_byMinute_28 rfl (lv_at hl 1 rfl) ?_
    refine lv_if_ne (tgt := 37) hx hb dX3_byMinute_29 (by decide) (fun c9 => ?_) (fun c9 => ?_)
    · have h := pi_f c9 h
      refine lv_fload_n hx hb dX3_byMinute_37 rfl (lv_at hl 0 rfl) ?_
      obtain ⟨r11, e10, h⟩ := pb_some h
      refine m_callR (W.runS (As := [.float (FP.fdiv (FP.fmul (FP.i2f r4) (1114636288 : UInt32)) (FP.i2f j7))]) (rest := []) ⟨hx, hb, hml, hown, hts⟩ (met_J18_floatToIntBits e10) (va_cwS 1 hts (lw_S q1500 q878 q93 q879) rfl rfl rfl hd_J18_floatToIntBits ⟨Nat.le_of_ble_eq_true rfl, Nat.le_of_ble_eq_true rfl⟩) m_preS rfl rfl hl.1 rfl (lv_room (Nat.le_of_ble_eq_true rfl)) dX3_byMinute_38 ⟨Nat.le_of_ble_eq_true rfl, Nat.le_of_ble_eq_true rfl⟩) ?_
      cases h
      exact W.iret hx hb hr (fun t ht hW => ⟨rfl, ht⟩) (fun q hq => absurd hq List.not_mem_nil) dX3_byMinute_41
    · have h := pi_t c9 h
      refine lv_ldc hx hb hown (hts _ q1430) dX3_byMinute_32 ?_
      refine lv_goto (tgt := 41) hx hb dX3_byMinute_34 (by decide) ?_
      cases h
      exact W.iret hx hb hr (fun t ht hW => ⟨rfl, ht⟩) (fun q hq => absurd hq List.not_mem_nil) dX3_byMinute_41
  · have h := hj
    refine lv_if_ne (tgt := 24) hx hb dX3_byMinute_17 (by decide) (fun c6 => ?_) (fun c6 => ?_)
    · have h := pi_f c6 h
      refine lv_iload_n hx hb dX3_byMinute_24 rfl (lv_at hl 0 rfl) ?_
      cases h
      exact K
    · have h := pi_t c6 h
      refine lv_iconst (v := 1) hx hb dX3_byMinute_20 (by decide) ?_
      refine lv_goto (tgt := 25) hx hb dX3_byMinute_21 (by decide) ?_
      cases h
      exact K
theorem hd_often : yX3_often.cls = RX3 ∧ yX3_often.cls ≠ "java/lang/invoke/MethodHandle" ∧ yX3_often.cls ≠ "java/lang/invoke/VarHandle" ∧ (parseMethodDescriptor yX3_often.desc).map (fun d => d.parameters.length) = some 2 := by decide +kernel
set_option maxHeartbeats 4000000 in
set_option maxRecDepth 100000 in
theorem lp_often_2 {p : Program} {l : Launch} {e : Env} {s : State} {m : MethodId} {args : Array Value} {below : List Frame} {meth : Method} {c : Code} {D : va_G} {dA : ClassId} {a : Nat → Nat} {Q : State → Prop} (hx : p.tables.exec = Jvm.exec) (hb : c.code = cX3_often) (hml : c.maxLocals = 7) (hown : s.vm.findClass RX3 = some m.cls) (hts : ∀ w ∈ lw_all, w.before args s = true) {H : Heap} {locs : List Loc} {sA : Nat → Int32} {past : Nat → Int32} {held : Nat → Int32} {text : Nat → Int32} {parted : Nat → Int32} {asShown : Nat → Int32} {told : Nat → Int32} {pasts : Int32} {runs : Int32} {typed : Int32} {spot : Int32} {from_ : Int32} {reason : Int32} {cause : Int32} {orders : Int32} {order : Int32} (hK : va_K D gCl [(dA, .int)] s) (hP : va_P D gCl (mW dA a sA past held text parted asShown told pasts runs typed spot from_ reason cause orders order) H) {x4 : Int32} {x1 : Int32} {x2 : Int32} (nf : Nat) : ∀ (n : Nat) (y5 : Int32) (y3 : Int32) (z : Int32), m_often_L2 nf sA x4 x1 x2 n y5 y3 = some z → ∀ ls : Array Slot, lv_has ls 7 [(5, .int y5), (3, .int y3), (4, .int x4), (0, .ref (a 0)), (1, .int x1), (2, .int x2)] → (∀ ls : Array Slot, lv_has ls 7 [(3, .int z), (4, .int x4), (0, .ref (a 0)), (1, .int x1), (2, .int x2)] → W p l e ({ frames := 3, cells := 0, slots := 0, locals := 57 } : Room) s m args below meth c H locs 0 0 Q (F0 m 101 ls [])) → W p l e ({ frames := 3, cells := 0, slots := 0, locals := 57 } : Room) s m args below meth c H locs 0 0 Q (F0 m 21 ls []) := by
  intro n
  induction n with
  | zero => intro y5 y3 z h ls hl K; exact absurd h (by simp [m_often_L2])
  | succ n ih =>
    intro y5 y3 z h ls hl K
    unfold m_often_L2 at h
    refine lv_iload hx hb dX3_often_21 (lv_at hl 0 rfl) ?_
    refine lv_aload_n hx hb dX3_often_23 rfl (lv_at hl 3 rfl) ?_
    refine va_get (ci := 3) (v := .ref (a 1)) (C := RX3) (T := TX3) (N := 16) hx hb hts in_X3 hown hK hP 0 rfl rfl 0 (by decide) (hts _ q1273) (fun _ h9 => h9) rfl dX3_often_24 ?_
    refine lv_sipush (v := 282) hx hb dX3_often_27 (by decide) ?_
    refine m_iald (k := 282) hx hb hK hP 1 0 rfl rfl (by decide) (by decide) dX3_often_30 ?_
    refine lv_icmp_ge (tgt := 101) hx hb dX3_often_31 (by decide) (fun c1 => ?_) (fun c1 => ?_)
    · have h := pi_t c1 h
      cases h
      exact K ls (lv_sub hl [1, 2, 3, 4, 5] rfl)
    · have h := pi_f c1 h
      refine lv_iload_n hx hb dX3_often_34 rfl (lv_at hl 4 rfl) ?_
      obtain ⟨j14, hj, h⟩ := pb_some h
      refine W.cut (g' := F0 m 69 ls [.int (bi j14)]) ?_ (fun K => ?_)
      · refine lv_istore (lv' := [(6, .int (bi j14)), (5, .int y5), (3, .int y3), (4, .int x4), (0, .ref (a 0)), (1, .int x1), (2, .int x2)]) hx hb dX3_often_69 hl (by decide) rfl (fun ls hl => ?_)
        refine lv_iload_n hx hb dX3_often_71 rfl (lv_at hl 2 rfl) ?_
        refine lv_iload hx hb dX3_often_72 (lv_at hl 0 rfl) ?_
        obtain ⟨j19, hj, h⟩ := pb_some h
        refine W.cut (g' := F0 m 93 ls [.int (bi j19), .int y3]) ?_ (fun K => ?_)
        · refine lv_iadd hx hb dX3_often_93 ?_
          refine lv_istore_n (lv' := [(3, .int (y3 + (bi j19))), (6, .int (bi j14)), (5, .int y5), (4, .int x4), (0, .ref (a 0)), (1, .int x1), (2, .int x2)]) hx hb dX3_often_94 rfl hl (by decide) rfl (fun ls hl => ?_)
          refine lv_iinc (v := (y5 + (1 : Int32))) (lv' := [(5, .int (y5 + (1 : Int32))), (3, .int (y3 + (bi j19))), (6, .int (bi j14)), (4, .int x4), (0, .ref (a 0)), (1, .int x1), (2, .int x2)]) hx hb dX3_often_95 hl (k := 2) rfl (by rfl) (by decide) rfl (fun ls hl => ?_)
          refine lv_goto (tgt := 21) hx hb dX3_often_98 (by decide) ?_
          exact ih _ _ _ h ls (lv_sub hl [0, 1, 3, 4, 5, 6] rfl) K
        · have h := hj
          refine lv_if_eq (tgt := 92) hx hb dX3_often_74 (by decide) (fun c15 => ?_) (fun c15 => ?_)
          · have h := pi_t c15 h
            refine lv_iconst (v := 0) hx hb dX3_often_92 (by decide) ?_
            cases h
            exact K
          · have h := pi_f c15 h
            refine lv_aload_n hx hb dX3_often_77 rfl (lv_at hl 4 rfl) ?_
            refine lv_iload hx hb dX3_often_78 (lv_at hl 3 rfl) ?_
            refine lv_iload hx hb dX3_often_80 (lv_at hl 1 rfl) ?_
            obtain ⟨b17, e16, h⟩ := pb_some h
            refine m_callR (W.runV (As := [.int x4, .int y5]) (rest := [.int y3]) ⟨hx, hb, hml, hown, hts⟩ (met_interrupt e16) (cwV 2 hts (lw_V q1435 q1437 qs39 q77 q1438) rfl rfl rfl hd_interrupt ⟨Nat.le_of_ble_eq_true rfl, Nat.le_of_ble_eq_true rfl⟩) (m_preV hK hP) rfl rfl hl.1 rfl (lv_room (Nat.le_of_ble_eq_true rfl)) dX3_often_82 ⟨Nat.le_of_ble_eq_true rfl, Nat.le_of_ble_eq_true rfl⟩) ?_
            refine lv_if_eq (tgt := 92) hx hb dX3_often_85 (by decide) (fun c18 => ?_) (fun c18 => ?_)
            · have h := pi_t c18 h
              refine lv_iconst (v := 0) hx hb dX3_often_92 (by decide) ?_
              cases h
              exact K
            · have h := pi_f c18 h
              refine lv_iconst (v := 1) hx hb dX3_often_88 (by decide) ?_
              refine lv_goto (tgt := 93) hx hb dX3_often_89 (by decide) ?_
              cases h
              exact K
      · have h := hj
        refine lv_if_lt (tgt := 49) hx hb dX3_often_35 (by decide) (fun c2 => ?_) (fun c2 => ?_)
        · have h := pi_t c2 h
          refine lv_iload_n hx hb dX3_often_49 rfl (lv_at hl 5 rfl) ?_
          refine lv_if_lt (tgt := 64) hx hb dX3_often_50 (by decide) (fun c3 => ?_) (fun c3 => ?_)
          · have h := pi_t c3 h
            refine lv_iconst (v := 1) hx hb dX3_often_64 (by decide) ?_
            refine lv_goto (tgt := 69) hx hb dX3_often_65 (by decide) ?_
            cases h
            exact K
          · have h := pi_f c3 h
            refine lv_aload_n hx hb dX3_often_53 rfl (lv_at hl 3 rfl) ?_
            refine lv_iload hx hb dX3_often_54 (lv_at hl 0 rfl) ?_
            refine lv_iconst (v := 3) hx hb dX3_often_56 (by decide) ?_
            obtain ⟨r5, e4, h⟩ := pb_some h
            refine m_callR (W.runV (As := [.int y5, .int (3 : Int32)]) (rest := []) ⟨hx, hb, hml, hown, hts⟩ (met_of e4) (cwV 2 hts (lw_V q1339 q1341 qs27 q77 q1342) rfl rfl rfl hd_of ⟨Nat.le_of_ble_eq_true rfl, Nat.le_of_ble_eq_true rfl⟩) (m_preV hK hP) rfl rfl hl.1 rfl (lv_room (Nat.le_of_ble_eq_true rfl)) dX3_often_57 ⟨Nat.le_of_ble_eq_true rfl, Nat.le_of_ble_eq_true rfl⟩) ?_
            refine lv_iload_n hx hb dX3_often_60 rfl (lv_at hl 5 rfl) ?_
            refine lv_icmp_ne (tgt := 68) hx hb dX3_often_61 (by decide) (fun c6 => ?_) (fun c6 => ?_)
            · have h := pi_f c6 h
              refine lv_iconst (v := 0) hx hb dX3_often_68 (by decide) ?_
              cases h
              exact K
            · have h := pi_t c6 h
              refine lv_iconst (v := 1) hx hb dX3_often_64 (by decide) ?_
              refine lv_goto (tgt := 69) hx hb dX3_often_65 (by decide) ?_
              cases h
              exact K
        · have h := pi_f c2 h
          refine lv_aload_n hx hb dX3_often_38 rfl (lv_at hl 3 rfl) ?_
          refine lv_iload hx hb dX3_often_39 (lv_at hl 2 rfl) ?_
          refine lv_iconst (v := 3) hx hb dX3_often_41 (by decide) ?_
          obtain ⟨r8, e7, h⟩ := pb_some h
          refine m_callR (W.runV (As := [.int x4, .int (3 : Int32)]) (rest := []) ⟨hx, hb, hml, hown, hts⟩ (met_of e7) (cwV 2 hts (lw_V q1339 q1341 qs27 q77 q1342) rfl rfl rfl hd_of ⟨Nat.le_of_ble_eq_true rfl, Nat.le_of_ble_eq_true rfl⟩) (m_preV hK hP) rfl rfl hl.1 rfl (lv_room (Nat.le_of_ble_eq_true rfl)) dX3_often_42 ⟨Nat.le_of_ble_eq_true rfl, Nat.le_of_ble_eq_true rfl⟩) ?_
          refine lv_iload_n hx hb dX3_often_45 rfl (lv_at hl 4 rfl) ?_
          refine lv_icmp_ne (tgt := 68) hx hb dX3_often_46 (by decide) (fun c9 => ?_) (fun c9 => ?_)
          · have h := pi_f c9 h
            refine lv_iconst (v := 0) hx hb dX3_often_68 (by decide) ?_
            cases h
            exact K
          · have h := pi_t c9 h
            refine lv_iload_n hx hb dX3_often_49 rfl (lv_at hl 5 rfl) ?_
            refine lv_if_lt (tgt := 64) hx hb dX3_often_50 (by decide) (fun c10 => ?_) (fun c10 => ?_)
            · have h := pi_t c10 h
              refine lv_iconst (v := 1) hx hb dX3_often_64 (by decide) ?_
              refine lv_goto (tgt := 69) hx hb dX3_often_65 (by decide) ?_
              cases h
              exact K
            · have h := pi_f c10 h
              refine lv_aload_n hx hb dX3_often_53 rfl (lv_at hl 3 rfl) ?_
              refine lv_iload hx hb dX3_often_54 (lv_at hl 0 rfl) ?_
              refine lv_iconst (v := 3) hx hb dX3_often_56 (by decide) ?_
              obtain ⟨r12, e11, h⟩ := pb_some h
              refine m_callR (W.runV (As := [.int y5, .int (3 : Int32)]) (rest := []) ⟨hx, hb, hml, hown, hts⟩ (met_of e11) (cwV 2 hts (lw_V q1339 q1341 qs27 q77 q1342) rfl rfl rfl hd_of ⟨Nat.le_of_ble_eq_true rfl, Nat.le_of_ble_eq_true rfl⟩) (m_preV hK hP) rfl rfl hl.1 rfl (lv_room (Nat.le_of_ble_eq_true rfl)) dX3_often_57 ⟨Nat.le_of_ble_eq_true rfl, Nat.le_of_ble_eq_true rfl⟩) ?_
              refine lv_iload_n hx hb dX3_often_60 rfl (lv_at hl 5 rfl) ?_
              refine lv_icmp_ne (tgt := 68) hx hb dX3_often_61 (by decide) (fun c13 => ?_) (fun c13 => ?_)
              · have h := pi_f c13 h
                refine lv_iconst (v := 0) hx hb dX3_often_68 (by decide) ?_
                cases h
                exact K
              · have h := pi_t c13 h
                refine lv_iconst (v := 1) hx hb dX3_often_64 (by decide) ?_
                refine lv_goto (tgt := 69) hx hb dX3_often_65 (by decide) ?_
                cases h
                exact K
set_option maxHeartbeats 4000000 in
set_option maxRecDepth 100000 in
theorem lp_often_1 {p : Program} {l : Launch} {e : Env} {s : State} {m : MethodId} {args : Array Value} {below : List Frame} {meth : Method} {c : Code} {D : va_G} {dA : ClassId} {a : Nat → Nat} {Q : State → Prop} (hx : p.tables.exec = Jvm.exec) (hb : c.code = cX3_often) (hml : c.maxLocals = 7) (hown : s.vm.findClass RX3 = some m.cls) (hts : ∀ w ∈ lw_all, w.before args s = true) {H : Heap} {locs : List Loc} {sA : Nat → Int32} {past : Nat → Int32} {held : Nat → Int32} {text : Nat → Int32} {parted : Nat → Int32} {asShown : Nat → Int32} {told : Nat → Int32} {pasts : Int32} {runs : Int32} {typed : Int32} {spot : Int32} {from_ : Int32} {reason : Int32} {cause : Int32} {orders : Int32} {order : Int32} (hK : va_K D gCl [(dA, .int)] s) (hP : va_P D gCl (mW dA a sA past held text parted asShown told pasts runs typed spot from_ reason cause orders order) H) {x1 : Int32} {x2 : Int32} (nf : Nat) : ∀ (n : Nat) (y4 : Int32) (y3 : Int32) (z : Int32), m_often_L1 nf sA x1 x2 n y4 y3 = some z → ∀ ls : Array Slot, lv_has ls 7 [(4, .int y4), (3, .int y3), (0, .ref (a 0)), (1, .int x1), (2, .int x2)] → (∀ ls : Array Slot, lv_has ls 7 [(3, .int z), (0, .ref (a 0)), (1, .int x1), (2, .int x2)] → W p l e ({ frames := 3, cells := 0, slots := 0, locals := 57 } : Room) s m args below meth c H locs 0 0 Q (F0 m 107 ls [])) → W p l e ({ frames := 3, cells := 0, slots := 0, locals := 57 } : Room) s m args below meth c H locs 0 0 Q (F0 m 5 ls []) := by
  intro n
  induction n with
  | zero => intro y4 y3 z h ls hl K; exact absurd h (by simp [m_often_L1])
  | succ n ih =>
    intro y4 y3 z h ls hl K
    unfold m_often_L1 at h
    refine lv_iload hx hb dX3_often_5 (lv_at hl 0 rfl) ?_
    refine lv_aload_n hx hb dX3_often_7 rfl (lv_at hl 2 rfl) ?_
    refine va_get (ci := 3) (v := .ref (a 1)) (C := RX3) (T := TX3) (N := 16) hx hb hts in_X3 hown hK hP 0 rfl rfl 0 (by decide) (hts _ q1273) (fun _ h9 => h9) rfl dX3_often_8 ?_
    refine lv_sipush (v := 282) hx hb dX3_often_11 (by decide) ?_
    refine m_iald (k := 282) hx hb hK hP 1 0 rfl rfl (by decide) (by decide) dX3_often_14 ?_
    refine lv_icmp_ge (tgt := 107) hx hb dX3_often_15 (by decide) (fun c1 => ?_) (fun c1 => ?_)
    · have h := pi_t c1 h
      cases h
      exact K ls (lv_sub hl [1, 2, 3, 4] rfl)
    · have h := pi_f c1 h
      refine lv_iconst (v := 0) hx hb dX3_often_18 (by decide) ?_
      refine lv_istore (lv' := [(5, .int (0 : Int32)), (4, .int y4), (3, .int y3), (0, .ref (a 0)), (1, .int x1), (2, .int x2)]) hx hb dX3_often_19 hl (by decide) rfl (fun ls hl => ?_)
      obtain ⟨o2, e501, h⟩ := pb_some h
      refine lp_often_2 hx hb hml hown hts hK hP _ _ _ _ _ e501 ls (lv_sub hl [0, 2, 1, 3, 4, 5] rfl) (fun ls hl => ?_)
      refine lv_iinc (v := (y4 + (1 : Int32))) (lv' := [(4, .int (y4 + (1 : Int32))), (3, .int o2), (0, .ref (a 0)), (1, .int x1), (2, .int x2)]) hx hb dX3_often_101 hl (k := 1) rfl (by rfl) (by decide) rfl (fun ls hl => ?_)
      refine lv_goto (tgt := 5) hx hb dX3_often_104 (by decide) ?_
      exact ih _ _ _ h ls (lv_sub hl [0, 1, 2, 3, 4] rfl) K
set_option maxHeartbeats 4000000 in
set_option maxRecDepth 100000 in
theorem met_often {l : Launch} {D : va_G} {dA : ClassId} {a : Nat → Nat} {sA past held text parted asShown told : Nat → Int32} {pasts runs typed spot from_ reason cause orders order : Int32} {nf : Nat} {x1 : Int32} {x2 : Int32} {r : Int32}  (h : m_often nf sA x1 x2 = some r) : Met l yX3_often (ws_ yX3_often cX3_often 7 (some .int)) ({ frames := 3, cells := 0, slots := 0, locals := 57 } : Room) (mPc [.ref (a 0), .int x1, .int x2] D dA a sA past held text parted asShown told pasts runs typed spot from_ reason cause orders order) (QcRead r) 0 0 (fun _ => False) := by
  refine Met.ofW (cc := cX3_often) (maxL := 7) (ret := (some .int)) (by decide) rfl ?_
  intro p e s m args below meth c s₁ B hml hv
  obtain ⟨rfl, hP, hK⟩ := hv
  have hx := B.exec
  have hb := B.bytes
  have hr := B.returns
  have hts := atoms_spec (ws := ws_ yX3_often cX3_often 7 (some .int)) B.pre
  have hts : ∀ w ∈ lw_all, w.before _ s = true := fun w h => hts w (List.mem_cons_of_mem _ h)
  have hown : s.vm.findClass RX3 = some m.cls := findClass_of_methodNamed B.named
  have hlocks := B.notSynchronized
  have hl := lv_entry ([.ref (a 0), .int x1, .int x2]) (n := 7) (Nat.le_of_ble_eq_true rfl)
  rw [lg_entry_eq]
  generalize (lg_sl ([.ref (a 0), .int x1, .int x2]) ++ List.replicate (7 - (lg_sl ([.ref (a 0), .int x1, .int x2])).length) Slot.unset).toArray = ls at hl ⊢
  have hl : lv_has ls 7 [(0, .ref (a 0)), (1, .int x1), (2, .int x2)] := hl
  unfold m_often at h
  refine lv_iconst (v := 0) hx hb dX3_often_0 (by decide) ?_
  refine lv_istore_n (lv' := [(3, .int (0 : Int32)), (0, .ref (a 0)), (1, .int x1), (2, .int x2)]) hx hb dX3_often_1 rfl hl (by decide) rfl (fun ls hl => ?_)
  refine lv_iconst (v := 0) hx hb dX3_often_2 (by decide) ?_
  refine lv_istore (lv' := [(4, .int (0 : Int32)), (3, .int (0 : Int32)), (0, .ref (a 0)), (1, .int x1), (2, .int x2)]) hx hb dX3_often_3 hl (by decide) rfl (fun ls hl => ?_)
  obtain ⟨o1, e501, h⟩ := pb_some h
  refine lp_often_1 hx hb hml hown hts hK hP _ _ _ _ _ e501 ls (lv_sub hl [0, 1, 2, 3, 4] rfl) (fun ls hl => ?_)
  refine lv_iload_n hx hb dX3_often_107 rfl (lv_at hl 0 rfl) ?_
  cases h
  exact W.iret hx hb hr (fun t ht hW => ⟨rfl, ht⟩) (fun q hq => absurd hq List.not_mem_nil) dX3_often_108
theorem hd_speakerOf : yX3_speakerOf.cls = RX3 ∧ yX3_speakerOf.cls ≠ "java/lang/invoke/MethodHandle" ∧ yX3_speakerOf.cls ≠ "java/lang/invoke/VarHandle" ∧ (parseMethodDescriptor yX3_speakerOf.desc).map (fun d => d.parameters.length) = some 2 := by decide +kernel
set_option maxHeartbeats 4000000 in
set_option maxRecDepth 100000 in
theorem met_speakerOf {l : Launch} {D : va_G} {dA : ClassId} {a : Nat → Nat} {sA past held text parted asShown told : Nat → Int32} {pasts runs typed spot from_ reason cause orders order : Int32} {nf : Nat} {x1 : Int32} {x2 : Int32} {r : Int32}  (h : m_speakerOf nf sA x1 x2 = some r) : Met l yX3_speakerOf (ws_ yX3_speakerOf cX3_speakerOf 3 (some .int)) ({ frames := 4, cells := 0, slots := 0, locals := 83 } : Room) (mPc [.ref (a 0), .int x1, .int x2] D dA a sA past held text parted asShown told pasts runs typed spot from_ reason cause orders order) (QcRead r) 0 0 (fun _ => False) := by
  refine Met.ofW (cc := cX3_speakerOf) (maxL := 3) (ret := (some .int)) (by decide) rfl ?_
  intro p e s m args below meth c s₁ B hml hv
  obtain ⟨rfl, hP, hK⟩ := hv
  have hx := B.exec
  have hb := B.bytes
  have hr := B.returns
  have hts := atoms_spec (ws := ws_ yX3_speakerOf cX3_speakerOf 3 (some .int)) B.pre
  have hts : ∀ w ∈ lw_all, w.before _ s = true := fun w h => hts w (List.mem_cons_of_mem _ h)
  have hown : s.vm.findClass RX3 = some m.cls := findClass_of_methodNamed B.named
  have hlocks := B.notSynchronized
  have hl := lv_entry ([.ref (a 0), .int x1, .int x2]) (n := 3) (Nat.le_of_ble_eq_true rfl)
  rw [lg_entry_eq]
  generalize (lg_sl ([.ref (a 0), .int x1, .int x2]) ++ List.replicate (3 - (lg_sl ([.ref (a 0), .int x1, .int x2])).length) Slot.unset).toArray = ls at hl ⊢
  have hl : lv_has ls 3 [(0, .ref (a 0)), (1, .int x1), (2, .int x2)] := hl
  unfold m_speakerOf at h
  refine lv_aload_n hx hb dX3_speakerOf_0 rfl (lv_at hl 0 rfl) ?_
  refine lv_iload_n hx hb dX3_speakerOf_1 rfl (lv_at hl 1 rfl) ?_
  obtain ⟨b2, e1, h⟩ := pb_some h
  refine m_callR (W.runV (As := [.int x1]) (rest := []) ⟨hx, hb, hml, hown, hts⟩ (met_isVoice e1) (cwV 1 hts (lw_V q1406 q1408 qs35 q77 q1409) rfl rfl rfl hd_isVoice ⟨Nat.le_of_ble_eq_true rfl, Nat.le_of_ble_eq_true rfl⟩) (m_preV hK hP) rfl rfl hl.1 rfl (lv_room (Nat.le_of_ble_eq_true rfl)) dX3_speakerOf_2 ⟨Nat.le_of_ble_eq_true rfl, Nat.le_of_ble_eq_true rfl⟩) ?_
  refine lv_if_eq (tgt := 18) hx hb dX3_speakerOf_5 (by decide) (fun c3 => ?_) (fun c3 => ?_)
  · have h := pi_t c3 h
    refine lv_ldc hx hb hown (hts _ q1329) dX3_speakerOf_18 ?_
    cases h
    exact W.iret hx hb hr (fun t ht hW => ⟨rfl, ht⟩) (fun q hq => absurd hq List.not_mem_nil) dX3_speakerOf_20
  · have h := pi_f c3 h
    refine lv_iload_n hx hb dX3_speakerOf_8 rfl (lv_at hl 2 rfl) ?_
    refine lv_iconst (v := 0) hx hb dX3_speakerOf_9 (by decide) ?_
    refine lv_bipush (v := 6) hx hb dX3_speakerOf_10 (by decide) ?_
    obtain ⟨b5, e4, h⟩ := pb_some h
    refine m_callR (W.runS (As := [.int x2, .int (0 : Int32), .int (6 : Int32)]) (rest := []) ⟨hx, hb, hml, hown, hts⟩ (met_in e4) (va_cwS 3 hts (lw_S q1326 q1327 q77 q1328) rfl rfl rfl hd_in ⟨Nat.le_of_ble_eq_true rfl, Nat.le_of_ble_eq_true rfl⟩) m_preS rfl rfl hl.1 rfl (lv_room (Nat.le_of_ble_eq_true rfl)) dX3_speakerOf_12 ⟨Nat.le_of_ble_eq_true rfl, Nat.le_of_ble_eq_true rfl⟩) ?_
    refine lv_if_ne (tgt := 21) hx hb dX3_speakerOf_15 (by decide) (fun c6 => ?_) (fun c6 => ?_)
    · have h := pi_f c6 h
      refine lv_iload_n hx hb dX3_speakerOf_21 rfl (lv_at hl 2 rfl) ?_
      by_cases c7 : x2 = (0 : Int32)
      · have h := pi_t c7 h
        refine lv_tableIn (off := 38) (tgt := 60) hx hb dX3_speakerOf_22 (by rw [c7]; decide) (by rw [c7]; decide) (by rw [c7]; decide) (by decide) ?_
        refine lv_aload_n hx hb dX3_speakerOf_60 rfl (lv_at hl 0 rfl) ?_
        refine va_get (ci := 3) (v := .ref (a 1)) (C := RX3) (T := TX3) (N := 16) hx hb hts in_X3 hown hK hP 0 rfl rfl 0 (by decide) (hts _ q1273) (fun _ h9 => h9) rfl dX3_speakerOf_61 ?_
        refine lv_sipush (v := 276) hx hb dX3_speakerOf_64 (by decide) ?_
        refine lv_iload_n hx hb dX3_speakerOf_67 rfl (lv_at hl 1 rfl) ?_
        refine lv_iadd hx hb dX3_speakerOf_68 ?_
        obtain ⟨g8, h⟩ := pg_some h
        refine va_iald hx hb hK hP 1 0 rfl rfl g8 dX3_speakerOf_69 ?_
        cases h
        exact W.iret hx hb hr (fun t ht hW => ⟨rfl, ht⟩) (fun q hq => absurd hq List.not_mem_nil) dX3_speakerOf_70
      have h := pi_f c7 h
      by_cases c9 : x2 = (1 : Int32)
      · have h := pi_t c9 h
        refine lv_tableIn (off := 49) (tgt := 71) hx hb dX3_speakerOf_22 (by rw [c9]; decide) (by rw [c9]; decide) (by rw [c9]; decide) (by decide) ?_
        refine lv_aload_n hx hb dX3_speakerOf_71 rfl (lv_at hl 0 rfl) ?_
        refine lv_iload_n hx hb dX3_speakerOf_72 rfl (lv_at hl 1 rfl) ?_
        obtain ⟨r11, e10, h⟩ := pb_some h
        refine m_callR (W.runV (As := [.int x1]) (rest := []) ⟨hx, hb, hml, hown, hts⟩ (met_turnsOf e10) (cwV 1 hts (lw_V q1414 q1416 qs37 q77 q1417) rfl rfl rfl hd_turnsOf ⟨Nat.le_of_ble_eq_true rfl, Nat.le_of_ble_eq_true rfl⟩) (m_preV hK hP) rfl rfl hl.1 rfl (lv_room (Nat.le_of_ble_eq_true rfl)) dX3_speakerOf_73 ⟨Nat.le_of_ble_eq_true rfl, Nat.le_of_ble_eq_true rfl⟩) ?_
        cases h
        exact W.iret hx hb hr (fun t ht hW => ⟨rfl, ht⟩) (fun q hq => absurd hq List.not_mem_nil) dX3_speakerOf_76
      have h := pi_f c9 h
      by_cases c12 : x2 = (2 : Int32)
      · have h := pi_t c12 h
        refine lv_tableIn (off := 55) (tgt := 77) hx hb dX3_speakerOf_22 (by rw [c12]; decide) (by rw [c12]; decide) (by rw [c12]; decide) (by decide) ?_
        refine lv_aload_n hx hb dX3_speakerOf_77 rfl (lv_at hl 0 rfl) ?_
        refine lv_iload_n hx hb dX3_speakerOf_78 rfl (lv_at hl 1 rfl) ?_
        obtain ⟨r14, e13, h⟩ := pb_some h
        refine m_callR (W.runV (As := [.int x1]) (rest := []) ⟨hx, hb, hml, hown, hts⟩ (met_secondsOf e13) (cwV 1 hts (lw_V q1483 q1485 qs48 q77 q1486) rfl rfl rfl hd_secondsOf ⟨Nat.le_of_ble_eq_true rfl, Nat.le_of_ble_eq_true rfl⟩) (m_preV hK hP) rfl rfl hl.1 rfl (lv_room (Nat.le_of_ble_eq_true rfl)) dX3_speakerOf_79 ⟨Nat.le_of_ble_eq_true rfl, Nat.le_of_ble_eq_true rfl⟩) ?_
        cases h
        exact W.iret hx hb hr (fun t ht hW => ⟨rfl, ht⟩) (fun q hq => absurd hq List.not_mem_nil) dX3_speakerOf_82
      have h := pi_f c12 h
      by_cases c15 : x2 = (3 : Int32)
      · have h := pi_t c15 h
        refine lv_tableIn (off := 61) (tgt := 83) hx hb dX3_speakerOf_22 (by rw [c15]; decide) (by rw [c15]; decide) (by rw [c15]; decide) (by decide) ?_
        refine lv_aload_n hx hb dX3_speakerOf_83 rfl (lv_at hl 0 rfl) ?_
        refine lv_iload_n hx hb dX3_speakerOf_84 rfl (lv_at hl 1 rfl) ?_
        refine lv_iconst (v := 1) hx hb dX3_speakerOf_85 (by decide) ?_
        obtain ⟨r17, e16, h⟩ := pb_some h
        refine m_callR (W.runV (As := [.int x1, .int (1 : Int32)]) (rest := []) ⟨hx, hb, hml, hown, hts⟩ (met_termsOf e16) (cwV 2 hts (lw_V q1487 q1489 qs49 q77 q1490) rfl rfl rfl hd_termsOf ⟨Nat.le_of_ble_eq_true rfl, Nat.le_of_ble_eq_true rfl⟩) (m_preV hK hP) rfl rfl hl.1 rfl (lv_room (Nat.le_of_ble_eq_true rfl)) dX3_speakerOf_86 ⟨Nat.le_of_ble_eq_true rfl, Nat.le_of_ble_eq_true rfl⟩) ?_
        cases h
        exact W.iret hx hb hr (fun t ht hW => ⟨rfl, ht⟩) (fun q hq => absurd hq List.not_mem_nil) dX3_speakerOf_89
      have h := pi_f c15 h
      by_cases c18 : x2 = (4 : Int32)
      · have h := pi_t c18 h
        refine lv_tableIn (off := 68) (tgt := 90) hx hb dX3_speakerOf_22 (by rw [c18]; decide) (by rw [c18]; decide) (by rw [c18]; decide) (by decide) ?_
        refine lv_aload_n hx hb dX3_speakerOf_90 rfl (lv_at hl 0 rfl) ?_
        refine lv_iload_n hx hb dX3_speakerOf_91 rfl (lv_at hl 1 rfl) ?_
        refine lv_iconst (v := -1) hx hb dX3_speakerOf_92 (by decide) ?_
        obtain ⟨r20, e19, h⟩ := pb_some h
        refine m_callR (W.runV (As := [.int x1, .int (-1 : Int32)]) (rest := []) ⟨hx, hb, hml, hown, hts⟩ (met_often e19) (cwV 2 hts (lw_V q1491 q1493 qs50 q77 q1494) rfl rfl rfl hd_often ⟨Nat.le_of_ble_eq_true rfl, Nat.le_of_ble_eq_true rfl⟩) (m_preV hK hP) rfl rfl hl.1 rfl (lv_room (Nat.le_of_ble_eq_true rfl)) dX3_speakerOf_93 ⟨Nat.le_of_ble_eq_true rfl, Nat.le_of_ble_eq_true rfl⟩) ?_
        cases h
        exact W.iret hx hb hr (fun t ht hW => ⟨rfl, ht⟩) (fun q hq => absurd hq List.not_mem_nil) dX3_speakerOf_96
      have h := pi_f c18 h
      by_cases c21 : x2 = (5 : Int32)
      · have h := pi_t c21 h
        refine lv_tableIn (off := 75) (tgt := 97) hx hb dX3_speakerOf_22 (by rw [c21]; decide) (by rw [c21]; decide) (by rw [c21]; decide) (by decide) ?_
        refine lv_aload_n hx hb dX3_speakerOf_97 rfl (lv_at hl 0 rfl) ?_
        refine lv_iconst (v := -1) hx hb dX3_speakerOf_98 (by decide) ?_
        refine lv_iload_n hx hb dX3_speakerOf_99 rfl (lv_at hl 1 rfl) ?_
        obtain ⟨r23, e22, h⟩ := pb_some h
        refine m_callR (W.runV (As := [.int (-1 : Int32), .int x1]) (rest := []) ⟨hx, hb, hml, hown, hts⟩ (met_often e22) (cwV 2 hts (lw_V q1491 q1493 qs50 q77 q1494) rfl rfl rfl hd_often ⟨Nat.le_of_ble_eq_true rfl, Nat.le_of_ble_eq_true rfl⟩) (m_preV hK hP) rfl rfl hl.1 rfl (lv_room (Nat.le_of_ble_eq_true rfl)) dX3_speakerOf_100 ⟨Nat.le_of_ble_eq_true rfl, Nat.le_of_ble_eq_true rfl⟩) ?_
        cases h
        exact W.iret hx hb hr (fun t ht hW => ⟨rfl, ht⟩) (fun q hq => absurd hq List.not_mem_nil) dX3_speakerOf_103
      have h := pi_f c21 h
      refine lv_tableOut (tgt := 104) hx hb dX3_speakerOf_22 (sw_out 0 5 (fun k h1 h2 => ?_)) (by decide) ?_
      · rcases (show k = 0 ∨ k = 1 ∨ k = 2 ∨ k = 3 ∨ k = 4 ∨ k = 5 by omega) with rfl | rfl | rfl | rfl | rfl | rfl
        · exact sw_ne (by decide) c7
        · exact sw_ne (by decide) c9
        · exact sw_ne (by decide) c12
        · exact sw_ne (by decide) c15
        · exact sw_ne (by decide) c18
        · exact sw_ne (by decide) c21
      refine lv_aload_n hx hb dX3_speakerOf_104 rfl (lv_at hl 0 rfl) ?_
      refine lv_iload_n hx hb dX3_speakerOf_105 rfl (lv_at hl 1 rfl) ?_
      obtain ⟨r25, e24, h⟩ := pb_some h
      refine m_callR (W.runV (As := [.int x1]) (rest := []) ⟨hx, hb, hml, hown, hts⟩ (met_byMinute e24) (cwV 1 hts (lw_V q1495 q1497 qs51 q77 q1498) rfl rfl rfl hd_byMinute ⟨Nat.le_of_ble_eq_true rfl, Nat.le_of_ble_eq_true rfl⟩) (m_preV hK hP) rfl rfl hl.1 rfl (lv_room (Nat.le_of_ble_eq_true rfl)) dX3_speakerOf_106 ⟨Nat.le_of_ble_eq_true rfl, Nat.le_of_ble_eq_true rfl⟩) ?_
      cases h
      exact W.iret hx hb hr (fun t ht hW => ⟨rfl, ht⟩) (fun q hq => absurd hq List.not_mem_nil) dX3_speakerOf_109
    · have h := pi_t c6 h
      refine lv_ldc hx hb hown (hts _ q1329) dX3_speakerOf_18 ?_
      cases h
      exact W.iret hx hb hr (fun t ht hW => ⟨rfl, ht⟩) (fun q hq => absurd hq List.not_mem_nil) dX3_speakerOf_20
theorem hd_voices : yX3_voices.cls = RX3 ∧ yX3_voices.cls ≠ "java/lang/invoke/MethodHandle" ∧ yX3_voices.cls ≠ "java/lang/invoke/VarHandle" ∧ (parseMethodDescriptor yX3_voices.desc).map (fun d => d.parameters.length) = some 1 := by decide +kernel
set_option maxHeartbeats 4000000 in
set_option maxRecDepth 100000 in
theorem lp_voices_1 {p : Program} {l : Launch} {e : Env} {s : State} {m : MethodId} {args : Array Value} {below : List Frame} {meth : Method} {c : Code} {D : va_G} {dA : ClassId} {a : Nat → Nat} {Q : State → Prop} (hx : p.tables.exec = Jvm.exec) (hb : c.code = cX3_voices) (hml : c.maxLocals = 4) (hown : s.vm.findClass RX3 = some m.cls) (hts : ∀ w ∈ lw_all, w.before args s = true) {H : Heap} {locs : List Loc} {sA : Nat → Int32} {past : Nat → Int32} {held : Nat → Int32} {text : Nat → Int32} {parted : Nat → Int32} {asShown : Nat → Int32} {told : Nat → Int32} {pasts : Int32} {runs : Int32} {typed : Int32} {spot : Int32} {from_ : Int32} {reason : Int32} {cause : Int32} {orders : Int32} {order : Int32} (hK : va_K D gCl [(dA, .int)] s) (hP : va_P D gCl (mW dA a sA past held text parted asShown told pasts runs typed spot from_ reason cause orders order) H) {x1 : Int32} (nf : Nat) : ∀ (n : Nat) (y3 : Int32) (y2 : Int32) (z : Int32), m_voices_L1 nf sA x1 n y3 y2 = some z → ∀ ls : Array Slot, lv_has ls 4 [(3, .int y3), (2, .int y2), (0, .ref (a 0)), (1, .int x1)] → (∀ ls : Array Slot, lv_has ls 4 [(2, .int z), (0, .ref (a 0)), (1, .int x1)] → W p l e ({ frames := 2, cells := 0, slots := 0, locals := 34 } : Room) s m args below meth c H locs 0 0 Q (F0 m 55 ls [])) → W p l e ({ frames := 2, cells := 0, slots := 0, locals := 34 } : Room) s m args below meth c H locs 0 0 Q (F0 m 4 ls []) := by
  intro n
  induction n with
  | zero => intro y3 y2 z h ls hl K; exact absurd h (by simp [m_voices_L1])
  | succ n ih =>
    intro y3 y2 z h ls hl K
    unfold m_voices_L1 at h
    refine lv_iload_n hx hb dX3_voices_4 rfl (lv_at hl 0 rfl) ?_
    refine lv_aload_n hx hb dX3_voices_5 rfl (lv_at hl 2 rfl) ?_
    refine va_get (ci := 3) (v := .ref (a 1)) (C := RX3) (T := TX3) (N := 16) hx hb hts in_X3 hown hK hP 0 rfl rfl 0 (by decide) (hts _ q1273) (fun _ h9 => h9) rfl dX3_voices_6 ?_
    refine lv_sipush (v := 282) hx hb dX3_voices_9 (by decide) ?_
    refine m_iald (k := 282) hx hb hK hP 1 0 rfl rfl (by decide) (by decide) dX3_voices_12 ?_
    refine lv_icmp_ge (tgt := 55) hx hb dX3_voices_13 (by decide) (fun c1 => ?_) (fun c1 => ?_)
    · have h := pi_t c1 h
      cases h
      exact K ls (lv_sub hl [1, 2, 3] rfl)
    · have h := pi_f c1 h
      refine lv_iload_n hx hb dX3_voices_16 rfl (lv_at hl 1 rfl) ?_
      refine lv_iload_n hx hb dX3_voices_17 rfl (lv_at hl 3 rfl) ?_
      refine lv_iload_n hx hb dX3_voices_18 rfl (lv_at hl 0 rfl) ?_
      refine lv_ishr hx hb dX3_voices_19 ?_
      refine lv_iconst (v := 1) hx hb dX3_voices_20 (by decide) ?_
      refine lv_iand hx hb dX3_voices_21 ?_
      refine lv_iconst (v := 1) hx hb dX3_voices_22 (by decide) ?_
      obtain ⟨j8, hj, h⟩ := pb_some h
      refine W.cut (g' := F0 m 47 ls [.int j8, .int y2]) ?_ (fun K => ?_)
      · refine lv_ior hx hb dX3_voices_47 ?_
        refine lv_istore_n (lv' := [(2, .int (y2 ||| j8)), (3, .int y3), (0, .ref (a 0)), (1, .int x1)]) hx hb dX3_voices_48 rfl hl (by decide) rfl (fun ls hl => ?_)
        refine lv_iinc (v := (y3 + (1 : Int32))) (lv' := [(3, .int (y3 + (1 : Int32))), (2, .int (y2 ||| j8)), (0, .ref (a 0)), (1, .int x1)]) hx hb dX3_voices_49 hl (k := 1) rfl (by rfl) (by decide) rfl (fun ls hl => ?_)
        refine lv_goto (tgt := 4) hx hb dX3_voices_52 (by decide) ?_
        exact ih _ _ _ h ls (lv_sub hl [0, 1, 2, 3] rfl) K
      · have h := hj
        refine lv_icmp_ne (tgt := 46) hx hb dX3_voices_23 (by decide) (fun c2 => ?_) (fun c2 => ?_)
        · have h := pi_f c2 h
          refine lv_iconst (v := 0) hx hb dX3_voices_46 (by decide) ?_
          cases h
          exact K
        · have h := pi_t c2 h
          refine lv_aload_n hx hb dX3_voices_26 rfl (lv_at hl 2 rfl) ?_
          refine lv_iload_n hx hb dX3_voices_27 rfl (lv_at hl 0 rfl) ?_
          refine lv_iconst (v := 3) hx hb dX3_voices_28 (by decide) ?_
          obtain ⟨r4, e3, h⟩ := pb_some h
          refine m_callR (W.runV (As := [.int y3, .int (3 : Int32)]) (rest := [.int y2]) ⟨hx, hb, hml, hown, hts⟩ (met_of e3) (cwV 2 hts (lw_V q1339 q1341 qs27 q77 q1342) rfl rfl rfl hd_of ⟨Nat.le_of_ble_eq_true rfl, Nat.le_of_ble_eq_true rfl⟩) (m_preV hK hP) rfl rfl hl.1 rfl (lv_room (Nat.le_of_ble_eq_true rfl)) dX3_voices_29 ⟨Nat.le_of_ble_eq_true rfl, Nat.le_of_ble_eq_true rfl⟩) ?_
          refine lv_if_lt (tgt := 46) hx hb dX3_voices_32 (by decide) (fun c5 => ?_) (fun c5 => ?_)
          · have h := pi_t c5 h
            refine lv_iconst (v := 0) hx hb dX3_voices_46 (by decide) ?_
            cases h
            exact K
          · have h := pi_f c5 h
            refine lv_iconst (v := 1) hx hb dX3_voices_35 (by decide) ?_
            refine lv_aload_n hx hb dX3_voices_36 rfl (lv_at hl 2 rfl) ?_
            refine lv_iload_n hx hb dX3_voices_37 rfl (lv_at hl 0 rfl) ?_
            refine lv_iconst (v := 3) hx hb dX3_voices_38 (by decide) ?_
            obtain ⟨r7, e6, h⟩ := pb_some h
            refine m_callR (W.runV (As := [.int y3, .int (3 : Int32)]) (rest := [.int (1 : Int32), .int y2]) ⟨hx, hb, hml, hown, hts⟩ (met_of e6) (cwV 2 hts (lw_V q1339 q1341 qs27 q77 q1342) rfl rfl rfl hd_of ⟨Nat.le_of_ble_eq_true rfl, Nat.le_of_ble_eq_true rfl⟩) (m_preV hK hP) rfl rfl hl.1 rfl (lv_room (Nat.le_of_ble_eq_true rfl)) dX3_voices_39 ⟨Nat.le_of_ble_eq_true rfl, Nat.le_of_ble_eq_true rfl⟩) ?_
            refine lv_ishl hx hb dX3_voices_42 ?_
            refine lv_goto (tgt := 47) hx hb dX3_voices_43 (by decide) ?_
            cases h
            exact K
set_option maxHeartbeats 4000000 in
set_option maxRecDepth 100000 in
theorem met_voices {l : Launch} {D : va_G} {dA : ClassId} {a : Nat → Nat} {sA past held text parted asShown told : Nat → Int32} {pasts runs typed spot from_ reason cause orders order : Int32} {nf : Nat} {x1 : Int32} {r : Int32}  (h : m_voices nf sA x1 = some r) : Met l yX3_voices (ws_ yX3_voices cX3_voices 4 (some .int)) ({ frames := 2, cells := 0, slots := 0, locals := 34 } : Room) (mPc [.ref (a 0), .int x1] D dA a sA past held text parted asShown told pasts runs typed spot from_ reason cause orders order) (QcRead r) 0 0 (fun _ => False) := by
  refine Met.ofW (cc := cX3_voices) (maxL := 4) (ret := (some .int)) (by decide) rfl ?_
  intro p e s m args below meth c s₁ B hml hv
  obtain ⟨rfl, hP, hK⟩ := hv
  have hx := B.exec
  have hb := B.bytes
  have hr := B.returns
  have hts := atoms_spec (ws := ws_ yX3_voices cX3_voices 4 (some .int)) B.pre
  have hts : ∀ w ∈ lw_all, w.before _ s = true := fun w h => hts w (List.mem_cons_of_mem _ h)
  have hown : s.vm.findClass RX3 = some m.cls := findClass_of_methodNamed B.named
  have hlocks := B.notSynchronized
  have hl := lv_entry ([.ref (a 0), .int x1]) (n := 4) (Nat.le_of_ble_eq_true rfl)
  rw [lg_entry_eq]
  generalize (lg_sl ([.ref (a 0), .int x1]) ++ List.replicate (4 - (lg_sl ([.ref (a 0), .int x1])).length) Slot.unset).toArray = ls at hl ⊢
  have hl : lv_has ls 4 [(0, .ref (a 0)), (1, .int x1)] := hl
  unfold m_voices at h
  refine lv_iconst (v := 0) hx hb dX3_voices_0 (by decide) ?_
  refine lv_istore_n (lv' := [(2, .int (0 : Int32)), (0, .ref (a 0)), (1, .int x1)]) hx hb dX3_voices_1 rfl hl (by decide) rfl (fun ls hl => ?_)
  refine lv_iconst (v := 0) hx hb dX3_voices_2 (by decide) ?_
  refine lv_istore_n (lv' := [(3, .int (0 : Int32)), (2, .int (0 : Int32)), (0, .ref (a 0)), (1, .int x1)]) hx hb dX3_voices_3 rfl hl (by decide) rfl (fun ls hl => ?_)
  obtain ⟨o1, e501, h⟩ := pb_some h
  refine lp_voices_1 hx hb hml hown hts hK hP _ _ _ _ _ e501 ls (lv_sub hl [0, 1, 2, 3] rfl) (fun ls hl => ?_)
  refine lv_iload_n hx hb dX3_voices_55 rfl (lv_at hl 0 rfl) ?_
  cases h
  exact W.iret hx hb hr (fun t ht hW => ⟨rfl, ht⟩) (fun q hq => absurd hq List.not_mem_nil) dX3_voices_56
theorem hd_during : yX3_during.cls = RX3 ∧ yX3_during.cls ≠ "java/lang/invoke/MethodHandle" ∧ yX3_during.cls ≠ "java/lang/invoke/VarHandle" ∧ (parseMethodDescriptor yX3_during.desc).map (fun d => d.parameters.length) = some 2 := by decide +kernel
set_option maxHeartbeats 4000000 in
set_option maxRecDepth 100000 in
theorem met_during {l : Launch} {D : va_G} {dA : ClassId} {a : Nat → Nat} {sA past held text parted asShown told : Nat → Int32} {pasts runs typed spot from_ reason cause orders order : Int32} {nf : Nat} {x1 : Int32} {x2 : Int32} {r : Int32}  (h : m_during nf sA x1 x2 = some r) : Met l yX3_during (ws_ yX3_during cX3_during 3 (some .int)) ({ frames := 4, cells := 0, slots := 0, locals := 79 } : Room) (mPc [.ref (a 0), .int x1, .int x2] D dA a sA past held text parted asShown told pasts runs typed spot from_ reason cause orders order) (QcRead r) 0 0 (fun _ => False) := by
  refine Met.ofW (cc := cX3_during) (maxL := 3) (ret := (some .int)) (by decide) rfl ?_
  intro p e s m args below meth c s₁ B hml hv
  obtain ⟨rfl, hP, hK⟩ := hv
  have hx := B.exec
  have hb := B.bytes
  have hr := B.returns
  have hts := atoms_spec (ws := ws_ yX3_during cX3_during 3 (some .int)) B.pre
  have hts : ∀ w ∈ lw_all, w.before _ s = true := fun w h => hts w (List.mem_cons_of_mem _ h)
  have hown : s.vm.findClass RX3 = some m.cls := findClass_of_methodNamed B.named
  have hlocks := B.notSynchronized
  have hl := lv_entry ([.ref (a 0), .int x1, .int x2]) (n := 3) (Nat.le_of_ble_eq_true rfl)
  rw [lg_entry_eq]
  generalize (lg_sl ([.ref (a 0), .int x1, .int x2]) ++ List.replicate (3 - (lg_sl ([.ref (a 0), .int x1, .int x2])).length) Slot.unset).toArray = ls at hl ⊢
  have hl : lv_has ls 3 [(0, .ref (a 0)), (1, .int x1), (2, .int x2)] := hl
  unfold m_during at h
  refine lv_iload_n hx hb dX3_during_0 rfl (lv_at hl 1 rfl) ?_
  refine lv_iconst (v := 0) hx hb dX3_during_1 (by decide) ?_
  refine lv_sipush (v := 1999) hx hb dX3_during_2 (by decide) ?_
  obtain ⟨b2, e1, h⟩ := pb_some h
  refine m_callR (W.runS (As := [.int x1, .int (0 : Int32), .int (1999 : Int32)]) (rest := []) ⟨hx, hb, hml, hown, hts⟩ (met_in e1) (va_cwS 3 hts (lw_S q1326 q1327 q77 q1328) rfl rfl rfl hd_in ⟨Nat.le_of_ble_eq_true rfl, Nat.le_of_ble_eq_true rfl⟩) m_preS rfl rfl hl.1 rfl (lv_room (Nat.le_of_ble_eq_true rfl)) dX3_during_5 ⟨Nat.le_of_ble_eq_true rfl, Nat.le_of_ble_eq_true rfl⟩) ?_
  refine lv_if_eq (tgt := 20) hx hb dX3_during_8 (by decide) (fun c3 => ?_) (fun c3 => ?_)
  · have h := pi_t c3 h
    refine lv_ldc hx hb hown (hts _ q1329) dX3_during_20 ?_
    cases h
    exact W.iret hx hb hr (fun t ht hW => ⟨rfl, ht⟩) (fun q hq => absurd hq List.not_mem_nil) dX3_during_22
  · have h := pi_f c3 h
    refine lv_iload_n hx hb dX3_during_11 rfl (lv_at hl 2 rfl) ?_
    refine lv_iconst (v := 0) hx hb dX3_during_12 (by decide) ?_
    refine lv_iconst (v := 1) hx hb dX3_during_13 (by decide) ?_
    obtain ⟨b5, e4, h⟩ := pb_some h
    refine m_callR (W.runS (As := [.int x2, .int (0 : Int32), .int (1 : Int32)]) (rest := []) ⟨hx, hb, hml, hown, hts⟩ (met_in e4) (va_cwS 3 hts (lw_S q1326 q1327 q77 q1328) rfl rfl rfl hd_in ⟨Nat.le_of_ble_eq_true rfl, Nat.le_of_ble_eq_true rfl⟩) m_preS rfl rfl hl.1 rfl (lv_room (Nat.le_of_ble_eq_true rfl)) dX3_during_14 ⟨Nat.le_of_ble_eq_true rfl, Nat.le_of_ble_eq_true rfl⟩) ?_
    refine lv_if_ne (tgt := 23) hx hb dX3_during_17 (by decide) (fun c6 => ?_) (fun c6 => ?_)
    · have h := pi_f c6 h
      refine lv_iload_n hx hb dX3_during_23 rfl (lv_at hl 2 rfl) ?_
      refine lv_if_ne (tgt := 35) hx hb dX3_during_24 (by decide) (fun c7 => ?_) (fun c7 => ?_)
      · have h := pi_f c7 h
        refine lv_aload_n hx hb dX3_during_35 rfl (lv_at hl 0 rfl) ?_
        refine lv_aload_n hx hb dX3_during_36 rfl (lv_at hl 0 rfl) ?_
        refine lv_iload_n hx hb dX3_during_37 rfl (lv_at hl 1 rfl) ?_
        obtain ⟨r9, e8, h⟩ := pb_some h
        refine m_callR (W.runV (As := [.int x1]) (rest := [.ref (a 0)]) ⟨hx, hb, hml, hown, hts⟩ (met_going e8) (cwV 1 hts (lw_V q1447 q1449 qs42 q77 q1450) rfl rfl rfl hd_going ⟨Nat.le_of_ble_eq_true rfl, Nat.le_of_ble_eq_true rfl⟩) (m_preV hK hP) rfl rfl hl.1 rfl (lv_room (Nat.le_of_ble_eq_true rfl)) dX3_during_38 ⟨Nat.le_of_ble_eq_true rfl, Nat.le_of_ble_eq_true rfl⟩) ?_
        obtain ⟨r11, e10, h⟩ := pb_some h
        refine m_callR (W.runV (As := [.int r9]) (rest := []) ⟨hx, hb, hml, hown, hts⟩ (met_voices e10) (cwV 1 hts (lw_V q1505 q1507 qs52 q77 q1508) rfl rfl rfl hd_voices ⟨Nat.le_of_ble_eq_true rfl, Nat.le_of_ble_eq_true rfl⟩) (m_preV hK hP) rfl rfl hl.1 rfl (lv_room (Nat.le_of_ble_eq_true rfl)) dX3_during_41 ⟨Nat.le_of_ble_eq_true rfl, Nat.le_of_ble_eq_true rfl⟩) ?_
        cases h
        exact W.iret hx hb hr (fun t ht hW => ⟨rfl, ht⟩) (fun q hq => absurd hq List.not_mem_nil) dX3_during_44
      · have h := pi_t c7 h
        refine lv_aload_n hx hb dX3_during_27 rfl (lv_at hl 0 rfl) ?_
        refine lv_iload_n hx hb dX3_during_28 rfl (lv_at hl 1 rfl) ?_
        obtain ⟨r13, e12, h⟩ := pb_some h
        refine m_callR (W.runV (As := [.int x1]) (rest := []) ⟨hx, hb, hml, hown, hts⟩ (met_going e12) (cwV 1 hts (lw_V q1447 q1449 qs42 q77 q1450) rfl rfl rfl hd_going ⟨Nat.le_of_ble_eq_true rfl, Nat.le_of_ble_eq_true rfl⟩) (m_preV hK hP) rfl rfl hl.1 rfl (lv_room (Nat.le_of_ble_eq_true rfl)) dX3_during_29 ⟨Nat.le_of_ble_eq_true rfl, Nat.le_of_ble_eq_true rfl⟩) ?_
        refine lv_goto (tgt := 44) hx hb dX3_during_32 (by decide) ?_
        cases h
        exact W.iret hx hb hr (fun t ht hW => ⟨rfl, ht⟩) (fun q hq => absurd hq List.not_mem_nil) dX3_during_44
    · have h := pi_t c6 h
      refine lv_ldc hx hb hown (hts _ q1329) dX3_during_20 ?_
      cases h
      exact W.iret hx hb hr (fun t ht hW => ⟨rfl, ht⟩) (fun q hq => absurd hq List.not_mem_nil) dX3_during_22
theorem hd_interrupts : yX3_interrupts.cls = RX3 ∧ yX3_interrupts.cls ≠ "java/lang/invoke/MethodHandle" ∧ yX3_interrupts.cls ≠ "java/lang/invoke/VarHandle" ∧ (parseMethodDescriptor yX3_interrupts.desc).map (fun d => d.parameters.length) = some 2 := by decide +kernel
set_option maxHeartbeats 4000000 in
set_option maxRecDepth 100000 in
theorem met_interrupts {l : Launch} {D : va_G} {dA : ClassId} {a : Nat → Nat} {sA past held text parted asShown told : Nat → Int32} {pasts runs typed spot from_ reason cause orders order : Int32} {nf : Nat} {x1 : Int32} {x2 : Int32} {r : Int32}  (h : m_interrupts nf sA x1 x2 = some r) : Met l yX3_interrupts (ws_ yX3_interrupts cX3_interrupts 3 (some .int)) ({ frames := 4, cells := 0, slots := 0, locals := 83 } : Room) (mPc [.ref (a 0), .int x1, .int x2] D dA a sA past held text parted asShown told pasts runs typed spot from_ reason cause orders order) (QcRead r) 0 0 (fun _ => False) := by
  refine Met.ofW (cc := cX3_interrupts) (maxL := 3) (ret := (some .int)) (by decide) rfl ?_
  intro p e s m args below meth c s₁ B hml hv
  obtain ⟨rfl, hP, hK⟩ := hv
  have hx := B.exec
  have hb := B.bytes
  have hr := B.returns
  have hts := atoms_spec (ws := ws_ yX3_interrupts cX3_interrupts 3 (some .int)) B.pre
  have hts : ∀ w ∈ lw_all, w.before _ s = true := fun w h => hts w (List.mem_cons_of_mem _ h)
  have hown : s.vm.findClass RX3 = some m.cls := findClass_of_methodNamed B.named
  have hlocks := B.notSynchronized
  have hl := lv_entry ([.ref (a 0), .int x1, .int x2]) (n := 3) (Nat.le_of_ble_eq_true rfl)
  rw [lg_entry_eq]
  generalize (lg_sl ([.ref (a 0), .int x1, .int x2]) ++ List.replicate (3 - (lg_sl ([.ref (a 0), .int x1, .int x2])).length) Slot.unset).toArray = ls at hl ⊢
  have hl : lv_has ls 3 [(0, .ref (a 0)), (1, .int x1), (2, .int x2)] := hl
  unfold m_interrupts at h
  refine lv_aload_n hx hb dX3_interrupts_0 rfl (lv_at hl 0 rfl) ?_
  refine lv_iload_n hx hb dX3_interrupts_1 rfl (lv_at hl 1 rfl) ?_
  obtain ⟨b2, e1, h⟩ := pb_some h
  refine m_callR (W.runV (As := [.int x1]) (rest := []) ⟨hx, hb, hml, hown, hts⟩ (met_isVoice e1) (cwV 1 hts (lw_V q1406 q1408 qs35 q77 q1409) rfl rfl rfl hd_isVoice ⟨Nat.le_of_ble_eq_true rfl, Nat.le_of_ble_eq_true rfl⟩) (m_preV hK hP) rfl rfl hl.1 rfl (lv_room (Nat.le_of_ble_eq_true rfl)) dX3_interrupts_2 ⟨Nat.le_of_ble_eq_true rfl, Nat.le_of_ble_eq_true rfl⟩) ?_
  refine lv_if_eq (tgt := 30) hx hb dX3_interrupts_5 (by decide) (fun c3 => ?_) (fun c3 => ?_)
  · have h := pi_t c3 h
    refine lv_ldc hx hb hown (hts _ q1329) dX3_interrupts_30 ?_
    cases h
    exact W.iret hx hb hr (fun t ht hW => ⟨rfl, ht⟩) (fun q hq => absurd hq List.not_mem_nil) dX3_interrupts_32
  · have h := pi_f c3 h
    refine lv_aload_n hx hb dX3_interrupts_8 rfl (lv_at hl 0 rfl) ?_
    refine lv_iload_n hx hb dX3_interrupts_9 rfl (lv_at hl 2 rfl) ?_
    obtain ⟨b5, e4, h⟩ := pb_some h
    refine m_callR (W.runV (As := [.int x2]) (rest := []) ⟨hx, hb, hml, hown, hts⟩ (met_isVoice e4) (cwV 1 hts (lw_V q1406 q1408 qs35 q77 q1409) rfl rfl rfl hd_isVoice ⟨Nat.le_of_ble_eq_true rfl, Nat.le_of_ble_eq_true rfl⟩) (m_preV hK hP) rfl rfl hl.1 rfl (lv_room (Nat.le_of_ble_eq_true rfl)) dX3_interrupts_10 ⟨Nat.le_of_ble_eq_true rfl, Nat.le_of_ble_eq_true rfl⟩) ?_
    refine lv_if_eq (tgt := 30) hx hb dX3_interrupts_13 (by decide) (fun c6 => ?_) (fun c6 => ?_)
    · have h := pi_t c6 h
      refine lv_ldc hx hb hown (hts _ q1329) dX3_interrupts_30 ?_
      cases h
      exact W.iret hx hb hr (fun t ht hW => ⟨rfl, ht⟩) (fun q hq => absurd hq List.not_mem_nil) dX3_interrupts_32
    · have h := pi_f c6 h
      refine lv_iload_n hx hb dX3_interrupts_16 rfl (lv_at hl 1 rfl) ?_
      refine lv_iload_n hx hb dX3_interrupts_17 rfl (lv_at hl 2 rfl) ?_
      refine lv_icmp_eq (tgt := 30) hx hb dX3_interrupts_18 (by decide) (fun c7 => ?_) (fun c7 => ?_)
      · have h := pi_t c7 h
        refine lv_ldc hx hb hown (hts _ q1329) dX3_interrupts_30 ?_
        cases h
        exact W.iret hx hb hr (fun t ht hW => ⟨rfl, ht⟩) (fun q hq => absurd hq List.not_mem_nil) dX3_interrupts_32
      · have h := pi_f c7 h
        refine lv_aload_n hx hb dX3_interrupts_21 rfl (lv_at hl 0 rfl) ?_
        refine lv_iload_n hx hb dX3_interrupts_22 rfl (lv_at hl 1 rfl) ?_
        refine lv_iload_n hx hb dX3_interrupts_23 rfl (lv_at hl 2 rfl) ?_
        obtain ⟨r9, e8, h⟩ := pb_some h
        refine m_callR (W.runV (As := [.int x1, .int x2]) (rest := []) ⟨hx, hb, hml, hown, hts⟩ (met_often e8) (cwV 2 hts (lw_V q1491 q1493 qs50 q77 q1494) rfl rfl rfl hd_often ⟨Nat.le_of_ble_eq_true rfl, Nat.le_of_ble_eq_true rfl⟩) (m_preV hK hP) rfl rfl hl.1 rfl (lv_room (Nat.le_of_ble_eq_true rfl)) dX3_interrupts_24 ⟨Nat.le_of_ble_eq_true rfl, Nat.le_of_ble_eq_true rfl⟩) ?_
        refine lv_goto (tgt := 32) hx hb dX3_interrupts_27 (by decide) ?_
        cases h
        exact W.iret hx hb hr (fun t ht hW => ⟨rfl, ht⟩) (fun q hq => absurd hq List.not_mem_nil) dX3_interrupts_32
theorem hd_nearest : yX3_nearest.cls = RX3 ∧ yX3_nearest.cls ≠ "java/lang/invoke/MethodHandle" ∧ yX3_nearest.cls ≠ "java/lang/invoke/VarHandle" ∧ (parseMethodDescriptor yX3_nearest.desc).map (fun d => d.parameters.length) = some 1 := by decide +kernel
set_option maxHeartbeats 4000000 in
set_option maxRecDepth 100000 in
theorem met_nearest {l : Launch} {D : va_G} {dA : ClassId} {a : Nat → Nat} {sA past held text parted asShown told : Nat → Int32} {pasts runs typed spot from_ reason cause orders order : Int32} {nf : Nat} {x1 : Int32} {r : Int32}  (h : m_nearest nf sA x1 = some r) : Met l yX3_nearest (ws_ yX3_nearest cX3_nearest 2 (some .int)) ({ frames := 3, cells := 0, slots := 0, locals := 57 } : Room) (mPc [.ref (a 0), .int x1] D dA a sA past held text parted asShown told pasts runs typed spot from_ reason cause orders order) (QcRead r) 0 0 (fun _ => False) := by
  refine Met.ofW (cc := cX3_nearest) (maxL := 2) (ret := (some .int)) (by decide) rfl ?_
  intro p e s m args below meth c s₁ B hml hv
  obtain ⟨rfl, hP, hK⟩ := hv
  have hx := B.exec
  have hb := B.bytes
  have hr := B.returns
  have hts := atoms_spec (ws := ws_ yX3_nearest cX3_nearest 2 (some .int)) B.pre
  have hts : ∀ w ∈ lw_all, w.before _ s = true := fun w h => hts w (List.mem_cons_of_mem _ h)
  have hown : s.vm.findClass RX3 = some m.cls := findClass_of_methodNamed B.named
  have hlocks := B.notSynchronized
  have hl := lv_entry ([.ref (a 0), .int x1]) (n := 2) (Nat.le_of_ble_eq_true rfl)
  rw [lg_entry_eq]
  generalize (lg_sl ([.ref (a 0), .int x1]) ++ List.replicate (2 - (lg_sl ([.ref (a 0), .int x1])).length) Slot.unset).toArray = ls at hl ⊢
  have hl : lv_has ls 2 [(0, .ref (a 0)), (1, .int x1)] := hl
  unfold m_nearest at h
  refine lv_iload_n hx hb dX3_nearest_0 rfl (lv_at hl 1 rfl) ?_
  refine lv_bipush (v := 50) hx hb dX3_nearest_1 (by decide) ?_
  refine lv_sipush (v := 500) hx hb dX3_nearest_3 (by decide) ?_
  obtain ⟨b2, e1, h⟩ := pb_some h
  refine m_callR (W.runS (As := [.int x1, .int (50 : Int32), .int (500 : Int32)]) (rest := []) ⟨hx, hb, hml, hown, hts⟩ (met_in e1) (va_cwS 3 hts (lw_S q1326 q1327 q77 q1328) rfl rfl rfl hd_in ⟨Nat.le_of_ble_eq_true rfl, Nat.le_of_ble_eq_true rfl⟩) m_preS rfl rfl hl.1 rfl (lv_room (Nat.le_of_ble_eq_true rfl)) dX3_nearest_6 ⟨Nat.le_of_ble_eq_true rfl, Nat.le_of_ble_eq_true rfl⟩) ?_
  refine lv_if_ne (tgt := 15) hx hb dX3_nearest_9 (by decide) (fun c3 => ?_) (fun c3 => ?_)
  · have h := pi_f c3 h
    refine lv_aload_n hx hb dX3_nearest_15 rfl (lv_at hl 0 rfl) ?_
    refine lv_iload_n hx hb dX3_nearest_16 rfl (lv_at hl 1 rfl) ?_
    obtain ⟨r5, e4, h⟩ := pb_some h
    refine m_callR (W.runV (As := [.int x1]) (rest := []) ⟨hx, hb, hml, hown, hts⟩ (met_voiceFor e4) (cwV 1 hts (lw_V q1347 q1349 qs29 q77 q1350) rfl rfl rfl hd_voiceFor ⟨Nat.le_of_ble_eq_true rfl, Nat.le_of_ble_eq_true rfl⟩) (m_preV hK hP) rfl rfl hl.1 rfl (lv_room (Nat.le_of_ble_eq_true rfl)) dX3_nearest_17 ⟨Nat.le_of_ble_eq_true rfl, Nat.le_of_ble_eq_true rfl⟩) ?_
    refine lv_if_ge (tgt := 28) hx hb dX3_nearest_20 (by decide) (fun c6 => ?_) (fun c6 => ?_)
    · have h := pi_t c6 h
      refine lv_aload_n hx hb dX3_nearest_28 rfl (lv_at hl 0 rfl) ?_
      refine lv_iload_n hx hb dX3_nearest_29 rfl (lv_at hl 1 rfl) ?_
      obtain ⟨r8, e7, h⟩ := pb_some h
      refine m_callR (W.runV (As := [.int x1]) (rest := []) ⟨hx, hb, hml, hown, hts⟩ (met_voiceFor e7) (cwV 1 hts (lw_V q1347 q1349 qs29 q77 q1350) rfl rfl rfl hd_voiceFor ⟨Nat.le_of_ble_eq_true rfl, Nat.le_of_ble_eq_true rfl⟩) (m_preV hK hP) rfl rfl hl.1 rfl (lv_room (Nat.le_of_ble_eq_true rfl)) dX3_nearest_30 ⟨Nat.le_of_ble_eq_true rfl, Nat.le_of_ble_eq_true rfl⟩) ?_
      cases h
      exact W.iret hx hb hr (fun t ht hW => ⟨rfl, ht⟩) (fun q hq => absurd hq List.not_mem_nil) dX3_nearest_33
    · have h := pi_f c6 h
      refine lv_ldc hx hb hown (hts _ q1430) dX3_nearest_23 ?_
      refine lv_goto (tgt := 33) hx hb dX3_nearest_25 (by decide) ?_
      cases h
      exact W.iret hx hb hr (fun t ht hW => ⟨rfl, ht⟩) (fun q hq => absurd hq List.not_mem_nil) dX3_nearest_33
  · have h := pi_t c3 h
    refine lv_ldc hx hb hown (hts _ q1329) dX3_nearest_12 ?_
    cases h
    exact W.iret hx hb hr (fun t ht hW => ⟨rfl, ht⟩) (fun q hq => absurd hq List.not_mem_nil) dX3_nearest_14
theorem hd_would : yX3_would.cls = RX3 ∧ yX3_would.cls ≠ "java/lang/invoke/MethodHandle" ∧ yX3_would.cls ≠ "java/lang/invoke/VarHandle" ∧ (parseMethodDescriptor yX3_would.desc).map (fun d => d.parameters.length) = some 2 := by decide +kernel
set_option maxHeartbeats 4000000 in
set_option maxRecDepth 100000 in
theorem met_would {l : Launch} {D : va_G} {dA : ClassId} {a : Nat → Nat} {sA past held text parted asShown told : Nat → Int32} {pasts runs typed spot from_ reason cause orders order : Int32} {A : Nat → Prop} (hD : mDD A dA a) {nf : Nat} {x1 : Int32} {x2 : Int32} {r : Int32} {sA' : Nat → Int32} {asShown' : Nat → Int32} (h : m_would nf sA asShown x1 x2 = some (r, sA', asShown')) : Met l yX3_would (ws_ yX3_would cX3_would 4 (some .int)) ({ frames := 4, cells := 0, slots := 0, locals := 76 } : Room) (mPc [.ref (a 0), .int x1, .int x2] D dA a sA past held text parted asShown told pasts runs typed spot from_ reason cause orders order) (va_Qi (fun r2 (_ : Unit) => r2 = r) (fun _ t => va_P D gCl (mW dA a sA' past held text parted asShown' told pasts runs typed spot from_ reason cause orders order) t.heap) A) 0 0 A := by
  refine Met.ofW (cc := cX3_would) (maxL := 4) (ret := (some .int)) (by decide) rfl ?_
  intro p e s m args below meth c s₁ B hml hv
  obtain ⟨rfl, hP, hK⟩ := hv
  have hx := B.exec
  have hb := B.bytes
  have hr := B.returns
  have hts := atoms_spec (ws := ws_ yX3_would cX3_would 4 (some .int)) B.pre
  have hts : ∀ w ∈ lw_all, w.before _ s = true := fun w h => hts w (List.mem_cons_of_mem _ h)
  have hown : s.vm.findClass RX3 = some m.cls := findClass_of_methodNamed B.named
  have hlocks := B.notSynchronized
  have hS : va_S A s.heap s.heap [] := va_S.rf
  have hl := lv_entry ([.ref (a 0), .int x1, .int x2]) (n := 4) (Nat.le_of_ble_eq_true rfl)
  rw [lg_entry_eq]
  generalize (lg_sl ([.ref (a 0), .int x1, .int x2]) ++ List.replicate (4 - (lg_sl ([.ref (a 0), .int x1, .int x2])).length) Slot.unset).toArray = ls at hl ⊢
  have hl : lv_has ls 4 [(0, .ref (a 0)), (1, .int x1), (2, .int x2)] := hl
  unfold m_would at h
  refine lv_aload_n hx hb dX3_would_0 rfl (lv_at hl 0 rfl) ?_
  refine lv_iload_n hx hb dX3_would_1 rfl (lv_at hl 1 rfl) ?_
  refine lv_iload_n hx hb dX3_would_2 rfl (lv_at hl 2 rfl) ?_
  obtain ⟨r2, e1, h⟩ := pb_some h
  refine m_callR (W.runV (As := [.int x1, .int x2]) (rest := []) ⟨hx, hb, hml, hown, hts⟩ (met_mayCorrect e1) (cwV 2 hts (lw_V q1377 q1379 qs31 q77 q1380) rfl rfl rfl hd_mayCorrect ⟨Nat.le_of_ble_eq_true rfl, Nat.le_of_ble_eq_true rfl⟩) (m_preV hK hP) rfl rfl hl.1 rfl (lv_room (Nat.le_of_ble_eq_true rfl)) dX3_would_3 ⟨Nat.le_of_ble_eq_true rfl, Nat.le_of_ble_eq_true rfl⟩) ?_
  refine lv_istore_n (lv' := [(3, .int r2), (0, .ref (a 0)), (1, .int x1), (2, .int x2)]) hx hb dX3_would_6 rfl hl (by decide) rfl (fun ls hl => ?_)
  refine lv_iload_n hx hb dX3_would_7 rfl (lv_at hl 0 rfl) ?_
  refine lv_if_ge (tgt := 15) hx hb dX3_would_8 (by decide) (fun c3 => ?_) (fun c3 => ?_)
  · have h := pi_t c3 h
    refine lv_aload_n hx hb dX3_would_15 rfl (lv_at hl 1 rfl) ?_
    refine lv_iload_n hx hb dX3_would_16 rfl (lv_at hl 2 rfl) ?_
    refine lv_iload_n hx hb dX3_would_17 rfl (lv_at hl 3 rfl) ?_
    refine lv_iconst (v := 0) hx hb dX3_would_18 (by decide) ?_
    obtain ⟨⟨r5, sA_6, asShown_7⟩, e4, h⟩ := pb_some h
    refine m_calli (va_runV (As := [.int x1, .int x2, .int (0 : Int32)]) (rest := []) ⟨hx, hb, hml, hown, hts⟩ (met_turnsTo hD e4) (cwV 3 hts (lw_V q1386 q1388 qs33 q77 q1389) rfl rfl rfl hd_turnsTo ⟨Nat.le_of_ble_eq_true rfl, Nat.le_of_ble_eq_true rfl⟩) (m_preV hK hP) rfl rfl hl.1 rfl (lv_room (Nat.le_of_ble_eq_true rfl)) dX3_would_19 ⟨Nat.le_of_ble_eq_true rfl, Nat.le_of_ble_eq_true rfl⟩) hS (fun H locs hP hS => ?_)
    cases h
    exact W.iret hx hb hr (fun t ht hW => ⟨⟨_, (), rfl, rfl, (show va_P D gCl _ t.heap from by rw [ht]; exact hP)⟩, hS.F ht⟩) hS.2.2 dX3_would_22
  · have h := pi_f c3 h
    refine lv_iload_n hx hb dX3_would_11 rfl (lv_at hl 0 rfl) ?_
    refine lv_goto (tgt := 22) hx hb dX3_would_12 (by decide) ?_
    cases h
    exact W.iret hx hb hr (fun t ht hW => ⟨⟨_, (), rfl, rfl, (show va_P D gCl _ t.heap from by rw [ht]; exact hP)⟩, hS.F ht⟩) hS.2.2 dX3_would_22
theorem hd_both : yX3_both.cls = RX3 ∧ yX3_both.cls ≠ "java/lang/invoke/MethodHandle" ∧ yX3_both.cls ≠ "java/lang/invoke/VarHandle" ∧ (parseMethodDescriptor yX3_both.desc).map (fun d => d.parameters.length) = some 2 := by decide +kernel
set_option maxHeartbeats 4000000 in
set_option maxRecDepth 100000 in
theorem lp_both_1 {p : Program} {l : Launch} {e : Env} {s : State} {m : MethodId} {args : Array Value} {below : List Frame} {meth : Method} {c : Code} {D : va_G} {dA : ClassId} {a : Nat → Nat} {Q : State → Prop} (hx : p.tables.exec = Jvm.exec) (hb : c.code = cX3_both) (hml : c.maxLocals = 5) (hown : s.vm.findClass RX3 = some m.cls) (hts : ∀ w ∈ lw_all, w.before args s = true) {H : Heap} {locs : List Loc} {sA : Nat → Int32} {past : Nat → Int32} {held : Nat → Int32} {text : Nat → Int32} {parted : Nat → Int32} {asShown : Nat → Int32} {told : Nat → Int32} {pasts : Int32} {runs : Int32} {typed : Int32} {spot : Int32} {from_ : Int32} {reason : Int32} {cause : Int32} {orders : Int32} {order : Int32} (hK : va_K D gCl [(dA, .int)] s) (hP : va_P D gCl (mW dA a sA past held text parted asShown told pasts runs typed spot from_ reason cause orders order) H) {x1 : Int32} {x2 : Int32} (nf : Nat) : ∀ (n : Nat) (y4 : Int32) (y3 : Int32) (z : Int32), m_both_L1 nf sA x1 x2 n y4 y3 = some z → ∀ ls : Array Slot, lv_has ls 5 [(4, .int y4), (3, .int y3), (0, .ref (a 0)), (1, .int x1), (2, .int x2)] → (∀ ls : Array Slot, lv_has ls 5 [(3, .int z), (0, .ref (a 0)), (1, .int x1), (2, .int x2)] → W p l e ({ frames := 3, cells := 0, slots := 0, locals := 58 } : Room) s m args below meth c H locs 0 0 Q (F0 m 52 ls [])) → W p l e ({ frames := 3, cells := 0, slots := 0, locals := 58 } : Room) s m args below meth c H locs 0 0 Q (F0 m 5 ls []) := by
  intro n
  induction n with
  | zero => intro y4 y3 z h ls hl K; exact absurd h (by simp [m_both_L1])
  | succ n ih =>
    intro y4 y3 z h ls hl K
    unfold m_both_L1 at h
    refine lv_iload hx hb dX3_both_5 (lv_at hl 0 rfl) ?_
    refine lv_aload_n hx hb dX3_both_7 rfl (lv_at hl 2 rfl) ?_
    refine va_get (ci := 3) (v := .ref (a 1)) (C := RX3) (T := TX3) (N := 16) hx hb hts in_X3 hown hK hP 0 rfl rfl 0 (by decide) (hts _ q1273) (fun _ h9 => h9) rfl dX3_both_8 ?_
    refine lv_sipush (v := 282) hx hb dX3_both_11 (by decide) ?_
    refine m_iald (k := 282) hx hb hK hP 1 0 rfl rfl (by decide) (by decide) dX3_both_14 ?_
    refine lv_icmp_ge (tgt := 52) hx hb dX3_both_15 (by decide) (fun c1 => ?_) (fun c1 => ?_)
    · have h := pi_t c1 h
      cases h
      exact K ls (lv_sub hl [1, 2, 3, 4] rfl)
    · have h := pi_f c1 h
      refine lv_iload_n hx hb dX3_both_18 rfl (lv_at hl 1 rfl) ?_
      refine lv_aload_n hx hb dX3_both_19 rfl (lv_at hl 2 rfl) ?_
      refine lv_iload hx hb dX3_both_20 (lv_at hl 0 rfl) ?_
      refine lv_iload_n hx hb dX3_both_22 rfl (lv_at hl 3 rfl) ?_
      obtain ⟨r3, e2, h⟩ := pb_some h
      refine m_callR (W.runV (As := [.int y4, .int x1]) (rest := [.int y3]) ⟨hx, hb, hml, hown, hts⟩ (met_shows e2) (cwV 2 hts (lw_V q1475 q1477 qs47 q77 q1478) rfl rfl rfl hd_shows ⟨Nat.le_of_ble_eq_true rfl, Nat.le_of_ble_eq_true rfl⟩) (m_preV hK hP) rfl rfl hl.1 rfl (lv_room (Nat.le_of_ble_eq_true rfl)) dX3_both_23 ⟨Nat.le_of_ble_eq_true rfl, Nat.le_of_ble_eq_true rfl⟩) ?_
      obtain ⟨j8, hj, h⟩ := pb_some h
      refine W.cut (g' := F0 m 44 ls [.int (bi j8), .int y3]) ?_ (fun K => ?_)
      · refine lv_iadd hx hb dX3_both_44 ?_
        refine lv_istore_n (lv' := [(3, .int (y3 + (bi j8))), (4, .int y4), (0, .ref (a 0)), (1, .int x1), (2, .int x2)]) hx hb dX3_both_45 rfl hl (by decide) rfl (fun ls hl => ?_)
        refine lv_iinc (v := (y4 + (1 : Int32))) (lv' := [(4, .int (y4 + (1 : Int32))), (3, .int (y3 + (bi j8))), (0, .ref (a 0)), (1, .int x1), (2, .int x2)]) hx hb dX3_both_46 hl (k := 1) rfl (by rfl) (by decide) rfl (fun ls hl => ?_)
        refine lv_goto (tgt := 5) hx hb dX3_both_49 (by decide) ?_
        exact ih _ _ _ h ls (lv_sub hl [0, 1, 2, 3, 4] rfl) K
      · have h := hj
        refine lv_if_le (tgt := 43) hx hb dX3_both_26 (by decide) (fun c4 => ?_) (fun c4 => ?_)
        · have h := pi_t c4 h
          refine lv_iconst (v := 0) hx hb dX3_both_43 (by decide) ?_
          cases h
          exact K
        · have h := pi_f c4 h
          refine lv_aload_n hx hb dX3_both_29 rfl (lv_at hl 2 rfl) ?_
          refine lv_iload hx hb dX3_both_30 (lv_at hl 0 rfl) ?_
          refine lv_iload_n hx hb dX3_both_32 rfl (lv_at hl 4 rfl) ?_
          obtain ⟨r6, e5, h⟩ := pb_some h
          refine m_callR (W.runV (As := [.int y4, .int x2]) (rest := [.int y3]) ⟨hx, hb, hml, hown, hts⟩ (met_shows e5) (cwV 2 hts (lw_V q1475 q1477 qs47 q77 q1478) rfl rfl rfl hd_shows ⟨Nat.le_of_ble_eq_true rfl, Nat.le_of_ble_eq_true rfl⟩) (m_preV hK hP) rfl rfl hl.1 rfl (lv_room (Nat.le_of_ble_eq_true rfl)) dX3_both_33 ⟨Nat.le_of_ble_eq_true rfl, Nat.le_of_ble_eq_true rfl⟩) ?_
          refine lv_if_le (tgt := 43) hx hb dX3_both_36 (by decide) (fun c7 => ?_) (fun c7 => ?_)
          · have h := pi_t c7 h
            refine lv_iconst (v := 0) hx hb dX3_both_43 (by decide) ?_
            cases h
            exact K
          · have h := pi_f c7 h
            refine lv_iconst (v := 1) hx hb dX3_both_39 (by decide) ?_
            refine lv_goto (tgt := 44) hx hb dX3_both_40 (by decide) ?_
            cases h
            exact K
set_option maxHeartbeats 4000000 in
set_option maxRecDepth 100000 in
theorem met_both {l : Launch} {D : va_G} {dA : ClassId} {a : Nat → Nat} {sA past held text parted asShown told : Nat → Int32} {pasts runs typed spot from_ reason cause orders order : Int32} {nf : Nat} {x1 : Int32} {x2 : Int32} {r : Int32}  (h : m_both nf sA x1 x2 = some r) : Met l yX3_both (ws_ yX3_both cX3_both 5 (some .int)) ({ frames := 3, cells := 0, slots := 0, locals := 58 } : Room) (mPc [.ref (a 0), .int x1, .int x2] D dA a sA past held text parted asShown told pasts runs typed spot from_ reason cause orders order) (QcRead r) 0 0 (fun _ => False) := by
  refine Met.ofW (cc := cX3_both) (maxL := 5) (ret := (some .int)) (by decide) rfl ?_
  intro p e s m args below meth c s₁ B hml hv
  obtain ⟨rfl, hP, hK⟩ := hv
  have hx := B.exec
  have hb := B.bytes
  have hr := B.returns
  have hts := atoms_spec (ws := ws_ yX3_both cX3_both 5 (some .int)) B.pre
  have hts : ∀ w ∈ lw_all, w.before _ s = true := fun w h => hts w (List.mem_cons_of_mem _ h)
  have hown : s.vm.findClass RX3 = some m.cls := findClass_of_methodNamed B.named
  have hlocks := B.notSynchronized
  have hl := lv_entry ([.ref (a 0), .int x1, .int x2]) (n := 5) (Nat.le_of_ble_eq_true rfl)
  rw [lg_entry_eq]
  generalize (lg_sl ([.ref (a 0), .int x1, .int x2]) ++ List.replicate (5 - (lg_sl ([.ref (a 0), .int x1, .int x2])).length) Slot.unset).toArray = ls at hl ⊢
  have hl : lv_has ls 5 [(0, .ref (a 0)), (1, .int x1), (2, .int x2)] := hl
  unfold m_both at h
  refine lv_iconst (v := 0) hx hb dX3_both_0 (by decide) ?_
  refine lv_istore_n (lv' := [(3, .int (0 : Int32)), (0, .ref (a 0)), (1, .int x1), (2, .int x2)]) hx hb dX3_both_1 rfl hl (by decide) rfl (fun ls hl => ?_)
  refine lv_iconst (v := 0) hx hb dX3_both_2 (by decide) ?_
  refine lv_istore (lv' := [(4, .int (0 : Int32)), (3, .int (0 : Int32)), (0, .ref (a 0)), (1, .int x1), (2, .int x2)]) hx hb dX3_both_3 hl (by decide) rfl (fun ls hl => ?_)
  obtain ⟨o1, e501, h⟩ := pb_some h
  refine lp_both_1 hx hb hml hown hts hK hP _ _ _ _ _ e501 ls (lv_sub hl [0, 1, 2, 3, 4] rfl) (fun ls hl => ?_)
  refine lv_iload_n hx hb dX3_both_52 rfl (lv_at hl 0 rfl) ?_
  cases h
  exact W.iret hx hb hr (fun t ht hW => ⟨rfl, ht⟩) (fun q hq => absurd hq List.not_mem_nil) dX3_both_53
theorem hd_together : yX3_together.cls = RX3 ∧ yX3_together.cls ≠ "java/lang/invoke/MethodHandle" ∧ yX3_together.cls ≠ "java/lang/invoke/VarHandle" ∧ (parseMethodDescriptor yX3_together.desc).map (fun d => d.parameters.length) = some 1 := by decide +kernel
set_option maxHeartbeats 4000000 in
set_option maxRecDepth 100000 in
theorem lp_together_2 {p : Program} {l : Launch} {e : Env} {s : State} {m : MethodId} {args : Array Value} {below : List Frame} {meth : Method} {c : Code} {D : va_G} {dA : ClassId} {a : Nat → Nat} {Q : State → Prop} (hx : p.tables.exec = Jvm.exec) (hb : c.code = cX3_together) (hml : c.maxLocals = 8) (hown : s.vm.findClass RX3 = some m.cls) (hts : ∀ w ∈ lw_all, w.before args s = true) {H : Heap} {locs : List Loc} {sA : Nat → Int32} {past : Nat → Int32} {held : Nat → Int32} {text : Nat → Int32} {parted : Nat → Int32} {asShown : Nat → Int32} {told : Nat → Int32} {pasts : Int32} {runs : Int32} {typed : Int32} {spot : Int32} {from_ : Int32} {reason : Int32} {cause : Int32} {orders : Int32} {order : Int32} (hK : va_K D gCl [(dA, .int)] s) (hP : va_P D gCl (mW dA a sA past held text parted asShown told pasts runs typed spot from_ reason cause orders order) H) {x5 : Int32} {x1 : Int32} (nf : Nat) : ∀ (n : Nat) (y6 : Int32) (y4 : Int32) (y3 : Int32) (y2 : Int32) (z : (Int32 × Int32 × Int32)), m_together_L2 nf sA x5 n y6 y4 y3 y2 = some z → ∀ ls : Array Slot, lv_has ls 8 [(6, .int y6), (4, .int y4), (3, .int y3), (2, .int y2), (5, .int x5), (0, .ref (a 0)), (1, .int x1)] → (∀ ls : Array Slot, lv_has ls 8 [(4, .int z.1), (3, .int z.2.1), (2, .int z.2.2), (5, .int x5), (0, .ref (a 0)), (1, .int x1)] → W p l e ({ frames := 4, cells := 0, slots := 0, locals := 82 } : Room) s m args below meth c H locs 0 0 Q (F0 m 102 ls [])) → W p l e ({ frames := 4, cells := 0, slots := 0, locals := 82 } : Room) s m args below meth c H locs 0 0 Q (F0 m 35 ls []) := by
  intro n
  induction n with
  | zero => intro y6 y4 y3 y2 z h ls hl K; exact absurd h (by simp [m_together_L2])
  | succ n ih =>
    intro y6 y4 y3 y2 z h ls hl K
    unfold m_together_L2 at h
    refine lv_iload hx hb dX3_together_35 (lv_at hl 0 rfl) ?_
    refine lv_bipush (v := 16) hx hb dX3_together_37 (by decide) ?_
    refine lv_icmp_ge (tgt := 102) hx hb dX3_together_39 (by decide) (fun c1 => ?_) (fun c1 => ?_)
    · have h := pi_t c1 h
      cases h
      exact K ls (lv_sub hl [1, 2, 3, 4, 5, 6] rfl)
    · have h := pi_f c1 h
      refine lv_aload_n hx hb dX3_together_42 rfl (lv_at hl 5 rfl) ?_
      refine lv_iload hx hb dX3_together_43 (lv_at hl 4 rfl) ?_
      refine lv_iload hx hb dX3_together_45 (lv_at hl 0 rfl) ?_
      obtain ⟨r3, e2, h⟩ := pb_some h
      refine m_callR (W.runV (As := [.int x5, .int y6]) (rest := []) ⟨hx, hb, hml, hown, hts⟩ (met_both e2) (cwV 2 hts (lw_V q1525 q1527 qs53 q77 q1528) rfl rfl rfl hd_both ⟨Nat.le_of_ble_eq_true rfl, Nat.le_of_ble_eq_true rfl⟩) (m_preV hK hP) rfl rfl hl.1 rfl (lv_room (Nat.le_of_ble_eq_true rfl)) dX3_together_47 ⟨Nat.le_of_ble_eq_true rfl, Nat.le_of_ble_eq_true rfl⟩) ?_
      refine lv_istore (lv' := [(7, .int r3), (6, .int y6), (4, .int y4), (3, .int y3), (2, .int y2), (5, .int x5), (0, .ref (a 0)), (1, .int x1)]) hx hb dX3_together_50 hl (by decide) rfl (fun ls hl => ?_)
      refine lv_iload hx hb dX3_together_52 (lv_at hl 0 rfl) ?_
      refine lv_iload hx hb dX3_together_54 (lv_at hl 2 rfl) ?_
      obtain ⟨j5, hj, h⟩ := pb_some h
      refine W.cut (g' := F0 m 65 ls [.int j5]) ?_ (fun K => ?_)
      · refine lv_istore_n (lv' := [(2, .int j5), (7, .int r3), (6, .int y6), (4, .int y4), (3, .int y3), (5, .int x5), (0, .ref (a 0)), (1, .int x1)]) hx hb dX3_together_65 rfl hl (by decide) rfl (fun ls hl => ?_)
        refine lv_iload hx hb dX3_together_66 (lv_at hl 1 rfl) ?_
        refine lv_iload hx hb dX3_together_68 (lv_at hl 3 rfl) ?_
        obtain ⟨j7, hj, h⟩ := pb_some h
        refine W.cut (g' := F0 m 79 ls [.int j7]) ?_ (fun K => ?_)
        · refine lv_istore_n (lv' := [(3, .int j7), (2, .int j5), (7, .int r3), (6, .int y6), (4, .int y4), (5, .int x5), (0, .ref (a 0)), (1, .int x1)]) hx hb dX3_together_79 rfl hl (by decide) rfl (fun ls hl => ?_)
          refine lv_iload hx hb dX3_together_80 (lv_at hl 2 rfl) ?_
          refine lv_iload hx hb dX3_together_82 (lv_at hl 4 rfl) ?_
          obtain ⟨j9, hj, h⟩ := pb_some h
          refine W.cut (g' := F0 m 94 ls [.int j9]) ?_ (fun K => ?_)
          · refine lv_istore (lv' := [(4, .int j9), (3, .int j7), (2, .int j5), (7, .int r3), (6, .int y6), (5, .int x5), (0, .ref (a 0)), (1, .int x1)]) hx hb dX3_together_94 hl (by decide) rfl (fun ls hl => ?_)
            refine lv_iinc (v := (y6 + (1 : Int32))) (lv' := [(6, .int (y6 + (1 : Int32))), (4, .int j9), (3, .int j7), (2, .int j5), (7, .int r3), (5, .int x5), (0, .ref (a 0)), (1, .int x1)]) hx hb dX3_together_96 hl (k := 4) rfl (by rfl) (by decide) rfl (fun ls hl => ?_)
            refine lv_goto (tgt := 35) hx hb dX3_together_99 (by decide) ?_
            exact ih _ _ _ _ _ h ls (lv_sub hl [0, 1, 2, 3, 5, 6, 7] rfl) K
          · have h := hj
            refine lv_icmp_le (tgt := 92) hx hb dX3_together_84 (by decide) (fun c8 => ?_) (fun c8 => ?_)
            · have h := pi_t c8 h
              refine lv_iload hx hb dX3_together_92 (lv_at hl 4 rfl) ?_
              cases h
              exact K
            · have h := pi_f c8 h
              refine lv_iload hx hb dX3_together_87 (lv_at hl 2 rfl) ?_
              refine lv_goto (tgt := 94) hx hb dX3_together_89 (by decide) ?_
              cases h
              exact K
        · have h := hj
          refine lv_icmp_le (tgt := 78) hx hb dX3_together_70 (by decide) (fun c6 => ?_) (fun c6 => ?_)
          · have h := pi_t c6 h
            refine lv_iload_n hx hb dX3_together_78 rfl (lv_at hl 4 rfl) ?_
            cases h
            exact K
          · have h := pi_f c6 h
            refine lv_iload hx hb dX3_together_73 (lv_at hl 2 rfl) ?_
            refine lv_goto (tgt := 79) hx hb dX3_together_75 (by decide) ?_
            cases h
            exact K
      · have h := hj
        refine lv_icmp_le (tgt := 64) hx hb dX3_together_56 (by decide) (fun c4 => ?_) (fun c4 => ?_)
        · have h := pi_t c4 h
          refine lv_iload_n hx hb dX3_together_64 rfl (lv_at hl 4 rfl) ?_
          cases h
          exact K
        · have h := pi_f c4 h
          refine lv_iload hx hb dX3_together_59 (lv_at hl 5 rfl) ?_
          refine lv_goto (tgt := 65) hx hb dX3_together_61 (by decide) ?_
          cases h
          exact K
set_option maxHeartbeats 4000000 in
set_option maxRecDepth 100000 in
theorem lp_together_1 {p : Program} {l : Launch} {e : Env} {s : State} {m : MethodId} {args : Array Value} {below : List Frame} {meth : Method} {c : Code} {D : va_G} {dA : ClassId} {a : Nat → Nat} {Q : State → Prop} (hx : p.tables.exec = Jvm.exec) (hb : c.code = cX3_together) (hml : c.maxLocals = 8) (hown : s.vm.findClass RX3 = some m.cls) (hts : ∀ w ∈ lw_all, w.before args s = true) {H : Heap} {locs : List Loc} {sA : Nat → Int32} {past : Nat → Int32} {held : Nat → Int32} {text : Nat → Int32} {parted : Nat → Int32} {asShown : Nat → Int32} {told : Nat → Int32} {pasts : Int32} {runs : Int32} {typed : Int32} {spot : Int32} {from_ : Int32} {reason : Int32} {cause : Int32} {orders : Int32} {order : Int32} (hK : va_K D gCl [(dA, .int)] s) (hP : va_P D gCl (mW dA a sA past held text parted asShown told pasts runs typed spot from_ reason cause orders order) H) {x1 : Int32} (nf : Nat) : ∀ (n : Nat) (y5 : Int32) (y4 : Int32) (y3 : Int32) (y2 : Int32) (z : (Int32 × Int32 × Int32)), m_together_L1 nf sA n y5 y4 y3 y2 = some z → ∀ ls : Array Slot, lv_has ls 8 [(5, .int y5), (4, .int y4), (3, .int y3), (2, .int y2), (0, .ref (a 0)), (1, .int x1)] → (∀ ls : Array Slot, lv_has ls 8 [(4, .int z.1), (3, .int z.2.1), (2, .int z.2.2), (0, .ref (a 0)), (1, .int x1)] → W p l e ({ frames := 4, cells := 0, slots := 0, locals := 82 } : Room) s m args below meth c H locs 0 0 Q (F0 m 108 ls [])) → W p l e ({ frames := 4, cells := 0, slots := 0, locals := 82 } : Room) s m args below meth c H locs 0 0 Q (F0 m 22 ls []) := by
  intro n
  induction n with
  | zero => intro y5 y4 y3 y2 z h ls hl K; exact absurd h (by simp [m_together_L1])
  | succ n ih =>
    intro y5 y4 y3 y2 z h ls hl K
    unfold m_together_L1 at h
    refine lv_iload hx hb dX3_together_22 (lv_at hl 0 rfl) ?_
    refine lv_bipush (v := 16) hx hb dX3_together_24 (by decide) ?_
    refine lv_icmp_ge (tgt := 108) hx hb dX3_together_26 (by decide) (fun c1 => ?_) (fun c1 => ?_)
    · have h := pi_t c1 h
      cases h
      exact K ls (lv_sub hl [1, 2, 3, 4, 5] rfl)
    · have h := pi_f c1 h
      refine lv_iload hx hb dX3_together_29 (lv_at hl 0 rfl) ?_
      refine lv_iconst (v := 1) hx hb dX3_together_31 (by decide) ?_
      refine lv_iadd hx hb dX3_together_32 ?_
      refine lv_istore (lv' := [(6, .int (y5 + (1 : Int32))), (5, .int y5), (4, .int y4), (3, .int y3), (2, .int y2), (0, .ref (a 0)), (1, .int x1)]) hx hb dX3_together_33 hl (by decide) rfl (fun ls hl => ?_)
      obtain ⟨⟨o2, o3, o4⟩, e501, h⟩ := pb_some h
      refine lp_together_2 hx hb hml hown hts hK hP _ _ _ _ _ _ _ e501 ls (lv_sub hl [0, 2, 3, 4, 1, 5, 6] rfl) (fun ls hl => ?_)
      refine lv_iinc (v := (y5 + (1 : Int32))) (lv' := [(5, .int (y5 + (1 : Int32))), (4, .int o2), (3, .int o3), (2, .int o4), (0, .ref (a 0)), (1, .int x1)]) hx hb dX3_together_102 hl (k := 3) rfl (by rfl) (by decide) rfl (fun ls hl => ?_)
      refine lv_goto (tgt := 22) hx hb dX3_together_105 (by decide) ?_
      exact ih _ _ _ _ _ h ls (lv_sub hl [0, 1, 2, 3, 4, 5] rfl) K
set_option maxHeartbeats 4000000 in
set_option maxRecDepth 100000 in
theorem met_together {l : Launch} {D : va_G} {dA : ClassId} {a : Nat → Nat} {sA past held text parted asShown told : Nat → Int32} {pasts runs typed spot from_ reason cause orders order : Int32} {nf : Nat} {x1 : Int32} {r : Int32}  (h : m_together nf sA x1 = some r) : Met l yX3_together (ws_ yX3_together cX3_together 8 (some .int)) ({ frames := 4, cells := 0, slots := 0, locals := 82 } : Room) (mPc [.ref (a 0), .int x1] D dA a sA past held text parted asShown told pasts runs typed spot from_ reason cause orders order) (QcRead r) 0 0 (fun _ => False) := by
  refine Met.ofW (cc := cX3_together) (maxL := 8) (ret := (some .int)) (by decide) rfl ?_
  intro p e s m args below meth c s₁ B hml hv
  obtain ⟨rfl, hP, hK⟩ := hv
  have hx := B.exec
  have hb := B.bytes
  have hr := B.returns
  have hts := atoms_spec (ws := ws_ yX3_together cX3_together 8 (some .int)) B.pre
  have hts : ∀ w ∈ lw_all, w.before _ s = true := fun w h => hts w (List.mem_cons_of_mem _ h)
  have hown : s.vm.findClass RX3 = some m.cls := findClass_of_methodNamed B.named
  have hlocks := B.notSynchronized
  have hl := lv_entry ([.ref (a 0), .int x1]) (n := 8) (Nat.le_of_ble_eq_true rfl)
  rw [lg_entry_eq]
  generalize (lg_sl ([.ref (a 0), .int x1]) ++ List.replicate (8 - (lg_sl ([.ref (a 0), .int x1])).length) Slot.unset).toArray = ls at hl ⊢
  have hl : lv_has ls 8 [(0, .ref (a 0)), (1, .int x1)] := hl
  unfold m_together at h
  refine lv_iload_n hx hb dX3_together_0 rfl (lv_at hl 1 rfl) ?_
  refine lv_iconst (v := 0) hx hb dX3_together_1 (by decide) ?_
  refine lv_iconst (v := 2) hx hb dX3_together_2 (by decide) ?_
  obtain ⟨b2, e1, h⟩ := pb_some h
  refine m_callR (W.runS (As := [.int x1, .int (0 : Int32), .int (2 : Int32)]) (rest := []) ⟨hx, hb, hml, hown, hts⟩ (met_in e1) (va_cwS 3 hts (lw_S q1326 q1327 q77 q1328) rfl rfl rfl hd_in ⟨Nat.le_of_ble_eq_true rfl, Nat.le_of_ble_eq_true rfl⟩) m_preS rfl rfl hl.1 rfl (lv_room (Nat.le_of_ble_eq_true rfl)) dX3_together_3 ⟨Nat.le_of_ble_eq_true rfl, Nat.le_of_ble_eq_true rfl⟩) ?_
  refine lv_if_ne (tgt := 12) hx hb dX3_together_6 (by decide) (fun c3 => ?_) (fun c3 => ?_)
  · have h := pi_f c3 h
    refine lv_iconst (v := 0) hx hb dX3_together_12 (by decide) ?_
    refine lv_istore_n (lv' := [(2, .int (0 : Int32)), (0, .ref (a 0)), (1, .int x1)]) hx hb dX3_together_13 rfl hl (by decide) rfl (fun ls hl => ?_)
    refine lv_iconst (v := 0) hx hb dX3_together_14 (by decide) ?_
    refine lv_istore_n (lv' := [(3, .int (0 : Int32)), (2, .int (0 : Int32)), (0, .ref (a 0)), (1, .int x1)]) hx hb dX3_together_15 rfl hl (by decide) rfl (fun ls hl => ?_)
    refine lv_iconst (v := 0) hx hb dX3_together_16 (by decide) ?_
    refine lv_istore (lv' := [(4, .int (0 : Int32)), (3, .int (0 : Int32)), (2, .int (0 : Int32)), (0, .ref (a 0)), (1, .int x1)]) hx hb dX3_together_17 hl (by decide) rfl (fun ls hl => ?_)
    refine lv_iconst (v := 0) hx hb dX3_together_19 (by decide) ?_
    refine lv_istore (lv' := [(5, .int (0 : Int32)), (4, .int (0 : Int32)), (3, .int (0 : Int32)), (2, .int (0 : Int32)), (0, .ref (a 0)), (1, .int x1)]) hx hb dX3_together_20 hl (by decide) rfl (fun ls hl => ?_)
    obtain ⟨⟨o4, o5, o6⟩, e501, h⟩ := pb_some h
    refine lp_together_1 hx hb hml hown hts hK hP _ _ _ _ _ _ _ e501 ls (lv_sub hl [0, 1, 2, 3, 4, 5] rfl) (fun ls hl => ?_)
    refine lv_iload hx hb dX3_together_108 (lv_at hl 0 rfl) ?_
    refine lv_if_ne (tgt := 118) hx hb dX3_together_110 (by decide) (fun c7 => ?_) (fun c7 => ?_)
    · have h := pi_f c7 h
      refine lv_iload_n hx hb dX3_together_118 rfl (lv_at hl 4 rfl) ?_
      refine lv_if_ne (tgt := 126) hx hb dX3_together_119 (by decide) (fun c8 => ?_) (fun c8 => ?_)
      · have h := pi_f c8 h
        refine lv_iload_n hx hb dX3_together_126 rfl (lv_at hl 4 rfl) ?_
        refine lv_iconst (v := 1) hx hb dX3_together_127 (by decide) ?_
        refine lv_icmp_ne (tgt := 135) hx hb dX3_together_128 (by decide) (fun c9 => ?_) (fun c9 => ?_)
        · have h := pi_f c9 h
          refine lv_iload hx hb dX3_together_135 (lv_at hl 0 rfl) ?_
          cases h
          exact W.iret hx hb hr (fun t ht hW => ⟨rfl, ht⟩) (fun q hq => absurd hq List.not_mem_nil) dX3_together_137
        · have h := pi_t c9 h
          refine lv_iload_n hx hb dX3_together_131 rfl (lv_at hl 1 rfl) ?_
          refine lv_goto (tgt := 137) hx hb dX3_together_132 (by decide) ?_
          cases h
          exact W.iret hx hb hr (fun t ht hW => ⟨rfl, ht⟩) (fun q hq => absurd hq List.not_mem_nil) dX3_together_137
      · have h := pi_t c8 h
        refine lv_iload_n hx hb dX3_together_122 rfl (lv_at hl 2 rfl) ?_
        refine lv_goto (tgt := 137) hx hb dX3_together_123 (by decide) ?_
        cases h
        exact W.iret hx hb hr (fun t ht hW => ⟨rfl, ht⟩) (fun q hq => absurd hq List.not_mem_nil) dX3_together_137
    · have h := pi_t c7 h
      refine lv_ldc hx hb hown (hts _ q1430) dX3_together_113 ?_
      refine lv_goto (tgt := 137) hx hb dX3_together_115 (by decide) ?_
      cases h
      exact W.iret hx hb hr (fun t ht hW => ⟨rfl, ht⟩) (fun q hq => absurd hq List.not_mem_nil) dX3_together_137
  · have h := pi_t c3 h
    refine lv_ldc hx hb hown (hts _ q1329) dX3_together_9 ?_
    cases h
    exact W.iret hx hb hr (fun t ht hW => ⟨rfl, ht⟩) (fun q hq => absurd hq List.not_mem_nil) dX3_together_11
theorem hd_lastEnd : yX3_lastEnd.cls = RX3 ∧ yX3_lastEnd.cls ≠ "java/lang/invoke/MethodHandle" ∧ yX3_lastEnd.cls ≠ "java/lang/invoke/VarHandle" ∧ (parseMethodDescriptor yX3_lastEnd.desc).map (fun d => d.parameters.length) = some 0 := by decide +kernel
set_option maxHeartbeats 4000000 in
set_option maxRecDepth 100000 in
theorem lp_lastEnd_1 {p : Program} {l : Launch} {e : Env} {s : State} {m : MethodId} {args : Array Value} {below : List Frame} {meth : Method} {c : Code} {D : va_G} {dA : ClassId} {a : Nat → Nat} {Q : State → Prop} (hx : p.tables.exec = Jvm.exec) (hb : c.code = cX3_lastEnd) (hml : c.maxLocals = 3) (hown : s.vm.findClass RX3 = some m.cls) (hts : ∀ w ∈ lw_all, w.before args s = true) {H : Heap} {locs : List Loc} {sA : Nat → Int32} {past : Nat → Int32} {held : Nat → Int32} {text : Nat → Int32} {parted : Nat → Int32} {asShown : Nat → Int32} {told : Nat → Int32} {pasts : Int32} {runs : Int32} {typed : Int32} {spot : Int32} {from_ : Int32} {reason : Int32} {cause : Int32} {orders : Int32} {order : Int32} (hK : va_K D gCl [(dA, .int)] s) (hP : va_P D gCl (mW dA a sA past held text parted asShown told pasts runs typed spot from_ reason cause orders order) H)  (nf : Nat) : ∀ (n : Nat) (y2 : Int32) (y1 : Int32) (z : Int32), m_lastEnd_L1 nf sA n y2 y1 = some z → ∀ ls : Array Slot, lv_has ls 3 [(2, .int y2), (1, .int y1), (0, .ref (a 0))] → (∀ ls : Array Slot, lv_has ls 3 [(1, .int z), (0, .ref (a 0))] → W p l e ({ frames := 2, cells := 0, slots := 0, locals := 34 } : Room) s m args below meth c H locs 0 0 Q (F0 m 43 ls [])) → W p l e ({ frames := 2, cells := 0, slots := 0, locals := 34 } : Room) s m args below meth c H locs 0 0 Q (F0 m 4 ls []) := by
  intro n
  induction n with
  | zero => intro y2 y1 z h ls hl K; exact absurd h (by simp [m_lastEnd_L1])
  | succ n ih =>
    intro y2 y1 z h ls hl K
    unfold m_lastEnd_L1 at h
    refine lv_iload_n hx hb dX3_lastEnd_4 rfl (lv_at hl 0 rfl) ?_
    refine lv_aload_n hx hb dX3_lastEnd_5 rfl (lv_at hl 2 rfl) ?_
    refine va_get (ci := 3) (v := .ref (a 1)) (C := RX3) (T := TX3) (N := 16) hx hb hts in_X3 hown hK hP 0 rfl rfl 0 (by decide) (hts _ q1273) (fun _ h9 => h9) rfl dX3_lastEnd_6 ?_
    refine lv_sipush (v := 282) hx hb dX3_lastEnd_9 (by decide) ?_
    refine m_iald (k := 282) hx hb hK hP 1 0 rfl rfl (by decide) (by decide) dX3_lastEnd_12 ?_
    refine lv_icmp_ge (tgt := 43) hx hb dX3_lastEnd_13 (by decide) (fun c1 => ?_) (fun c1 => ?_)
    · have h := pi_t c1 h
      cases h
      exact K ls (lv_sub hl [1, 2] rfl)
    · have h := pi_f c1 h
      refine lv_aload_n hx hb dX3_lastEnd_16 rfl (lv_at hl 2 rfl) ?_
      refine lv_iload_n hx hb dX3_lastEnd_17 rfl (lv_at hl 0 rfl) ?_
      refine lv_iconst (v := 1) hx hb dX3_lastEnd_18 (by decide) ?_
      obtain ⟨r3, e2, h⟩ := pb_some h
      refine m_callR (W.runV (As := [.int y2, .int (1 : Int32)]) (rest := []) ⟨hx, hb, hml, hown, hts⟩ (met_of e2) (cwV 2 hts (lw_V q1339 q1341 qs27 q77 q1342) rfl rfl rfl hd_of ⟨Nat.le_of_ble_eq_true rfl, Nat.le_of_ble_eq_true rfl⟩) (m_preV hK hP) rfl rfl hl.1 rfl (lv_room (Nat.le_of_ble_eq_true rfl)) dX3_lastEnd_19 ⟨Nat.le_of_ble_eq_true rfl, Nat.le_of_ble_eq_true rfl⟩) ?_
      refine lv_iload_n hx hb dX3_lastEnd_22 rfl (lv_at hl 1 rfl) ?_
      obtain ⟨j7, hj, h⟩ := pb_some h
      refine W.cut (g' := F0 m 36 ls [.int j7]) ?_ (fun K => ?_)
      · refine lv_istore_n (lv' := [(1, .int j7), (2, .int y2), (0, .ref (a 0))]) hx hb dX3_lastEnd_36 rfl hl (by decide) rfl (fun ls hl => ?_)
        refine lv_iinc (v := (y2 + (1 : Int32))) (lv' := [(2, .int (y2 + (1 : Int32))), (1, .int j7), (0, .ref (a 0))]) hx hb dX3_lastEnd_37 hl (k := 1) rfl (by rfl) (by decide) rfl (fun ls hl => ?_)
        refine lv_goto (tgt := 4) hx hb dX3_lastEnd_40 (by decide) ?_
        exact ih _ _ _ h ls (lv_sub hl [0, 1, 2] rfl) K
      · have h := hj
        refine lv_icmp_le (tgt := 35) hx hb dX3_lastEnd_23 (by decide) (fun c4 => ?_) (fun c4 => ?_)
        · have h := pi_t c4 h
          refine lv_iload_n hx hb dX3_lastEnd_35 rfl (lv_at hl 1 rfl) ?_
          cases h
          exact K
        · have h := pi_f c4 h
          refine lv_aload_n hx hb dX3_lastEnd_26 rfl (lv_at hl 2 rfl) ?_
          refine lv_iload_n hx hb dX3_lastEnd_27 rfl (lv_at hl 0 rfl) ?_
          refine lv_iconst (v := 1) hx hb dX3_lastEnd_28 (by decide) ?_
          obtain ⟨r6, e5, h⟩ := pb_some h
          refine m_callR (W.runV (As := [.int y2, .int (1 : Int32)]) (rest := []) ⟨hx, hb, hml, hown, hts⟩ (met_of e5) (cwV 2 hts (lw_V q1339 q1341 qs27 q77 q1342) rfl rfl rfl hd_of ⟨Nat.le_of_ble_eq_true rfl, Nat.le_of_ble_eq_true rfl⟩) (m_preV hK hP) rfl rfl hl.1 rfl (lv_room (Nat.le_of_ble_eq_true rfl)) dX3_lastEnd_29 ⟨Nat.le_of_ble_eq_true rfl, Nat.le_of_ble_eq_true rfl⟩) ?_
          refine lv_goto (tgt := 36) hx hb dX3_lastEnd_32 (by decide) ?_
          cases h
          exact K
set_option maxHeartbeats 4000000 in
set_option maxRecDepth 100000 in
theorem met_lastEnd {l : Launch} {D : va_G} {dA : ClassId} {a : Nat → Nat} {sA past held text parted asShown told : Nat → Int32} {pasts runs typed spot from_ reason cause orders order : Int32} {nf : Nat} {r : Int32}  (h : m_lastEnd nf sA  = some r) : Met l yX3_lastEnd (ws_ yX3_lastEnd cX3_lastEnd 3 (some .int)) ({ frames := 2, cells := 0, slots := 0, locals := 34 } : Room) (mPc [.ref (a 0)] D dA a sA past held text parted asShown told pasts runs typed spot from_ reason cause orders order) (QcRead r) 0 0 (fun _ => False) := by
  refine Met.ofW (cc := cX3_lastEnd) (maxL := 3) (ret := (some .int)) (by decide) rfl ?_
  intro p e s m args below meth c s₁ B hml hv
  obtain ⟨rfl, hP, hK⟩ := hv
  have hx := B.exec
  have hb := B.bytes
  have hr := B.returns
  have hts := atoms_spec (ws := ws_ yX3_lastEnd cX3_lastEnd 3 (some .int)) B.pre
  have hts : ∀ w ∈ lw_all, w.before _ s = true := fun w h => hts w (List.mem_cons_of_mem _ h)
  have hown : s.vm.findClass RX3 = some m.cls := findClass_of_methodNamed B.named
  have hlocks := B.notSynchronized
  have hl := lv_entry ([.ref (a 0)]) (n := 3) (Nat.le_of_ble_eq_true rfl)
  rw [lg_entry_eq]
  generalize (lg_sl ([.ref (a 0)]) ++ List.replicate (3 - (lg_sl ([.ref (a 0)])).length) Slot.unset).toArray = ls at hl ⊢
  have hl : lv_has ls 3 [(0, .ref (a 0))] := hl
  unfold m_lastEnd at h
  refine lv_iconst (v := 0) hx hb dX3_lastEnd_0 (by decide) ?_
  refine lv_istore_n (lv' := [(1, .int (0 : Int32)), (0, .ref (a 0))]) hx hb dX3_lastEnd_1 rfl hl (by decide) rfl (fun ls hl => ?_)
  refine lv_iconst (v := 0) hx hb dX3_lastEnd_2 (by decide) ?_
  refine lv_istore_n (lv' := [(2, .int (0 : Int32)), (1, .int (0 : Int32)), (0, .ref (a 0))]) hx hb dX3_lastEnd_3 rfl hl (by decide) rfl (fun ls hl => ?_)
  obtain ⟨o1, e501, h⟩ := pb_some h
  refine lp_lastEnd_1 hx hb hml hown hts hK hP _ _ _ _ _ e501 ls (lv_sub hl [0, 1, 2] rfl) (fun ls hl => ?_)
  refine lv_iload_n hx hb dX3_lastEnd_43 rfl (lv_at hl 0 rfl) ?_
  cases h
  exact W.iret hx hb hr (fun t ht hW => ⟨rfl, ht⟩) (fun q hq => absurd hq List.not_mem_nil) dX3_lastEnd_44
theorem hd_silence : yX3_silence.cls = RX3 ∧ yX3_silence.cls ≠ "java/lang/invoke/MethodHandle" ∧ yX3_silence.cls ≠ "java/lang/invoke/VarHandle" ∧ (parseMethodDescriptor yX3_silence.desc).map (fun d => d.parameters.length) = some 1 := by decide +kernel
set_option maxHeartbeats 4000000 in
set_option maxRecDepth 100000 in
theorem lp_silence_1 {p : Program} {l : Launch} {e : Env} {s : State} {m : MethodId} {args : Array Value} {below : List Frame} {meth : Method} {c : Code} {D : va_G} {dA : ClassId} {a : Nat → Nat} {Q : State → Prop} (hx : p.tables.exec = Jvm.exec) (hb : c.code = cX3_silence) (hml : c.maxLocals = 7) (hown : s.vm.findClass RX3 = some m.cls) (hts : ∀ w ∈ lw_all, w.before args s = true) {H : Heap} {locs : List Loc} {sA : Nat → Int32} {past : Nat → Int32} {held : Nat → Int32} {text : Nat → Int32} {parted : Nat → Int32} {asShown : Nat → Int32} {told : Nat → Int32} {pasts : Int32} {runs : Int32} {typed : Int32} {spot : Int32} {from_ : Int32} {reason : Int32} {cause : Int32} {orders : Int32} {order : Int32} (hK : va_K D gCl [(dA, .int)] s) (hP : va_P D gCl (mW dA a sA past held text parted asShown told pasts runs typed spot from_ reason cause orders order) H) {x5 : Int32} {x1 : Int32} (nf : Nat) : ∀ (n : Nat) (y6 : Int32) (y4 : Int32) (y3 : Int32) (y2 : Int32) (z : (Int32 × Int32)), m_silence_L1 nf sA x5 n y6 y4 y3 y2 = some z → ∀ ls : Array Slot, lv_has ls 7 [(6, .int y6), (4, .int y4), (3, .int y3), (2, .int y2), (5, .int x5), (0, .ref (a 0)), (1, .int x1)] → (∀ ls : Array Slot, lv_has ls 7 [(3, .int z.1), (2, .int z.2), (5, .int x5), (0, .ref (a 0)), (1, .int x1)] → W p l e ({ frames := 4, cells := 0, slots := 0, locals := 79 } : Room) s m args below meth c H locs 0 0 Q (F0 m 107 ls [])) → W p l e ({ frames := 4, cells := 0, slots := 0, locals := 79 } : Room) s m args below meth c H locs 0 0 Q (F0 m 33 ls []) := by
  intro n
  induction n with
  | zero => intro y6 y4 y3 y2 z h ls hl K; exact absurd h (by simp [m_silence_L1])
  | succ n ih =>
    intro y6 y4 y3 y2 z h ls hl K
    unfold m_silence_L1 at h
    refine lv_iload hx hb dX3_silence_33 (lv_at hl 0 rfl) ?_
    refine lv_iload hx hb dX3_silence_35 (lv_at hl 4 rfl) ?_
    refine lv_icmp_ge (tgt := 107) hx hb dX3_silence_37 (by decide) (fun c1 => ?_) (fun c1 => ?_)
    · have h := pi_t c1 h
      cases h
      exact K ls (lv_sub hl [2, 3, 4, 5, 6] rfl)
    · have h := pi_f c1 h
      refine lv_aload_n hx hb dX3_silence_40 rfl (lv_at hl 5 rfl) ?_
      refine va_get (ci := 3) (v := .ref (a 1)) (C := RX3) (T := TX3) (N := 16) hx hb hts in_X3 hown hK hP 0 rfl rfl 0 (by decide) (hts _ q1273) (fun _ h9 => h9) rfl dX3_silence_41 ?_
      refine lv_sipush (v := 282) hx hb dX3_silence_44 (by decide) ?_
      refine m_iald (k := 282) hx hb hK hP 1 0 rfl rfl (by decide) (by decide) dX3_silence_47 ?_
      refine lv_if_le (tgt := 107) hx hb dX3_silence_48 (by decide) (fun c2 => ?_) (fun c2 => ?_)
      · have h := pi_t c2 h
        cases h
        exact K ls (lv_sub hl [2, 3, 4, 5, 6] rfl)
      · have h := pi_f c2 h
        refine lv_aload_n hx hb dX3_silence_51 rfl (lv_at hl 5 rfl) ?_
        refine lv_iload hx hb dX3_silence_52 (lv_at hl 0 rfl) ?_
        obtain ⟨r4, e3, h⟩ := pb_some h
        refine m_callR (W.runV (As := [.int y6]) (rest := []) ⟨hx, hb, hml, hown, hts⟩ (met_going e3) (cwV 1 hts (lw_V q1447 q1449 qs42 q77 q1450) rfl rfl rfl hd_going ⟨Nat.le_of_ble_eq_true rfl, Nat.le_of_ble_eq_true rfl⟩) (m_preV hK hP) rfl rfl hl.1 rfl (lv_room (Nat.le_of_ble_eq_true rfl)) dX3_silence_54 ⟨Nat.le_of_ble_eq_true rfl, Nat.le_of_ble_eq_true rfl⟩) ?_
        obtain ⟨j6, hj, h⟩ := pb_some h
        refine W.cut (g' := F0 m 68 ls [.int j6]) ?_ (fun K => ?_)
        · refine lv_istore (lv' := [(4, .int j6), (6, .int y6), (3, .int y3), (2, .int y2), (5, .int x5), (0, .ref (a 0)), (1, .int x1)]) hx hb dX3_silence_68 hl (by decide) rfl (fun ls hl => ?_)
          refine lv_iload hx hb dX3_silence_70 (lv_at hl 0 rfl) ?_
          refine lv_iload_n hx hb dX3_silence_72 rfl (lv_at hl 2 rfl) ?_
          obtain ⟨j8, hj, h⟩ := pb_some h
          refine W.cut (g' := F0 m 87 ls [.int j8]) ?_ (fun K => ?_)
          · refine lv_istore_n (lv' := [(2, .int j8), (4, .int j6), (6, .int y6), (3, .int y3), (5, .int x5), (0, .ref (a 0)), (1, .int x1)]) hx hb dX3_silence_87 rfl hl (by decide) rfl (fun ls hl => ?_)
            refine lv_iload hx hb dX3_silence_88 (lv_at hl 1 rfl) ?_
            refine lv_iload_n hx hb dX3_silence_90 rfl (lv_at hl 3 rfl) ?_
            obtain ⟨j10, hj, h⟩ := pb_some h
            refine W.cut (g' := F0 m 100 ls [.int j10]) ?_ (fun K => ?_)
            · refine lv_istore_n (lv' := [(3, .int j10), (2, .int j8), (4, .int j6), (6, .int y6), (5, .int x5), (0, .ref (a 0)), (1, .int x1)]) hx hb dX3_silence_100 rfl hl (by decide) rfl (fun ls hl => ?_)
              refine lv_iinc (v := (y6 + (1 : Int32))) (lv' := [(6, .int (y6 + (1 : Int32))), (3, .int j10), (2, .int j8), (4, .int j6), (5, .int x5), (0, .ref (a 0)), (1, .int x1)]) hx hb dX3_silence_101 hl (k := 3) rfl (by rfl) (by decide) rfl (fun ls hl => ?_)
              refine lv_goto (tgt := 33) hx hb dX3_silence_104 (by decide) ?_
              exact ih _ _ _ _ _ h ls (lv_sub hl [0, 3, 1, 2, 4, 5, 6] rfl) K
            · have h := hj
              refine lv_icmp_le (tgt := 99) hx hb dX3_silence_91 (by decide) (fun c9 => ?_) (fun c9 => ?_)
              · have h := pi_t c9 h
                refine lv_iload_n hx hb dX3_silence_99 rfl (lv_at hl 3 rfl) ?_
                cases h
                exact K
              · have h := pi_f c9 h
                refine lv_iload hx hb dX3_silence_94 (lv_at hl 1 rfl) ?_
                refine lv_goto (tgt := 100) hx hb dX3_silence_96 (by decide) ?_
                cases h
                exact K
          · have h := hj
            refine lv_icmp_le (tgt := 86) hx hb dX3_silence_73 (by decide) (fun c7 => ?_) (fun c7 => ?_)
            · have h := pi_t c7 h
              refine lv_iload_n hx hb dX3_silence_86 rfl (lv_at hl 3 rfl) ?_
              cases h
              exact K
            · have h := pi_f c7 h
              refine lv_iload hx hb dX3_silence_76 (lv_at hl 1 rfl) ?_
              refine lv_iload hx hb dX3_silence_78 (lv_at hl 0 rfl) ?_
              refine lv_isub hx hb dX3_silence_80 ?_
              refine lv_iconst (v := 1) hx hb dX3_silence_81 (by decide) ?_
              refine lv_iadd hx hb dX3_silence_82 ?_
              refine lv_goto (tgt := 87) hx hb dX3_silence_83 (by decide) ?_
              cases h
              exact K
        · have h := hj
          refine lv_if_ne (tgt := 67) hx hb dX3_silence_57 (by decide) (fun c5 => ?_) (fun c5 => ?_)
          · have h := pi_f c5 h
            refine lv_iconst (v := 0) hx hb dX3_silence_67 (by decide) ?_
            cases h
            exact K
          · have h := pi_t c5 h
            refine lv_iload hx hb dX3_silence_60 (lv_at hl 1 rfl) ?_
            refine lv_iconst (v := 1) hx hb dX3_silence_62 (by decide) ?_
            refine lv_iadd hx hb dX3_silence_63 ?_
            refine lv_goto (tgt := 68) hx hb dX3_silence_64 (by decide) ?_
            cases h
            exact K
set_option maxHeartbeats 4000000 in
set_option maxRecDepth 100000 in
theorem met_silence {l : Launch} {D : va_G} {dA : ClassId} {a : Nat → Nat} {sA past held text parted asShown told : Nat → Int32} {pasts runs typed spot from_ reason cause orders order : Int32} {nf : Nat} {x1 : Int32} {r : Int32}  (h : m_silence nf sA x1 = some r) : Met l yX3_silence (ws_ yX3_silence cX3_silence 7 (some .int)) ({ frames := 4, cells := 0, slots := 0, locals := 79 } : Room) (mPc [.ref (a 0), .int x1] D dA a sA past held text parted asShown told pasts runs typed spot from_ reason cause orders order) (QcRead r) 0 0 (fun _ => False) := by
  refine Met.ofW (cc := cX3_silence) (maxL := 7) (ret := (some .int)) (by decide) rfl ?_
  intro p e s m args below meth c s₁ B hml hv
  obtain ⟨rfl, hP, hK⟩ := hv
  have hx := B.exec
  have hb := B.bytes
  have hr := B.returns
  have hts := atoms_spec (ws := ws_ yX3_silence cX3_silence 7 (some .int)) B.pre
  have hts : ∀ w ∈ lw_all, w.before _ s = true := fun w h => hts w (List.mem_cons_of_mem _ h)
  have hown : s.vm.findClass RX3 = some m.cls := findClass_of_methodNamed B.named
  have hlocks := B.notSynchronized
  have hl := lv_entry ([.ref (a 0), .int x1]) (n := 7) (Nat.le_of_ble_eq_true rfl)
  rw [lg_entry_eq]
  generalize (lg_sl ([.ref (a 0), .int x1]) ++ List.replicate (7 - (lg_sl ([.ref (a 0), .int x1])).length) Slot.unset).toArray = ls at hl ⊢
  have hl : lv_has ls 7 [(0, .ref (a 0)), (1, .int x1)] := hl
  unfold m_silence at h
  refine lv_iload_n hx hb dX3_silence_0 rfl (lv_at hl 1 rfl) ?_
  refine lv_iconst (v := 0) hx hb dX3_silence_1 (by decide) ?_
  refine lv_iconst (v := 1) hx hb dX3_silence_2 (by decide) ?_
  obtain ⟨b2, e1, h⟩ := pb_some h
  refine m_callR (W.runS (As := [.int x1, .int (0 : Int32), .int (1 : Int32)]) (rest := []) ⟨hx, hb, hml, hown, hts⟩ (met_in e1) (va_cwS 3 hts (lw_S q1326 q1327 q77 q1328) rfl rfl rfl hd_in ⟨Nat.le_of_ble_eq_true rfl, Nat.le_of_ble_eq_true rfl⟩) m_preS rfl rfl hl.1 rfl (lv_room (Nat.le_of_ble_eq_true rfl)) dX3_silence_3 ⟨Nat.le_of_ble_eq_true rfl, Nat.le_of_ble_eq_true rfl⟩) ?_
  refine lv_if_ne (tgt := 12) hx hb dX3_silence_6 (by decide) (fun c3 => ?_) (fun c3 => ?_)
  · have h := pi_f c3 h
    refine lv_iconst (v := 0) hx hb dX3_silence_12 (by decide) ?_
    refine lv_istore_n (lv' := [(2, .int (0 : Int32)), (0, .ref (a 0)), (1, .int x1)]) hx hb dX3_silence_13 rfl hl (by decide) rfl (fun ls hl => ?_)
    refine lv_iconst (v := 0) hx hb dX3_silence_14 (by decide) ?_
    refine lv_istore_n (lv' := [(3, .int (0 : Int32)), (2, .int (0 : Int32)), (0, .ref (a 0)), (1, .int x1)]) hx hb dX3_silence_15 rfl hl (by decide) rfl (fun ls hl => ?_)
    refine lv_iconst (v := 0) hx hb dX3_silence_16 (by decide) ?_
    refine lv_istore (lv' := [(4, .int (0 : Int32)), (3, .int (0 : Int32)), (2, .int (0 : Int32)), (0, .ref (a 0)), (1, .int x1)]) hx hb dX3_silence_17 hl (by decide) rfl (fun ls hl => ?_)
    refine lv_aload_n hx hb dX3_silence_19 rfl (lv_at hl 3 rfl) ?_
    obtain ⟨r5, e4, h⟩ := pb_some h
    refine m_callR (W.runV (As := []) (rest := []) ⟨hx, hb, hml, hown, hts⟩ (met_lastEnd e4) (cwV 0 hts (lw_V q1533 q1535 qs54 q77 q1536) rfl rfl rfl hd_lastEnd ⟨Nat.le_of_ble_eq_true rfl, Nat.le_of_ble_eq_true rfl⟩) (m_preV hK hP) rfl rfl hl.1 rfl (lv_room (Nat.le_of_ble_eq_true rfl)) dX3_silence_20 ⟨Nat.le_of_ble_eq_true rfl, Nat.le_of_ble_eq_true rfl⟩) ?_
    refine lv_istore (lv' := [(5, .int r5), (4, .int (0 : Int32)), (3, .int (0 : Int32)), (2, .int (0 : Int32)), (0, .ref (a 0)), (1, .int x1)]) hx hb dX3_silence_23 hl (by decide) rfl (fun ls hl => ?_)
    refine lv_aload_n hx hb dX3_silence_25 rfl (lv_at hl 4 rfl) ?_
    refine lv_iconst (v := 0) hx hb dX3_silence_26 (by decide) ?_
    refine lv_iconst (v := 0) hx hb dX3_silence_27 (by decide) ?_
    obtain ⟨r7, e6, h⟩ := pb_some h
    refine m_callR (W.runV (As := [.int (0 : Int32), .int (0 : Int32)]) (rest := []) ⟨hx, hb, hml, hown, hts⟩ (met_of e6) (cwV 2 hts (lw_V q1339 q1341 qs27 q77 q1342) rfl rfl rfl hd_of ⟨Nat.le_of_ble_eq_true rfl, Nat.le_of_ble_eq_true rfl⟩) (m_preV hK hP) rfl rfl hl.1 rfl (lv_room (Nat.le_of_ble_eq_true rfl)) dX3_silence_28 ⟨Nat.le_of_ble_eq_true rfl, Nat.le_of_ble_eq_true rfl⟩) ?_
    refine lv_istore (lv' := [(6, .int r7), (5, .int r5), (4, .int (0 : Int32)), (3, .int (0 : Int32)), (2, .int (0 : Int32)), (0, .ref (a 0)), (1, .int x1)]) hx hb dX3_silence_31 hl (by decide) rfl (fun ls hl => ?_)
    obtain ⟨⟨o8, o9⟩, e501, h⟩ := pb_some h
    refine lp_silence_1 hx hb hml hown hts hK hP _ _ _ _ _ _ _ e501 ls (lv_sub hl [0, 2, 3, 4, 1, 5, 6] rfl) (fun ls hl => ?_)
    refine lv_iload_n hx hb dX3_silence_107 rfl (lv_at hl 0 rfl) ?_
    refine lv_if_ne (tgt := 116) hx hb dX3_silence_108 (by decide) (fun c10 => ?_) (fun c10 => ?_)
    · have h := pi_f c10 h
      refine lv_iload_n hx hb dX3_silence_116 rfl (lv_at hl 4 rfl) ?_
      refine lv_if_ne (tgt := 124) hx hb dX3_silence_117 (by decide) (fun c11 => ?_) (fun c11 => ?_)
      · have h := pi_f c11 h
        refine lv_iload_n hx hb dX3_silence_124 rfl (lv_at hl 0 rfl) ?_
        cases h
        exact W.iret hx hb hr (fun t ht hW => ⟨rfl, ht⟩) (fun q hq => absurd hq List.not_mem_nil) dX3_silence_125
      · have h := pi_t c11 h
        refine lv_iload_n hx hb dX3_silence_120 rfl (lv_at hl 1 rfl) ?_
        refine lv_goto (tgt := 125) hx hb dX3_silence_121 (by decide) ?_
        cases h
        exact W.iret hx hb hr (fun t ht hW => ⟨rfl, ht⟩) (fun q hq => absurd hq List.not_mem_nil) dX3_silence_125
    · have h := pi_t c10 h
      refine lv_ldc hx hb hown (hts _ q1430) dX3_silence_111 ?_
      refine lv_goto (tgt := 125) hx hb dX3_silence_113 (by decide) ?_
      cases h
      exact W.iret hx hb hr (fun t ht hW => ⟨rfl, ht⟩) (fun q hq => absurd hq List.not_mem_nil) dX3_silence_125
  · have h := pi_t c3 h
    refine lv_ldc hx hb hown (hts _ q1329) dX3_silence_9 ?_
    cases h
    exact W.iret hx hb hr (fun t ht hW => ⟨rfl, ht⟩) (fun q hq => absurd hq List.not_mem_nil) dX3_silence_11
theorem hd_doubtful : yX3_doubtful.cls = RX3 ∧ yX3_doubtful.cls ≠ "java/lang/invoke/MethodHandle" ∧ yX3_doubtful.cls ≠ "java/lang/invoke/VarHandle" ∧ (parseMethodDescriptor yX3_doubtful.desc).map (fun d => d.parameters.length) = some 1 := by decide +kernel
set_option maxHeartbeats 4000000 in
set_option maxRecDepth 100000 in
theorem lp_doubtful_1 {p : Program} {l : Launch} {e : Env} {s : State} {m : MethodId} {args : Array Value} {below : List Frame} {meth : Method} {c : Code} {D : va_G} {dA : ClassId} {a : Nat → Nat} {Q : State → Prop} (hx : p.tables.exec = Jvm.exec) (hb : c.code = cX3_doubtful) (hml : c.maxLocals = 6) (hown : s.vm.findClass RX3 = some m.cls) (hts : ∀ w ∈ lw_all, w.before args s = true) {H : Heap} {locs : List Loc} {sA : Nat → Int32} {past : Nat → Int32} {held : Nat → Int32} {text : Nat → Int32} {parted : Nat → Int32} {asShown : Nat → Int32} {told : Nat → Int32} {pasts : Int32} {runs : Int32} {typed : Int32} {spot : Int32} {from_ : Int32} {reason : Int32} {cause : Int32} {orders : Int32} {order : Int32} (hK : va_K D gCl [(dA, .int)] s) (hP : va_P D gCl (mW dA a sA past held text parted asShown told pasts runs typed spot from_ reason cause orders order) H) {x1 : Int32} (nf : Nat) : ∀ (n : Nat) (y4 : Int32) (y3 : Int32) (y2 : Int32) (z : (Int32 × Int32)), m_doubtful_L1 nf sA n y4 y3 y2 = some z → ∀ ls : Array Slot, lv_has ls 6 [(4, .int y4), (3, .int y3), (2, .int y2), (0, .ref (a 0)), (1, .int x1)] → (∀ ls : Array Slot, lv_has ls 6 [(3, .int z.1), (2, .int z.2), (0, .ref (a 0)), (1, .int x1)] → W p l e ({ frames := 2, cells := 0, slots := 0, locals := 34 } : Room) s m args below meth c H locs 0 0 Q (F0 m 107 ls [])) → W p l e ({ frames := 2, cells := 0, slots := 0, locals := 34 } : Room) s m args below meth c H locs 0 0 Q (F0 m 20 ls []) := by
  intro n
  induction n with
  | zero => intro y4 y3 y2 z h ls hl K; exact absurd h (by simp [m_doubtful_L1])
  | succ n ih =>
    intro y4 y3 y2 z h ls hl K
    unfold m_doubtful_L1 at h
    refine lv_iload hx hb dX3_doubtful_20 (lv_at hl 0 rfl) ?_
    refine lv_aload_n hx hb dX3_doubtful_22 rfl (lv_at hl 3 rfl) ?_
    refine va_get (ci := 3) (v := .ref (a 1)) (C := RX3) (T := TX3) (N := 16) hx hb hts in_X3 hown hK hP 0 rfl rfl 0 (by decide) (hts _ q1273) (fun _ h9 => h9) rfl dX3_doubtful_23 ?_
    refine lv_sipush (v := 282) hx hb dX3_doubtful_26 (by decide) ?_
    refine m_iald (k := 282) hx hb hK hP 1 0 rfl rfl (by decide) (by decide) dX3_doubtful_29 ?_
    refine lv_icmp_ge (tgt := 107) hx hb dX3_doubtful_30 (by decide) (fun c1 => ?_) (fun c1 => ?_)
    · have h := pi_t c1 h
      cases h
      exact K ls (lv_sub hl [1, 2, 3, 4] rfl)
    · have h := pi_f c1 h
      refine lv_aload_n hx hb dX3_doubtful_33 rfl (lv_at hl 3 rfl) ?_
      refine lv_iload hx hb dX3_doubtful_34 (lv_at hl 0 rfl) ?_
      refine lv_iconst (v := 3) hx hb dX3_doubtful_36 (by decide) ?_
      obtain ⟨r3, e2, h⟩ := pb_some h
      refine m_callR (W.runV (As := [.int y4, .int (3 : Int32)]) (rest := []) ⟨hx, hb, hml, hown, hts⟩ (met_of e2) (cwV 2 hts (lw_V q1339 q1341 qs27 q77 q1342) rfl rfl rfl hd_of ⟨Nat.le_of_ble_eq_true rfl, Nat.le_of_ble_eq_true rfl⟩) (m_preV hK hP) rfl rfl hl.1 rfl (lv_room (Nat.le_of_ble_eq_true rfl)) dX3_doubtful_37 ⟨Nat.le_of_ble_eq_true rfl, Nat.le_of_ble_eq_true rfl⟩) ?_
      obtain ⟨j12, hj, h⟩ := pb_some h
      refine W.cut (g' := F0 m 73 ls [.int j12]) ?_ (fun K => ?_)
      · refine lv_istore (lv' := [(5, .int j12), (4, .int y4), (3, .int y3), (2, .int y2), (0, .ref (a 0)), (1, .int x1)]) hx hb dX3_doubtful_73 hl (by decide) rfl (fun ls hl => ?_)
        refine lv_iload hx hb dX3_doubtful_75 (lv_at hl 0 rfl) ?_
        refine lv_iload_n hx hb dX3_doubtful_77 rfl (lv_at hl 2 rfl) ?_
        obtain ⟨j14, hj, h⟩ := pb_some h
        refine W.cut (g' := F0 m 87 ls [.int j14]) ?_ (fun K => ?_)
        · refine lv_istore_n (lv' := [(2, .int j14), (5, .int j12), (4, .int y4), (3, .int y3), (0, .ref (a 0)), (1, .int x1)]) hx hb dX3_doubtful_87 rfl hl (by decide) rfl (fun ls hl => ?_)
          refine lv_iload hx hb dX3_doubtful_88 (lv_at hl 1 rfl) ?_
          refine lv_iload_n hx hb dX3_doubtful_90 rfl (lv_at hl 3 rfl) ?_
          obtain ⟨j16, hj, h⟩ := pb_some h
          refine W.cut (g' := F0 m 100 ls [.int j16]) ?_ (fun K => ?_)
          · refine lv_istore_n (lv' := [(3, .int j16), (2, .int j14), (5, .int j12), (4, .int y4), (0, .ref (a 0)), (1, .int x1)]) hx hb dX3_doubtful_100 rfl hl (by decide) rfl (fun ls hl => ?_)
            refine lv_iinc (v := (y4 + (1 : Int32))) (lv' := [(4, .int (y4 + (1 : Int32))), (3, .int j16), (2, .int j14), (5, .int j12), (0, .ref (a 0)), (1, .int x1)]) hx hb dX3_doubtful_101 hl (k := 3) rfl (by rfl) (by decide) rfl (fun ls hl => ?_)
            refine lv_goto (tgt := 20) hx hb dX3_doubtful_104 (by decide) ?_
            exact ih _ _ _ _ h ls (lv_sub hl [0, 1, 2, 4, 5] rfl) K
          · have h := hj
            refine lv_icmp_le (tgt := 99) hx hb dX3_doubtful_91 (by decide) (fun c15 => ?_) (fun c15 => ?_)
            · have h := pi_t c15 h
              refine lv_iload_n hx hb dX3_doubtful_99 rfl (lv_at hl 3 rfl) ?_
              cases h
              exact K
            · have h := pi_f c15 h
              refine lv_iload hx hb dX3_doubtful_94 (lv_at hl 1 rfl) ?_
              refine lv_goto (tgt := 100) hx hb dX3_doubtful_96 (by decide) ?_
              cases h
              exact K
        · have h := hj
          refine lv_icmp_le (tgt := 86) hx hb dX3_doubtful_78 (by decide) (fun c13 => ?_) (fun c13 => ?_)
          · have h := pi_t c13 h
            refine lv_iload_n hx hb dX3_doubtful_86 rfl (lv_at hl 3 rfl) ?_
            cases h
            exact K
          · have h := pi_f c13 h
            refine lv_iload hx hb dX3_doubtful_81 (lv_at hl 1 rfl) ?_
            refine lv_goto (tgt := 87) hx hb dX3_doubtful_83 (by decide) ?_
            cases h
            exact K
      · have h := hj
        refine lv_if_ge (tgt := 47) hx hb dX3_doubtful_40 (by decide) (fun c4 => ?_) (fun c4 => ?_)
        · have h := pi_t c4 h
          refine lv_aload_n hx hb dX3_doubtful_47 rfl (lv_at hl 3 rfl) ?_
          refine va_get (ci := 3) (v := .ref (a 1)) (C := RX3) (T := TX3) (N := 16) hx hb hts in_X3 hown hK hP 0 rfl rfl 0 (by decide) (hts _ q1273) (fun _ h9 => h9) rfl dX3_doubtful_48 ?_
          refine lv_sipush (v := 276) hx hb dX3_doubtful_51 (by decide) ?_
          refine lv_aload_n hx hb dX3_doubtful_54 rfl (lv_at hl 3 rfl) ?_
          refine lv_iload hx hb dX3_doubtful_55 (lv_at hl 0 rfl) ?_
          refine lv_iconst (v := 3) hx hb dX3_doubtful_57 (by decide) ?_
          obtain ⟨r6, e5, h⟩ := pb_some h
          refine m_callR (W.runV (As := [.int y4, .int (3 : Int32)]) (rest := [.int (276 : Int32), .ref (a 1)]) ⟨hx, hb, hml, hown, hts⟩ (met_of e5) (cwV 2 hts (lw_V q1339 q1341 qs27 q77 q1342) rfl rfl rfl hd_of ⟨Nat.le_of_ble_eq_true rfl, Nat.le_of_ble_eq_true rfl⟩) (m_preV hK hP) rfl rfl hl.1 rfl (lv_room (Nat.le_of_ble_eq_true rfl)) dX3_doubtful_58 ⟨Nat.le_of_ble_eq_true rfl, Nat.le_of_ble_eq_true rfl⟩) ?_
          refine lv_iadd hx hb dX3_doubtful_61 ?_
          obtain ⟨g7, h⟩ := pg_some h
          refine va_iald hx hb hK hP 1 0 rfl rfl g7 dX3_doubtful_62 ?_
          refine lv_aload_n hx hb dX3_doubtful_63 rfl (lv_at hl 3 rfl) ?_
          refine lv_iload hx hb dX3_doubtful_64 (lv_at hl 0 rfl) ?_
          refine lv_iconst (v := 2) hx hb dX3_doubtful_66 (by decide) ?_
          obtain ⟨r9, e8, h⟩ := pb_some h
          refine m_callR (W.runV (As := [.int y4, .int (2 : Int32)]) (rest := [.int (sA ((276 : Int32) + r6).toNatClampNeg)]) ⟨hx, hb, hml, hown, hts⟩ (met_of e8) (cwV 2 hts (lw_V q1339 q1341 qs27 q77 q1342) rfl rfl rfl hd_of ⟨Nat.le_of_ble_eq_true rfl, Nat.le_of_ble_eq_true rfl⟩) (m_preV hK hP) rfl rfl hl.1 rfl (lv_room (Nat.le_of_ble_eq_true rfl)) dX3_doubtful_67 ⟨Nat.le_of_ble_eq_true rfl, Nat.le_of_ble_eq_true rfl⟩) ?_
          obtain ⟨r11, e10, h⟩ := pb_some h
          refine m_callR (W.runS (As := [.int (sA ((276 : Int32) + r6).toNatClampNeg), .int r9]) (rest := []) ⟨hx, hb, hml, hown, hts⟩ (met_far e10) (va_cwS 2 hts (lw_S q1351 q1352 q77 q1353) rfl rfl rfl hd_far ⟨Nat.le_of_ble_eq_true rfl, Nat.le_of_ble_eq_true rfl⟩) m_preS rfl rfl hl.1 rfl (lv_room (Nat.le_of_ble_eq_true rfl)) dX3_doubtful_70 ⟨Nat.le_of_ble_eq_true rfl, Nat.le_of_ble_eq_true rfl⟩) ?_
          cases h
          exact K
        · have h := pi_f c4 h
          refine lv_iconst (v := -1) hx hb dX3_doubtful_43 (by decide) ?_
          refine lv_goto (tgt := 73) hx hb dX3_doubtful_44 (by decide) ?_
          cases h
          exact K
set_option maxHeartbeats 4000000 in
set_option maxRecDepth 100000 in
theorem met_doubtful {l : Launch} {D : va_G} {dA : ClassId} {a : Nat → Nat} {sA past held text parted asShown told : Nat → Int32} {pasts runs typed spot from_ reason cause orders order : Int32} {nf : Nat} {x1 : Int32} {r : Int32}  (h : m_doubtful nf sA x1 = some r) : Met l yX3_doubtful (ws_ yX3_doubtful cX3_doubtful 6 (some .int)) ({ frames := 2, cells := 0, slots := 0, locals := 34 } : Room) (mPc [.ref (a 0), .int x1] D dA a sA past held text parted asShown told pasts runs typed spot from_ reason cause orders order) (QcRead r) 0 0 (fun _ => False) := by
  refine Met.ofW (cc := cX3_doubtful) (maxL := 6) (ret := (some .int)) (by decide) rfl ?_
  intro p e s m args below meth c s₁ B hml hv
  obtain ⟨rfl, hP, hK⟩ := hv
  have hx := B.exec
  have hb := B.bytes
  have hr := B.returns
  have hts := atoms_spec (ws := ws_ yX3_doubtful cX3_doubtful 6 (some .int)) B.pre
  have hts : ∀ w ∈ lw_all, w.before _ s = true := fun w h => hts w (List.mem_cons_of_mem _ h)
  have hown : s.vm.findClass RX3 = some m.cls := findClass_of_methodNamed B.named
  have hlocks := B.notSynchronized
  have hl := lv_entry ([.ref (a 0), .int x1]) (n := 6) (Nat.le_of_ble_eq_true rfl)
  rw [lg_entry_eq]
  generalize (lg_sl ([.ref (a 0), .int x1]) ++ List.replicate (6 - (lg_sl ([.ref (a 0), .int x1])).length) Slot.unset).toArray = ls at hl ⊢
  have hl : lv_has ls 6 [(0, .ref (a 0)), (1, .int x1)] := hl
  unfold m_doubtful at h
  refine lv_iload_n hx hb dX3_doubtful_0 rfl (lv_at hl 1 rfl) ?_
  refine lv_iconst (v := 0) hx hb dX3_doubtful_1 (by decide) ?_
  refine lv_iconst (v := 1) hx hb dX3_doubtful_2 (by decide) ?_
  obtain ⟨b2, e1, h⟩ := pb_some h
  refine m_callR (W.runS (As := [.int x1, .int (0 : Int32), .int (1 : Int32)]) (rest := []) ⟨hx, hb, hml, hown, hts⟩ (met_in e1) (va_cwS 3 hts (lw_S q1326 q1327 q77 q1328) rfl rfl rfl hd_in ⟨Nat.le_of_ble_eq_true rfl, Nat.le_of_ble_eq_true rfl⟩) m_preS rfl rfl hl.1 rfl (lv_room (Nat.le_of_ble_eq_true rfl)) dX3_doubtful_3 ⟨Nat.le_of_ble_eq_true rfl, Nat.le_of_ble_eq_true rfl⟩) ?_
  refine lv_if_ne (tgt := 12) hx hb dX3_doubtful_6 (by decide) (fun c3 => ?_) (fun c3 => ?_)
  · have h := pi_f c3 h
    refine lv_ldc hx hb hown (hts _ q1430) dX3_doubtful_12 ?_
    refine lv_istore_n (lv' := [(2, .int (-1000004 : Int32)), (0, .ref (a 0)), (1, .int x1)]) hx hb dX3_doubtful_14 rfl hl (by decide) rfl (fun ls hl => ?_)
    refine lv_iconst (v := -1) hx hb dX3_doubtful_15 (by decide) ?_
    refine lv_istore_n (lv' := [(3, .int (-1 : Int32)), (2, .int (-1000004 : Int32)), (0, .ref (a 0)), (1, .int x1)]) hx hb dX3_doubtful_16 rfl hl (by decide) rfl (fun ls hl => ?_)
    refine lv_iconst (v := 0) hx hb dX3_doubtful_17 (by decide) ?_
    refine lv_istore (lv' := [(4, .int (0 : Int32)), (3, .int (-1 : Int32)), (2, .int (-1000004 : Int32)), (0, .ref (a 0)), (1, .int x1)]) hx hb dX3_doubtful_18 hl (by decide) rfl (fun ls hl => ?_)
    obtain ⟨⟨o4, o5⟩, e501, h⟩ := pb_some h
    refine lp_doubtful_1 hx hb hml hown hts hK hP _ _ _ _ _ _ e501 ls (lv_sub hl [0, 1, 2, 3, 4] rfl) (fun ls hl => ?_)
    refine lv_iload_n hx hb dX3_doubtful_107 rfl (lv_at hl 1 rfl) ?_
    refine lv_if_lt (tgt := 115) hx hb dX3_doubtful_108 (by decide) (fun c6 => ?_) (fun c6 => ?_)
    · have h := pi_t c6 h
      refine lv_iload_n hx hb dX3_doubtful_115 rfl (lv_at hl 1 rfl) ?_
      refine lv_goto (tgt := 120) hx hb dX3_doubtful_116 (by decide) ?_
      cases h
      exact W.iret hx hb hr (fun t ht hW => ⟨rfl, ht⟩) (fun q hq => absurd hq List.not_mem_nil) dX3_doubtful_120
    · have h := pi_f c6 h
      refine lv_iload_n hx hb dX3_doubtful_111 rfl (lv_at hl 3 rfl) ?_
      refine lv_if_ne (tgt := 119) hx hb dX3_doubtful_112 (by decide) (fun c7 => ?_) (fun c7 => ?_)
      · have h := pi_f c7 h
        refine lv_iload_n hx hb dX3_doubtful_119 rfl (lv_at hl 0 rfl) ?_
        cases h
        exact W.iret hx hb hr (fun t ht hW => ⟨rfl, ht⟩) (fun q hq => absurd hq List.not_mem_nil) dX3_doubtful_120
      · have h := pi_t c7 h
        refine lv_iload_n hx hb dX3_doubtful_115 rfl (lv_at hl 1 rfl) ?_
        refine lv_goto (tgt := 120) hx hb dX3_doubtful_116 (by decide) ?_
        cases h
        exact W.iret hx hb hr (fun t ht hW => ⟨rfl, ht⟩) (fun q hq => absurd hq List.not_mem_nil) dX3_doubtful_120
  · have h := pi_t c3 h
    refine lv_ldc hx hb hown (hts _ q1329) dX3_doubtful_9 ?_
    cases h
    exact W.iret hx hb hr (fun t ht hW => ⟨rfl, ht⟩) (fun q hq => absurd hq List.not_mem_nil) dX3_doubtful_11
theorem hd_corrections : yX3_corrections.cls = RX3 ∧ yX3_corrections.cls ≠ "java/lang/invoke/MethodHandle" ∧ yX3_corrections.cls ≠ "java/lang/invoke/VarHandle" ∧ (parseMethodDescriptor yX3_corrections.desc).map (fun d => d.parameters.length) = some 0 := by decide +kernel
set_option maxHeartbeats 4000000 in
set_option maxRecDepth 100000 in
theorem lp_corrections_1 {p : Program} {l : Launch} {e : Env} {s : State} {m : MethodId} {args : Array Value} {below : List Frame} {meth : Method} {c : Code} {D : va_G} {dA : ClassId} {a : Nat → Nat} {Q : State → Prop} (hx : p.tables.exec = Jvm.exec) (hb : c.code = cX3_corrections) (hml : c.maxLocals = 3) (hown : s.vm.findClass RX3 = some m.cls) (hts : ∀ w ∈ lw_all, w.before args s = true) {H : Heap} {locs : List Loc} {sA : Nat → Int32} {past : Nat → Int32} {held : Nat → Int32} {text : Nat → Int32} {parted : Nat → Int32} {asShown : Nat → Int32} {told : Nat → Int32} {pasts : Int32} {runs : Int32} {typed : Int32} {spot : Int32} {from_ : Int32} {reason : Int32} {cause : Int32} {orders : Int32} {order : Int32} (hK : va_K D gCl [(dA, .int)] s) (hP : va_P D gCl (mW dA a sA past held text parted asShown told pasts runs typed spot from_ reason cause orders order) H)  (nf : Nat) : ∀ (n : Nat) (y2 : Int32) (y1 : Int32) (z : Int32), m_corrections_L1 nf sA n y2 y1 = some z → ∀ ls : Array Slot, lv_has ls 3 [(2, .int y2), (1, .int y1), (0, .ref (a 0))] → (∀ ls : Array Slot, lv_has ls 3 [(1, .int z), (0, .ref (a 0))] → W p l e ({ frames := 1, cells := 0, slots := 0, locals := 12 } : Room) s m args below meth c H locs 0 0 Q (F0 m 37 ls [])) → W p l e ({ frames := 1, cells := 0, slots := 0, locals := 12 } : Room) s m args below meth c H locs 0 0 Q (F0 m 4 ls []) := by
  intro n
  induction n with
  | zero => intro y2 y1 z h ls hl K; exact absurd h (by simp [m_corrections_L1])
  | succ n ih =>
    intro y2 y1 z h ls hl K
    unfold m_corrections_L1 at h
    refine lv_iload_n hx hb dX3_corrections_4 rfl (lv_at hl 0 rfl) ?_
    refine lv_bipush (v := 16) hx hb dX3_corrections_5 (by decide) ?_
    refine lv_icmp_ge (tgt := 37) hx hb dX3_corrections_7 (by decide) (fun c1 => ?_) (fun c1 => ?_)
    · have h := pi_t c1 h
      cases h
      exact K ls (lv_sub hl [1, 2] rfl)
    · have h := pi_f c1 h
      refine lv_iload_n hx hb dX3_corrections_10 rfl (lv_at hl 1 rfl) ?_
      refine lv_aload_n hx hb dX3_corrections_11 rfl (lv_at hl 2 rfl) ?_
      refine va_get (ci := 3) (v := .ref (a 1)) (C := RX3) (T := TX3) (N := 16) hx hb hts in_X3 hown hK hP 0 rfl rfl 0 (by decide) (hts _ q1273) (fun _ h9 => h9) rfl dX3_corrections_12 ?_
      refine lv_sipush (v := 260) hx hb dX3_corrections_15 (by decide) ?_
      refine lv_iload_n hx hb dX3_corrections_18 rfl (lv_at hl 0 rfl) ?_
      refine lv_iadd hx hb dX3_corrections_19 ?_
      obtain ⟨g2, h⟩ := pg_some h
      refine va_iald hx hb hK hP 1 0 rfl rfl g2 dX3_corrections_20 ?_
      obtain ⟨j4, hj, h⟩ := pb_some h
      refine W.cut (g' := F0 m 29 ls [.int (bi j4), .int y1]) ?_ (fun K => ?_)
      · refine lv_iadd hx hb dX3_corrections_29 ?_
        refine lv_istore_n (lv' := [(1, .int (y1 + (bi j4))), (2, .int y2), (0, .ref (a 0))]) hx hb dX3_corrections_30 rfl hl (by decide) rfl (fun ls hl => ?_)
        refine lv_iinc (v := (y2 + (1 : Int32))) (lv' := [(2, .int (y2 + (1 : Int32))), (1, .int (y1 + (bi j4))), (0, .ref (a 0))]) hx hb dX3_corrections_31 hl (k := 1) rfl (by rfl) (by decide) rfl (fun ls hl => ?_)
        refine lv_goto (tgt := 4) hx hb dX3_corrections_34 (by decide) ?_
        exact ih _ _ _ h ls (lv_sub hl [0, 1, 2] rfl) K
      · have h := hj
        refine lv_if_lt (tgt := 28) hx hb dX3_corrections_21 (by decide) (fun c3 => ?_) (fun c3 => ?_)
        · have h := pi_t c3 h
          refine lv_iconst (v := 0) hx hb dX3_corrections_28 (by decide) ?_
          cases h
          exact K
        · have h := pi_f c3 h
          refine lv_iconst (v := 1) hx hb dX3_corrections_24 (by decide) ?_
          refine lv_goto (tgt := 29) hx hb dX3_corrections_25 (by decide) ?_
          cases h
          exact K
set_option maxHeartbeats 4000000 in
set_option maxRecDepth 100000 in
theorem met_corrections {l : Launch} {D : va_G} {dA : ClassId} {a : Nat → Nat} {sA past held text parted asShown told : Nat → Int32} {pasts runs typed spot from_ reason cause orders order : Int32} {nf : Nat} {r : Int32}  (h : m_corrections nf sA  = some r) : Met l yX3_corrections (ws_ yX3_corrections cX3_corrections 3 (some .int)) ({ frames := 1, cells := 0, slots := 0, locals := 12 } : Room) (mPc [.ref (a 0)] D dA a sA past held text parted asShown told pasts runs typed spot from_ reason cause orders order) (QcRead r) 0 0 (fun _ => False) := by
  refine Met.ofW (cc := cX3_corrections) (maxL := 3) (ret := (some .int)) (by decide) rfl ?_
  intro p e s m args below meth c s₁ B hml hv
  obtain ⟨rfl, hP, hK⟩ := hv
  have hx := B.exec
  have hb := B.bytes
  have hr := B.returns
  have hts := atoms_spec (ws := ws_ yX3_corrections cX3_corrections 3 (some .int)) B.pre
  have hts : ∀ w ∈ lw_all, w.before _ s = true := fun w h => hts w (List.mem_cons_of_mem _ h)
  have hown : s.vm.findClass RX3 = some m.cls := findClass_of_methodNamed B.named
  have hlocks := B.notSynchronized
  have hl := lv_entry ([.ref (a 0)]) (n := 3) (Nat.le_of_ble_eq_true rfl)
  rw [lg_entry_eq]
  generalize (lg_sl ([.ref (a 0)]) ++ List.replicate (3 - (lg_sl ([.ref (a 0)])).length) Slot.unset).toArray = ls at hl ⊢
  have hl : lv_has ls 3 [(0, .ref (a 0))] := hl
  unfold m_corrections at h
  refine lv_iconst (v := 0) hx hb dX3_corrections_0 (by decide) ?_
  refine lv_istore_n (lv' := [(1, .int (0 : Int32)), (0, .ref (a 0))]) hx hb dX3_corrections_1 rfl hl (by decide) rfl (fun ls hl => ?_)
  refine lv_iconst (v := 0) hx hb dX3_corrections_2 (by decide) ?_
  refine lv_istore_n (lv' := [(2, .int (0 : Int32)), (1, .int (0 : Int32)), (0, .ref (a 0))]) hx hb dX3_corrections_3 rfl hl (by decide) rfl (fun ls hl => ?_)
  obtain ⟨o1, e501, h⟩ := pb_some h
  refine lp_corrections_1 hx hb hml hown hts hK hP _ _ _ _ _ e501 ls (lv_sub hl [0, 1, 2] rfl) (fun ls hl => ?_)
  refine lv_iload_n hx hb dX3_corrections_37 rfl (lv_at hl 0 rfl) ?_
  cases h
  exact W.iret hx hb hr (fun t ht hW => ⟨rfl, ht⟩) (fun q hq => absurd hq List.not_mem_nil) dX3_corrections_38
