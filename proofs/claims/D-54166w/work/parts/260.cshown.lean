/-! what a term is shown as (printed by wip/gen/gen_comp.py) -/
def m_X1_shown : Nat → (Nat → Int32) → Int32 → Option Int32
  | 0, _, _ => none
  | n + 1, cor, x1 =>
    pg (¬ (x1 < 0 ∨ 16 ≤ x1.toNatClampNeg)) <|
    if (cor x1.toNatClampNeg) = (-1 : Int32) then
      some x1
    else
      pb (m_X1_shown n cor (cor x1.toNatClampNeg)) <| fun r4 =>
      some r4
def m_X1_chain : Nat → (Nat → Int32) → Int32 → Option Int32
  | 0, _, _ => none
  | n + 1, cor, x1 =>
    pg (¬ (x1 < 0 ∨ 16 ≤ x1.toNatClampNeg)) <|
    if (cor x1.toNatClampNeg) = (-1 : Int32) then
      some (0 : Int32)
    else
      pb (m_X1_chain n cor (cor x1.toNatClampNeg)) <| fun r4 =>
      some ((1 : Int32) + r4)
def m_X1_shownAs_L1 (nf : Nat) (cor : Nat → Int32) (x1 : Int32) : Nat → Int32 → Int32 → Option Int32
  | 0, _, _ => none
  | n + 1, y3, y2 =>
    if (16 : Int32) ≤ y3 then
      some y2
    else
      pb (m_X1_shown 17 cor y3) <| fun r3 =>
      pb (
        if r3 = x1 then
          some ((1 : Int32) <<< (y3 &&& 31))
        else
          some (0 : Int32)) <| fun j5 =>
      m_X1_shownAs_L1 nf cor x1 n (y3 + (1 : Int32)) (y2 ||| j5)
def m_X1_shownAs (nf : Nat) (cor : Nat → Int32)  (x1 : Int32) : Option Int32 :=
  pb (m_X1_shownAs_L1 nf cor x1 nf (0 : Int32) (0 : Int32)) <| fun o1 =>
  some o1
def m_X0_termAt (vs : List TV) (cor : Nat → Int32)  (x1 : Int32) (x2 : Int32) (x3 : Int32) : Option Int32 :=
  pb (m_X1_isTurn vs x1) <| fun b2 =>
  if (bi b2) = 0 then
    some (-1000001 : Int32)
  else
    if x2 < 0 then
      some (-1000001 : Int32)
    else
      pb (m_X0_isBetween x3.toInt64 (0 : Int64) (1 : Int64)) <| fun b6 =>
      if (bi b6) = 0 then
        some (-1000001 : Int32)
      else
        pb (pAt vs x1) <| fun v8 =>
        if x2 < (nI (vT v8).length) then
          pb (pAt (vT v8) x2) <| fun b11 =>
          if x3 = 0 then
            some b11
          else
            pb (m_X1_shown 17 cor b11) <| fun r15 =>
            some r15
        else
          some (-1000004 : Int32)
theorem hd_X1_shown : yX1_shown.cls ≠ "java/lang/invoke/MethodHandle" ∧ yX1_shown.cls ≠ "java/lang/invoke/VarHandle" ∧ (parseMethodDescriptor yX1_shown.desc).map (fun d => d.parameters.length) = some 1 := by decide +kernel
set_option maxHeartbeats 4000000 in
set_option maxRecDepth 100000 in
theorem met_X1_shown {l : Launch} {k : Cx} {a : LA} {T : List TT} {vs : List TV} {pit cor : Nat → Int32} {tol : Int32} (hvs : T.map Prod.snd = vs) (hO : leOk k a T) : ∀ {n : Nat} {x1 : Int32} {r : Int32}, m_X1_shown n cor x1 = some r → Met l yX1_shown (ws_ yX1_shown cX1_shown 2 (some .int)) ({ frames := n + 1, cells := 0, slots := 0, locals := 12 + n * 21 } : Room) (gPc [.ref (lL a), .int x1] k (leW k a T pit cor tol)) (QcV (some (.int r))) 0 0 (fun _ => False) := by
  intro n
  induction n with
  | zero => intro x1 r h; exact absurd h (by simp [m_X1_shown])
  | succ n ih =>
  intro x1 r h
  refine Met.ofW (cc := cX1_shown) (maxL := 2) (ret := (some .int)) (by decide) rfl ?_
  intro p e s m args below meth c s₁ B hml hv
  obtain ⟨rfl, hP, hG⟩ := hv
  have hx := B.exec
  have hb := B.bytes
  have hr := B.returns
  have hts := atoms_spec (ws := ws_ yX1_shown cX1_shown 2 (some .int)) B.pre
  have hts : ∀ w ∈ lw_all, w.before _ s = true := fun w h => hts w (List.mem_cons_of_mem _ h)
  have hown : s.vm.findClass RX1 = some m.cls := findClass_of_methodNamed B.named
  have hlocks := B.notSynchronized
  have hSa : va_S (Ab k) s.heap s.heap [] := va_S.rf
  have hl := lv_entry ([.ref (lL a), .int x1]) (n := 2) (Nat.le_of_ble_eq_true rfl)
  rw [lg_entry_eq]
  generalize (lg_sl ([.ref (lL a), .int x1]) ++ List.replicate (2 - (lg_sl ([.ref (lL a), .int x1])).length) Slot.unset).toArray = ls at hl ⊢
  have hl : lv_has ls 2 [(0, .ref (lL a)), (1, .int x1)] := hl
  unfold m_X1_shown at h
  refine lv_aload_n hx hb dX1_shown_0 rfl (lv_at hl 0 rfl) ?_
  refine va_get (ci := 1) (v := .ref (lK a)) (C := RX1) (T := TX1) (N := 4) hx hb hts in_X1 hown hG.K (le_o hP) 0 rfl rfl 2 (by decide) (hts _ q155) (fun _ h9 => h9) rfl dX1_shown_1 ?_
  refine lv_iload_n hx hb dX1_shown_4 rfl (lv_at hl 1 rfl) ?_
  obtain ⟨g1, h⟩ := pg_some h
  refine va_iald hx hb hG.K (le_c hP) 0 0 rfl rfl g1 dX1_shown_5 ?_
  refine lv_iconst (v := -1) hx hb dX1_shown_6 (by decide) ?_
  refine lv_icmp_ne (tgt := 14) hx hb dX1_shown_7 (by decide) (fun c2 => ?_) (fun c2 => ?_)
  · have h := pi_f c2 h
    refine lv_aload_n hx hb dX1_shown_14 rfl (lv_at hl 0 rfl) ?_
    refine lv_aload_n hx hb dX1_shown_15 rfl (lv_at hl 0 rfl) ?_
    refine va_get (ci := 1) (v := .ref (lK a)) (C := RX1) (T := TX1) (N := 4) hx hb hts in_X1 hown hG.K (le_o hP) 0 rfl rfl 2 (by decide) (hts _ q155) (fun _ h9 => h9) rfl dX1_shown_16 ?_
    refine lv_iload_n hx hb dX1_shown_19 rfl (lv_at hl 1 rfl) ?_
    refine va_iald hx hb hG.K (le_c hP) 0 0 rfl rfl g1 dX1_shown_20 ?_
    obtain ⟨r4, e3, h⟩ := pb_some h
    refine c_call (va_runV (As := [.int (cor x1.toNatClampNeg)]) (rest := []) ⟨hx, hb, hml, hown, hts⟩ (ih e3) (cwV 1 hts (lw_V q630 q631 q632 q67 q633) rfl rfl rfl ⟨rfl, hd_X1_shown⟩ ⟨Nat.le_refl _, by show 8 + (2 + 11) + (12 + n * 21) ≤ 12 + (n + 1) * 21; omega⟩) (g_preV hG hSa hP (va_recv hG.K (le_o hP) (ci := 1) (q0 := 0) rfl rfl)) rfl rfl hl.1 rfl (lv_room (Nat.le_of_ble_eq_true rfl)) dX1_shown_21 ⟨Nat.le_of_ble_eq_true rfl, Nat.le_of_ble_eq_true rfl⟩) ?_
    cases h
    exact W.iret hx hb hr (fun t ht hW => c_ret ht) (fun q hq => absurd hq List.not_mem_nil) dX1_shown_24
  · have h := pi_t c2 h
    refine lv_iload_n hx hb dX1_shown_10 rfl (lv_at hl 1 rfl) ?_
    refine lv_goto (tgt := 24) hx hb dX1_shown_11 (by decide) ?_
    cases h
    exact W.iret hx hb hr (fun t ht hW => c_ret ht) (fun q hq => absurd hq List.not_mem_nil) dX1_shown_24
theorem hd_X1_chain : yX1_chain.cls ≠ "java/lang/invoke/MethodHandle" ∧ yX1_chain.cls ≠ "java/lang/invoke/VarHandle" ∧ (parseMethodDescriptor yX1_chain.desc).map (fun d => d.parameters.length) = some 1 := by decide +kernel
set_option maxHeartbeats 4000000 in
set_option maxRecDepth 100000 in
theorem met_X1_chain {l : Launch} {k : Cx} {a : LA} {T : List TT} {vs : List TV} {pit cor : Nat → Int32} {tol : Int32} (hvs : T.map Prod.snd = vs) (hO : leOk k a T) : ∀ {n : Nat} {x1 : Int32} {r : Int32}, m_X1_chain n cor x1 = some r → Met l yX1_chain (ws_ yX1_chain cX1_chain 2 (some .int)) ({ frames := n + 1, cells := 0, slots := 0, locals := 12 + n * 21 } : Room) (gPc [.ref (lL a), .int x1] k (leW k a T pit cor tol)) (QcV (some (.int r))) 0 0 (fun _ => False) := by
  intro n
  induction n with
  | zero => intro x1 r h; exact absurd h (by simp [m_X1_chain])
  | succ n ih =>
  intro x1 r h
  refine Met.ofW (cc := cX1_chain) (maxL := 2) (ret := (some .int)) (by decide) rfl ?_
  intro p e s m args below meth c s₁ B hml hv
  obtain ⟨rfl, hP, hG⟩ := hv
  have hx := B.exec
  have hb := B.bytes
  have hr := B.returns
  have hts := atoms_spec (ws := ws_ yX1_chain cX1_chain 2 (some .int)) B.pre
  have hts : ∀ w ∈ lw_all, w.before _ s = true := fun w h => hts w (List.mem_cons_of_mem _ h)
  have hown : s.vm.findClass RX1 = some m.cls := findClass_of_methodNamed B.named
  have hlocks := B.notSynchronized
  have hSa : va_S (Ab k) s.heap s.heap [] := va_S.rf
  have hl := lv_entry ([.ref (lL a), .int x1]) (n := 2) (Nat.le_of_ble_eq_true rfl)
  rw [lg_entry_eq]
  generalize (lg_sl ([.ref (lL a), .int x1]) ++ List.replicate (2 - (lg_sl ([.ref (lL a), .int x1])).length) Slot.unset).toArray = ls at hl ⊢
  have hl : lv_has ls 2 [(0, .ref (lL a)), (1, .int x1)] := hl
  unfold m_X1_chain at h
  refine lv_aload_n hx hb dX1_chain_0 rfl (lv_at hl 0 rfl) ?_
  refine va_get (ci := 1) (v := .ref (lK a)) (C := RX1) (T := TX1) (N := 4) hx hb hts in_X1 hown hG.K (le_o hP) 0 rfl rfl 2 (by decide) (hts _ q155) (fun _ h9 => h9) rfl dX1_chain_1 ?_
  refine lv_iload_n hx hb dX1_chain_4 rfl (lv_at hl 1 rfl) ?_
  obtain ⟨g1, h⟩ := pg_some h
  refine va_iald hx hb hG.K (le_c hP) 0 0 rfl rfl g1 dX1_chain_5 ?_
  refine lv_iconst (v := -1) hx hb dX1_chain_6 (by decide) ?_
  refine lv_icmp_ne (tgt := 14) hx hb dX1_chain_7 (by decide) (fun c2 => ?_) (fun c2 => ?_)
  · have h := pi_f c2 h
    refine lv_iconst (v := 1) hx hb dX1_chain_14 (by decide) ?_
    refine lv_aload_n hx hb dX1_chain_15 rfl (lv_at hl 0 rfl) ?_
    refine lv_aload_n hx hb dX1_chain_16 rfl (lv_at hl 0 rfl) ?_
    refine va_get (ci := 1) (v := .ref (lK a)) (C := RX1) (T := TX1) (N := 4) hx hb hts in_X1 hown hG.K (le_o hP) 0 rfl rfl 2 (by decide) (hts _ q155) (fun _ h9 => h9) rfl dX1_chain_17 ?_
    refine lv_iload_n hx hb dX1_chain_20 rfl (lv_at hl 1 rfl) ?_
    refine va_iald hx hb hG.K (le_c hP) 0 0 rfl rfl g1 dX1_chain_21 ?_
    obtain ⟨r4, e3, h⟩ := pb_some h
    refine c_call (va_runV (As := [.int (cor x1.toNatClampNeg)]) (rest := [.int (1 : Int32)]) ⟨hx, hb, hml, hown, hts⟩ (ih e3) (cwV 1 hts (lw_V q843 q840 q841 q67 q842) rfl rfl rfl ⟨rfl, hd_X1_chain⟩ ⟨Nat.le_refl _, by show 8 + (2 + 11) + (12 + n * 21) ≤ 12 + (n + 1) * 21; omega⟩) (g_preV hG hSa hP (va_recv hG.K (le_o hP) (ci := 1) (q0 := 0) rfl rfl)) rfl rfl hl.1 rfl (lv_room (Nat.le_of_ble_eq_true rfl)) dX1_chain_22 ⟨Nat.le_of_ble_eq_true rfl, Nat.le_of_ble_eq_true rfl⟩) ?_
    refine lv_iadd hx hb dX1_chain_25 ?_
    cases h
    exact W.iret hx hb hr (fun t ht hW => c_ret ht) (fun q hq => absurd hq List.not_mem_nil) dX1_chain_26
  · have h := pi_t c2 h
    refine lv_iconst (v := 0) hx hb dX1_chain_10 (by decide) ?_
    refine lv_goto (tgt := 26) hx hb dX1_chain_11 (by decide) ?_
    cases h
    exact W.iret hx hb hr (fun t ht hW => c_ret ht) (fun q hq => absurd hq List.not_mem_nil) dX1_chain_26
theorem hd_X1_shownAs : yX1_shownAs.cls ≠ "java/lang/invoke/MethodHandle" ∧ yX1_shownAs.cls ≠ "java/lang/invoke/VarHandle" ∧ (parseMethodDescriptor yX1_shownAs.desc).map (fun d => d.parameters.length) = some 1 := by decide +kernel
set_option maxHeartbeats 4000000 in
set_option maxRecDepth 100000 in
theorem lp_X1_shownAs_1 {p : Program} {l : Launch} {e : Env} {s : State} {m : MethodId} {args : Array Value} {below : List Frame} {meth : Method} {c : Code} {Q : State → Prop} {H : Heap} {locs : List Loc} {k : Cx} {a : LA} {T : List TT} {vs : List TV} {pit cor : Nat → Int32} {tol : Int32}  (hx : p.tables.exec = Jvm.exec) (hb : c.code = cX1_shownAs) (hml : c.maxLocals = 4) (hown : s.vm.findClass RX1 = some m.cls) (hts : ∀ w ∈ lw_all, w.before args s = true) (hG : GU k s) (hSa : va_S (Ab k) s.heap H locs) (hP : va_P (kD k) gCl (leW k a T pit cor tol) H) (hvs : T.map Prod.snd = vs) (hO : leOk k a T) {x1 : Int32} (nf : Nat) : ∀ (n : Nat) (y3 : Int32) (y2 : Int32) (z : Int32), m_X1_shownAs_L1 nf cor x1 n y3 y2 = some z → ∀ ls : Array Slot, lv_has ls 4 [(3, .int y3), (2, .int y2), (0, .ref (lL a)), (1, .int x1)] → (∀ ls : Array Slot, lv_has ls 4 [(2, .int z), (0, .ref (lL a)), (1, .int x1)] → W p l e ({ frames := 19, cells := 0, slots := 0, locals := 390 } : Room) s m args below meth c H locs 0 0 Q (F0 m 35 ls [])) → W p l e ({ frames := 19, cells := 0, slots := 0, locals := 390 } : Room) s m args below meth c H locs 0 0 Q (F0 m 4 ls []) := by
  intro n
  induction n with
  | zero => intro y3 y2 z h ls hl K; exact absurd h (by simp [m_X1_shownAs_L1])
  | succ n ih =>
    intro y3 y2 z h ls hl K
    unfold m_X1_shownAs_L1 at h
    refine lv_iload_n hx hb dX1_shownAs_4 rfl (lv_at hl 0 rfl) ?_
    refine lv_bipush (v := 16) hx hb dX1_shownAs_5 (by decide) ?_
    refine lv_icmp_ge (tgt := 35) hx hb dX1_shownAs_7 (by decide) (fun c1 => ?_) (fun c1 => ?_)
    · have h := pi_t c1 h
      cases h
      exact K ls (lv_sub hl [1, 2, 3] rfl)
    · have h := pi_f c1 h
      refine lv_iload_n hx hb dX1_shownAs_10 rfl (lv_at hl 1 rfl) ?_
      refine lv_aload_n hx hb dX1_shownAs_11 rfl (lv_at hl 2 rfl) ?_
      refine lv_iload_n hx hb dX1_shownAs_12 rfl (lv_at hl 0 rfl) ?_
      obtain ⟨r3, e2, h⟩ := pb_some h
      refine c_call (va_runV (As := [.int y3]) (rest := [.int y2]) ⟨hx, hb, hml, hown, hts⟩ (met_X1_shown hvs hO  e2) (cwV 1 hts (lw_V q630 q631 q632 q67 q633) rfl rfl rfl ⟨rfl, hd_X1_shown⟩ ⟨Nat.le_of_ble_eq_true rfl, Nat.le_of_ble_eq_true rfl⟩) (g_preV hG hSa hP (va_recv hG.K (le_o hP) (ci := 1) (q0 := 0) rfl rfl)) rfl rfl hl.1 rfl (lv_room (Nat.le_of_ble_eq_true rfl)) dX1_shownAs_13 ⟨Nat.le_of_ble_eq_true rfl, Nat.le_of_ble_eq_true rfl⟩) ?_
      refine lv_iload_n hx hb dX1_shownAs_16 rfl (lv_at hl 3 rfl) ?_
      obtain ⟨j5, hj, h⟩ := pb_some h
      refine W.cut (g' := F0 m 27 ls [.int j5, .int y2]) ?_ (fun K => ?_)
      · refine lv_ior hx hb dX1_shownAs_27 ?_
        refine lv_istore_n (lv' := [(2, .int (y2 ||| j5)), (3, .int y3), (0, .ref (lL a)), (1, .int x1)]) hx hb dX1_shownAs_28 rfl hl (by decide) rfl (fun ls hl => ?_)
        refine lv_iinc (v := (y3 + (1 : Int32))) (lv' := [(3, .int (y3 + (1 : Int32))), (2, .int (y2 ||| j5)), (0, .ref (lL a)), (1, .int x1)]) hx hb dX1_shownAs_29 hl (k := 1) rfl (by rfl) (by decide) rfl (fun ls hl => ?_)
        refine lv_goto (tgt := 4) hx hb dX1_shownAs_32 (by decide) ?_
        exact ih _ _ _ h ls (lv_sub hl [0, 1, 2, 3] rfl) K
      · have h := hj
        refine lv_icmp_ne (tgt := 26) hx hb dX1_shownAs_17 (by decide) (fun c4 => ?_) (fun c4 => ?_)
        · have h := pi_f c4 h
          refine lv_iconst (v := 0) hx hb dX1_shownAs_26 (by decide) ?_
          cases h
          exact K
        · have h := pi_t c4 h
          refine lv_iconst (v := 1) hx hb dX1_shownAs_20 (by decide) ?_
          refine lv_iload_n hx hb dX1_shownAs_21 rfl (lv_at hl 0 rfl) ?_
          refine lv_ishl hx hb dX1_shownAs_22 ?_
          refine lv_goto (tgt := 27) hx hb dX1_shownAs_23 (by decide) ?_
          cases h
          exact K
set_option maxHeartbeats 4000000 in
set_option maxRecDepth 100000 in
theorem met_X1_shownAs {l : Launch} {k : Cx} {a : LA} {T : List TT} {vs : List TV} {pit cor : Nat → Int32} {tol : Int32} {nf : Nat} {x1 : Int32} {r : Int32} (hvs : T.map Prod.snd = vs) (hO : leOk k a T) (h : m_X1_shownAs nf cor  x1 = some r) : Met l yX1_shownAs (ws_ yX1_shownAs cX1_shownAs 4 (some .int)) ({ frames := 19, cells := 0, slots := 0, locals := 390 } : Room) (gPc [.ref (lL a), .int x1] k (leW k a T pit cor tol)) (QcV (some (.int r))) 0 0 (fun _ => False) := by
  refine Met.ofW (cc := cX1_shownAs) (maxL := 4) (ret := (some .int)) (by decide) rfl ?_
  intro p e s m args below meth c s₁ B hml hv
  obtain ⟨rfl, hP, hG⟩ := hv
  have hx := B.exec
  have hb := B.bytes
  have hr := B.returns
  have hts := atoms_spec (ws := ws_ yX1_shownAs cX1_shownAs 4 (some .int)) B.pre
  have hts : ∀ w ∈ lw_all, w.before _ s = true := fun w h => hts w (List.mem_cons_of_mem _ h)
  have hown : s.vm.findClass RX1 = some m.cls := findClass_of_methodNamed B.named
  have hlocks := B.notSynchronized
  have hSa : va_S (Ab k) s.heap s.heap [] := va_S.rf
  have hl := lv_entry ([.ref (lL a), .int x1]) (n := 4) (Nat.le_of_ble_eq_true rfl)
  rw [lg_entry_eq]
  generalize (lg_sl ([.ref (lL a), .int x1]) ++ List.replicate (4 - (lg_sl ([.ref (lL a), .int x1])).length) Slot.unset).toArray = ls at hl ⊢
  have hl : lv_has ls 4 [(0, .ref (lL a)), (1, .int x1)] := hl
  unfold m_X1_shownAs at h
  refine lv_iconst (v := 0) hx hb dX1_shownAs_0 (by decide) ?_
  refine lv_istore_n (lv' := [(2, .int (0 : Int32)), (0, .ref (lL a)), (1, .int x1)]) hx hb dX1_shownAs_1 rfl hl (by decide) rfl (fun ls hl => ?_)
  refine lv_iconst (v := 0) hx hb dX1_shownAs_2 (by decide) ?_
  refine lv_istore_n (lv' := [(3, .int (0 : Int32)), (2, .int (0 : Int32)), (0, .ref (lL a)), (1, .int x1)]) hx hb dX1_shownAs_3 rfl hl (by decide) rfl (fun ls hl => ?_)
  obtain ⟨o1, e501, h⟩ := pb_some h
  refine lp_X1_shownAs_1 hx hb hml hown hts hG hSa hP hvs hO _ _ _ _ _ e501 ls (lv_sub hl [0, 1, 2, 3] rfl) (fun ls hl => ?_)
  refine lv_iload_n hx hb dX1_shownAs_35 rfl (lv_at hl 0 rfl) ?_
  cases h
  exact W.iret hx hb hr (fun t ht hW => c_ret ht) (fun q hq => absurd hq List.not_mem_nil) dX1_shownAs_36
theorem hd_X0_termAt : yX0_termAt.cls ≠ "java/lang/invoke/MethodHandle" ∧ yX0_termAt.cls ≠ "java/lang/invoke/VarHandle" ∧ (parseMethodDescriptor yX0_termAt.desc).map (fun d => d.parameters.length) = some 3 := by decide +kernel
set_option maxHeartbeats 4000000 in
set_option maxRecDepth 100000 in
theorem met_X0_termAt {l : Launch} {k : Cx} {a : LA} {T : List TT} {vs : List TV} {pit cor : Nat → Int32} {tol : Int32} {sy hi tx : Nat} {x1 : Int32} {x2 : Int32} {x3 : Int32} {r : Int32} (hvs : T.map Prod.snd = vs) (hO : leOk k a T) (h : m_X0_termAt vs cor  x1 x2 x3 = some r) : Met l yX0_termAt (ws_ yX0_termAt cX0_termAt 6 (some .int)) ({ frames := 19, cells := 0, slots := 0, locals := 390 } : Room) (gPc [.ref sy, .int x1, .int x2, .int x3] k (syO sy a hi tx :: leW k a T pit cor tol)) (QcV (some (.int r))) 0 0 (fun _ => False) := by
  refine Met.ofW (cc := cX0_termAt) (maxL := 6) (ret := (some .int)) (by decide) rfl ?_
  intro p e s m args below meth c s₁ B hml hv
  obtain ⟨rfl, hP, hG⟩ := hv
  have hx := B.exec
  have hb := B.bytes
  have hr := B.returns
  have hts := atoms_spec (ws := ws_ yX0_termAt cX0_termAt 6 (some .int)) B.pre
  have hts : ∀ w ∈ lw_all, w.before _ s = true := fun w h => hts w (List.mem_cons_of_mem _ h)
  have hown : s.vm.findClass RX0 = some m.cls := findClass_of_methodNamed B.named
  have hlocks := B.notSynchronized
  have hSa : va_S (Ab k) s.heap s.heap [] := va_S.rf
  have hl := lv_entry ([.ref sy, .int x1, .int x2, .int x3]) (n := 6) (Nat.le_of_ble_eq_true rfl)
  rw [lg_entry_eq]
  generalize (lg_sl ([.ref sy, .int x1, .int x2, .int x3]) ++ List.replicate (6 - (lg_sl ([.ref sy, .int x1, .int x2, .int x3])).length) Slot.unset).toArray = ls at hl ⊢
  have hl : lv_has ls 6 [(0, .ref sy), (1, .int x1), (2, .int x2), (3, .int x3)] := hl
  unfold m_X0_termAt at h
  refine lv_aload_n hx hb dX0_termAt_0 rfl (lv_at hl 0 rfl) ?_
  refine va_get (ci := 0) (v := .ref (lL a)) (C := RX0) (T := TX0) (N := 3) hx hb hts in_X0 hown hG.K (sy_o hP) 0 rfl rfl 0 (by decide) (hts _ q220) (fun _ h9 => h9) rfl dX0_termAt_1 ?_
  refine lv_iload_n hx hb dX0_termAt_4 rfl (lv_at hl 1 rfl) ?_
  obtain ⟨b2, e1, h⟩ := pb_some h
  refine c_call (va_runV (As := [.int x1]) (rest := []) ⟨hx, hb, hml, hown, hts⟩ (met_X1_isTurn hvs hO  e1) (cwV 1 hts (lw_V q763 q547 q548 q67 q549) rfl rfl rfl ⟨rfl, hd_X1_isTurn⟩ ⟨Nat.le_of_ble_eq_true rfl, Nat.le_of_ble_eq_true rfl⟩) (g_preV hG hSa (sy_l hP) (va_recv hG.K (le_o (sy_l hP)) (ci := 1) (q0 := 0) rfl rfl)) rfl rfl hl.1 rfl (lv_room (Nat.le_of_ble_eq_true rfl)) dX0_termAt_5 ⟨Nat.le_of_ble_eq_true rfl, Nat.le_of_ble_eq_true rfl⟩) ?_
  refine lv_if_eq (tgt := 25) hx hb dX0_termAt_8 (by decide) (fun c3 => ?_) (fun c3 => ?_)
  · have h := pi_t c3 h
    refine lv_ldc hx hb hown (hts _ q758) dX0_termAt_25 ?_
    cases h
    exact W.iret hx hb hr (fun t ht hW => c_ret ht) (fun q hq => absurd hq List.not_mem_nil) dX0_termAt_27
  · have h := pi_f c3 h
    refine lv_iload_n hx hb dX0_termAt_11 rfl (lv_at hl 2 rfl) ?_
    refine lv_if_lt (tgt := 25) hx hb dX0_termAt_12 (by decide) (fun c4 => ?_) (fun c4 => ?_)
    · have h := pi_t c4 h
      refine lv_ldc hx hb hown (hts _ q758) dX0_termAt_25 ?_
      cases h
      exact W.iret hx hb hr (fun t ht hW => c_ret ht) (fun q hq => absurd hq List.not_mem_nil) dX0_termAt_27
    · have h := pi_f c4 h
      refine lv_iload_n hx hb dX0_termAt_15 rfl (lv_at hl 3 rfl) ?_
      refine lv_i2l hx hb dX0_termAt_16 rfl ?_
      refine lv_lconst (v := 0) hx hb dX0_termAt_17 (by decide) ?_
      refine lv_lconst (v := 1) hx hb dX0_termAt_18 (by decide) ?_
      obtain ⟨b6, e5, h⟩ := pb_some h
      refine c_call (va_runS (As := [.long x3.toInt64, .long (0 : Int64), .long (1 : Int64)]) (rest := []) ⟨hx, hb, hml, hown, hts⟩ (met_X0_isBetween e5) (va_cwS 3 hts (lw_S q454 q446 q66 q447) rfl rfl rfl hd_X0_isBetween ⟨Nat.le_of_ble_eq_true rfl, Nat.le_of_ble_eq_true rfl⟩) m_preS rfl rfl hl.1 rfl (lv_room (Nat.le_of_ble_eq_true rfl)) dX0_termAt_19 ⟨Nat.le_of_ble_eq_true rfl, Nat.le_of_ble_eq_true rfl⟩) ?_
      refine lv_if_ne (tgt := 28) hx hb dX0_termAt_22 (by decide) (fun c7 => ?_) (fun c7 => ?_)
      · have h := pi_f c7 h
        refine lv_aload_n hx hb dX0_termAt_28 rfl (lv_at hl 0 rfl) ?_
        refine va_get (ci := 0) (v := .ref (lL a)) (C := RX0) (T := TX0) (N := 3) hx hb hts in_X0 hown hG.K (sy_o hP) 0 rfl rfl 0 (by decide) (hts _ q220) (fun _ h9 => h9) rfl dX0_termAt_29 ?_
        refine va_getN (ci := 1) (v := .ref (lS a)) (C := RX1) (T := TX1) (N := 4) hx hb hts in_X1 hown hG.K (le_o (sy_l hP)) 0 rfl rfl 0 (by decide) (nf_LectureTurns_132 hG) (fun _ h9 => h9) rfl dX0_termAt_32 ?_
        refine lv_iload_n hx hb dX0_termAt_35 rfl (lv_at hl 1 rfl) ?_
        obtain ⟨v8, e8, h⟩ := pb_some h
        obtain ⟨a8, e8, q8⟩ := pAt_T hvs e8
        refine c_call (va_runV (As := [.int x1]) (rest := []) ⟨hx, hb, hml, hown, hts⟩ (met_X2_at (t := (a8, v8)) hO.1 q8) (cwV 1 hts (lw_V q765 q254 q255 q68 q256) rfl rfl rfl ⟨rfl, hd_X2_at⟩ ⟨Nat.le_of_ble_eq_true rfl, Nat.le_of_ble_eq_true rfl⟩) (g_preV hG hSa (va_P.cons (le_t (sy_l hP) e8) (le_st (sy_l hP))) (va_recv hG.K (le_s (sy_l hP)) (ci := 2) (q0 := 0) rfl rfl)) rfl rfl hl.1 rfl (lv_room (Nat.le_of_ble_eq_true rfl)) dX0_termAt_36 ⟨Nat.le_of_ble_eq_true rfl, Nat.le_of_ble_eq_true rfl⟩) ?_
        refine va_castS hx hb hown (hts _ q766) (hG.K.1 4 _ rfl).2 (va_recv hG.K (le_t (sy_l hP) e8) (ci := 4) (q0 := 0) rfl rfl) dX0_termAt_39 ?_
        refine lv_astore (lv' := [(4, .ref (aT a8)), (0, .ref sy), (1, .int x1), (2, .int x2), (3, .int x3)]) hx hb dX0_termAt_42 hl (by decide) rfl (fun ls hl => ?_)
        refine lv_iload_n hx hb dX0_termAt_44 rfl (lv_at hl 3 rfl) ?_
        refine lv_aload hx hb dX0_termAt_45 (lv_at hl 0 rfl) ?_
        refine va_getN (ci := 4) (v := .ref (aL a8)) (C := RX4) (T := TX4) (N := 5) hx hb hts in_X4 hown hG.K (le_t (sy_l hP) e8) 0 rfl rfl 4 (by decide) (nf_LectureTurns_150 hG) (fun _ h9 => h9) rfl dX0_termAt_47 ?_
        refine c_call (va_runV (As := []) (rest := [.int x2]) ⟨hx, hb, hml, hown, hts⟩ (met_J2_size (n := (vT v8).length) (by simp)) (cwV 0 hts (lw_V q786 q248 q249 q71 q250) rfl rfl rfl ⟨rfl, hd_J2_size⟩ ⟨Nat.le_of_ble_eq_true rfl, Nat.le_of_ble_eq_true rfl⟩) (g_preV hG hSa (tu_l (le_tw (sy_l hP) e8)) (va_recv hG.K (tu_l (le_tw (sy_l hP) e8)) (ci := 9) (q0 := 0) rfl rfl)) rfl rfl hl.1 rfl (lv_room (Nat.le_of_ble_eq_true rfl)) dX0_termAt_50 ⟨Nat.le_of_ble_eq_true rfl, Nat.le_of_ble_eq_true rfl⟩) ?_
        refine lv_icmp_lt (tgt := 59) hx hb dX0_termAt_53 (by decide) (fun c10 => ?_) (fun c10 => ?_)
        · have h := pi_t c10 h
          refine lv_aload hx hb dX0_termAt_59 (lv_at hl 0 rfl) ?_
          refine va_getN (ci := 4) (v := .ref (aL a8)) (C := RX4) (T := TX4) (N := 5) hx hb hts in_X4 hown hG.K (le_t (sy_l hP) e8) 0 rfl rfl 4 (by decide) (nf_LectureTurns_150 hG) (fun _ h9 => h9) rfl dX0_termAt_61 ?_
          refine lv_iload_n hx hb dX0_termAt_64 rfl (lv_at hl 3 rfl) ?_
          obtain ⟨b11, e11, h⟩ := pb_some h
          refine c_call (va_runV (As := [.int x2]) (rest := []) ⟨hx, hb, hml, hown, hts⟩ (met_J2_get (tls_ok hO e8) (pAt_map (f := bxA k) e11)) (cwV 1 hts (lw_V q829 q258 q259 q71 q260) rfl rfl rfl ⟨rfl, hd_J2_get⟩ ⟨Nat.le_of_ble_eq_true rfl, Nat.le_of_ble_eq_true rfl⟩) (g_preV hG hSa (tu_l (le_tw (sy_l hP) e8)) (va_recv hG.K (tu_l (le_tw (sy_l hP) e8)) (ci := 9) (q0 := 0) rfl rfl)) rfl rfl hl.1 rfl (lv_room (Nat.le_of_ble_eq_true rfl)) dX0_termAt_65 ⟨Nat.le_of_ble_eq_true rfl, Nat.le_of_ble_eq_true rfl⟩) ?_
          have t11 := tbx hO e8 e11
          refine va_castS hx hb hown (hts _ q830) (hG.K.1 13 _ rfl).2 (bx_recv hG hSa t11) dX0_termAt_68 ?_
          refine c_call (va_runV (As := []) (rest := []) ⟨hx, hb, hml, hown, hts⟩ (met_J17_intValue t11) (cwV 0 hts (lw_V q831 q644 q645 q90 q646) rfl rfl rfl ⟨rfl, hd_J17_intValue⟩ ⟨Nat.le_of_ble_eq_true rfl, Nat.le_of_ble_eq_true rfl⟩) (g_preV hG hSa (va_P.nil) (bx_recv hG hSa t11)) rfl rfl hl.1 rfl (lv_room (Nat.le_of_ble_eq_true rfl)) dX0_termAt_71 ⟨Nat.le_of_ble_eq_true rfl, Nat.le_of_ble_eq_true rfl⟩) ?_
          refine lv_istore (lv' := [(5, .int b11), (4, .ref (aT a8)), (0, .ref sy), (1, .int x1), (2, .int x2), (3, .int x3)]) hx hb dX0_termAt_74 hl (by decide) rfl (fun ls hl => ?_)
          refine lv_iload_n hx hb dX0_termAt_76 rfl (lv_at hl 5 rfl) ?_
          refine lv_if_ne (tgt := 85) hx hb dX0_termAt_77 (by decide) (fun c13 => ?_) (fun c13 => ?_)
          · have h := pi_f c13 h
            refine lv_aload_n hx hb dX0_termAt_85 rfl (lv_at hl 2 rfl) ?_
            refine va_get (ci := 0) (v := .ref (lL a)) (C := RX0) (T := TX0) (N := 3) hx hb hts in_X0 hown hG.K (sy_o hP) 0 rfl rfl 0 (by decide) (hts _ q220) (fun _ h9 => h9) rfl dX0_termAt_86 ?_
            refine lv_iload hx hb dX0_termAt_89 (lv_at hl 0 rfl) ?_
            obtain ⟨r15, e14, h⟩ := pb_some h
            refine c_call (va_runV (As := [.int b11]) (rest := []) ⟨hx, hb, hml, hown, hts⟩ (met_X1_shown hvs hO  e14) (cwV 1 hts (lw_V q832 q631 q632 q67 q633) rfl rfl rfl ⟨rfl, hd_X1_shown⟩ ⟨Nat.le_of_ble_eq_true rfl, Nat.le_of_ble_eq_true rfl⟩) (g_preV hG hSa (sy_l hP) (va_recv hG.K (le_o (sy_l hP)) (ci := 1) (q0 := 0) rfl rfl)) rfl rfl hl.1 rfl (lv_room (Nat.le_of_ble_eq_true rfl)) dX0_termAt_91 ⟨Nat.le_of_ble_eq_true rfl, Nat.le_of_ble_eq_true rfl⟩) ?_
            cases h
            exact W.iret hx hb hr (fun t ht hW => c_ret ht) (fun q hq => absurd hq List.not_mem_nil) dX0_termAt_94
          · have h := pi_t c13 h
            refine lv_iload hx hb dX0_termAt_80 (lv_at hl 0 rfl) ?_
            refine lv_goto (tgt := 94) hx hb dX0_termAt_82 (by decide) ?_
            cases h
            exact W.iret hx hb hr (fun t ht hW => c_ret ht) (fun q hq => absurd hq List.not_mem_nil) dX0_termAt_94
        · have h := pi_f c10 h
          refine lv_ldc hx hb hown (hts _ q783) dX0_termAt_56 ?_
          cases h
          exact W.iret hx hb hr (fun t ht hW => c_ret ht) (fun q hq => absurd hq List.not_mem_nil) dX0_termAt_58
      · have h := pi_t c7 h
        refine lv_ldc hx hb hown (hts _ q758) dX0_termAt_25 ?_
        cases h
        exact W.iret hx hb hr (fun t ht hW => c_ret ht) (fun q hq => absurd hq List.not_mem_nil) dX0_termAt_27
