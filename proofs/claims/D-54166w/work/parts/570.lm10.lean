/-! Lecture: changes (printed by wip/gen/gen_lm10.py) -/
/-- what a term is shown as -/
def shN (cor : Nat → Int32) (j : Nat) : Int32 := (m_X1_shown 17 cor (nI j)).getD 0
/-- every term is shown as some term -/
def shOk (cor : Nat → Int32) : Prop := ∀ j, j < 16 → m_X1_shown 17 cor (nI j) = some (shN cor j)
/-- the terms that are shown otherwise -/
def chSet (f g : Nat → Int32) : Nat → Int32
  | 0 => 0
  | j + 1 => chSet f g j ||| (if g j = f j then (0 : Int32) else (1 : Int32) <<< (nI j &&& 31))
set_option maxHeartbeats 4000000 in
set_option maxRecDepth 100000 in
theorem lp_X1_changes_1 {p : Program} {l : Launch} {e : Env} {s : State} {m : MethodId} {args : Array Value} {below : List Frame} {meth : Method} {c : Code} {Q : State → Prop} {k : Cx} {fr : va_W} {a : LA} {T : List TT} {vs : List TV} {pit cor : Nat → Int32} {tol : Int32} {x y : Int32} {q1 : Nat} {cells slots : Nat} (hx : p.tables.exec = Jvm.exec) (hb : c.code = cX1_changes) (hml : c.maxLocals = 6) (hown : s.vm.findClass RX1 = some m.cls) (hts : ∀ w ∈ lw_all, w.before args s = true) (hG : GU k s) (hvs : T.map Prod.snd = vs) (hO : leOk k a T) (hsh : shOk cor) (hc0 : cells ≤ 1) (hs0 : slots ≤ 16) : ∀ (r i : Nat) (g : Nat → Int32) (H : Heap) (locs : List Loc) (ls : Array Slot), i + r = 16 → (∀ j, j < i → g j = shN cor j) → va_P (kD k) gCl ((q1, .inl (kA k, 16, .inl g)) :: ((leW k a T pit cor tol) ++ fr)) H → va_D (Ab k) ((q1, .inl (kA k, 16, .inl g)) :: ((leW k a T pit cor tol) ++ fr)) → va_S (Ab k) s.heap H locs → lv_has ls 6 [(5, .int (nI i)), (4, .ref q1), (3, .int (0 : Int32)), (0, .ref (lL a)), (1, .int x), (2, .int y)] → (∀ (H : Heap) (locs : List Loc) (ls : Array Slot), va_P (kD k) gCl ((q1, .inl (kA k, 16, .inl (shN cor))) :: ((leW k a T pit cor tol) ++ fr)) H → va_D (Ab k) ((q1, .inl (kA k, 16, .inl (shN cor))) :: ((leW k a T pit cor tol) ++ fr)) → va_S (Ab k) s.heap H locs → lv_has ls 6 [(4, .ref q1), (3, .int (0 : Int32)), (0, .ref (lL a)), (1, .int x), (2, .int y)] → W p l e ({ frames := 19, cells := 22, slots := 100, locals := 390 } : Room) s m args below meth c H locs cells slots Q (F0 m 35 ls [])) → W p l e ({ frames := 19, cells := 22, slots := 100, locals := 390 } : Room) s m args below meth c H locs cells slots Q (F0 m 11 ls []) := by
  intro r
  induction r with
  | zero =>
    intro i g H locs ls hi hg hP hD hS hl K
    refine lv_iload hx hb dX1_changes_11 (lv_at hl 0 rfl) ?_
    refine lv_bipush (v := 16) hx hb dX1_changes_13 (by decide) ?_
    refine lv_icmp_ge (tgt := 35) hx hb dX1_changes_15 (by decide) (fun c1 => ?_) (fun c1 => absurd (nI_le (a := 16) (b := i) (by omega) (by omega)) c1)
    have hP := hP.int (g := shN cor) (fun j hj => hg j (by omega))
    have hD : va_D (Ab k) ((q1, .inl (kA k, 16, .inl (shN cor))) :: ((leW k a T pit cor tol) ++ fr)) := hD.addr rfl
    exact K H locs ls hP hD hS (lv_sub hl [1, 2, 3, 4, 5] rfl)
  | succ r ih =>
    intro i g H locs ls hi hg hP hD hS hl K
    refine lv_iload hx hb dX1_changes_11 (lv_at hl 0 rfl) ?_
    refine lv_bipush (v := 16) hx hb dX1_changes_13 (by decide) ?_
    refine lv_icmp_ge (tgt := 35) hx hb dX1_changes_15 (by decide) (fun c1 => absurd c1 (nI_ge (a := i) (b := 16) (by omega) (by omega))) (fun c1 => ?_)
    refine lv_aload hx hb dX1_changes_18 (lv_at hl 1 rfl) ?_
    refine lv_iload hx hb dX1_changes_20 (lv_at hl 0 rfl) ?_
    refine lv_aload_n hx hb dX1_changes_22 rfl (lv_at hl 3 rfl) ?_
    refine lv_iload hx hb dX1_changes_23 (lv_at hl 0 rfl) ?_
    have hPs : va_P (kD k) gCl (leW k a T pit cor tol) _ := hP.of_mem (fun x hx => (List.mem_cons_of_mem _ (List.mem_append_left _ hx)))
    refine c_call (va_runV (As := [.int (nI i)]) (rest := [.int (nI i), .ref q1]) ⟨hx, hb, hml, hown, hts⟩ (met_X1_shown (n := 17) hvs hO (hsh i (by omega))) (cwV 1 hts (lw_V q630 q631 q632 q67 q633) rfl rfl rfl ⟨rfl, hd_X1_shown⟩ ⟨Nat.le_of_ble_eq_true rfl, Nat.le_of_ble_eq_true rfl⟩) (g_preV hG hS hPs (va_recv hG.K (le_o hPs) (ci := 1) (q0 := 0) rfl rfl)) rfl rfl hl.1 rfl (lv_room (Nat.le_of_ble_eq_true rfl)) dX1_changes_25 ⟨by show _ ≤ 22; omega, by show _ ≤ 100; omega⟩) ?_
    refine va_iast hx hb hG.K hP hD hS 0 0 rfl rfl (vp_in_nI (by omega) (by omega)) dX1_changes_28 (fun H locs hP hD hS => ?_)
    have hP : va_P (kD k) gCl ((q1, .inl (kA k, 16, .inl (upd g (nI i).toNatClampNeg (shN cor i)))) :: ((leW k a T pit cor tol) ++ fr)) _ := hP
    have hD : va_D (Ab k) ((q1, .inl (kA k, 16, .inl (upd g (nI i).toNatClampNeg (shN cor i)))) :: ((leW k a T pit cor tol) ++ fr)) := hD
    rw [nI_clamp (show i < 2 ^ 31 by omega)] at hP hD
    refine lv_iinc (v := nI (i + 1)) (lv' := [(5, .int (nI (i + 1))), (4, .ref q1), (3, .int (0 : Int32)), (0, .ref (lL a)), (1, .int x), (2, .int y)]) hx hb dX1_changes_29 hl (k := 0) rfl (nI_succ i).symm (by decide) rfl (fun ls hl => ?_)
    refine lv_goto (tgt := 11) hx hb dX1_changes_32 (by decide) ?_
    exact ih (i + 1) (upd g i (shN cor i)) H locs ls (by omega) (upd_le hg) hP hD hS hl K
set_option maxHeartbeats 4000000 in
set_option maxRecDepth 100000 in
theorem lp_X1_changes_2 {p : Program} {l : Launch} {e : Env} {s : State} {m : MethodId} {args : Array Value} {below : List Frame} {meth : Method} {c : Code} {Q : State → Prop} {k : Cx} {fr : va_W} {a : LA} {T : List TT} {vs : List TV} {pit cor : Nat → Int32} {tol : Int32} {x y : Int32} {q1 : Nat} {cells slots : Nat} (hx : p.tables.exec = Jvm.exec) (hb : c.code = cX1_changes) (hml : c.maxLocals = 6) (hown : s.vm.findClass RX1 = some m.cls) (hts : ∀ w ∈ lw_all, w.before args s = true) (hG : GU k s) {f : Nat → Int32} {H : Heap} {locs : List Loc} (hvs : T.map Prod.snd = vs) (hO : leOk k a T) (hsh : shOk cor) (hc0 : cells ≤ 1) (hs0 : slots ≤ 16) (hP : va_P (kD k) gCl ((q1, .inl (kA k, 16, .inl f)) :: ((leW k a T pit cor tol) ++ fr)) H) (hS : va_S (Ab k) s.heap H locs) : ∀ (r i : Nat) (ls : Array Slot), i + r = 16 → lv_has ls 6 [(5, .int (nI i)), (3, .int (chSet f (shN cor) i)), (4, .ref q1), (0, .ref (lL a)), (1, .int x), (2, .int y)] → (∀ (ls : Array Slot), lv_has ls 6 [(3, .int (chSet f (shN cor) 16)), (0, .ref (lL a))] → W p l e ({ frames := 19, cells := 22, slots := 100, locals := 390 } : Room) s m args below meth c H locs cells slots Q (F0 m 83 ls [])) → W p l e ({ frames := 19, cells := 22, slots := 100, locals := 390 } : Room) s m args below meth c H locs cells slots Q (F0 m 45 ls []) := by
  intro r
  induction r with
  | zero =>
    intro i ls hi hl K
    refine lv_iload hx hb dX1_changes_45 (lv_at hl 0 rfl) ?_
    refine lv_bipush (v := 16) hx hb dX1_changes_47 (by decide) ?_
    refine lv_icmp_ge (tgt := 83) hx hb dX1_changes_49 (by decide) (fun c1 => ?_) (fun c1 => absurd (nI_le (a := 16) (b := i) (by omega) (by omega)) c1)
    have e9 : i = 16 := by omega
    subst e9
    exact K ls (lv_sub hl [1, 3] rfl)
  | succ r ih =>
    intro i ls hi hl K
    refine lv_iload hx hb dX1_changes_45 (lv_at hl 0 rfl) ?_
    refine lv_bipush (v := 16) hx hb dX1_changes_47 (by decide) ?_
    refine lv_icmp_ge (tgt := 83) hx hb dX1_changes_49 (by decide) (fun c1 => absurd c1 (nI_ge (a := i) (b := 16) (by omega) (by omega))) (fun c1 => ?_)
    refine lv_iload_n hx hb dX1_changes_52 rfl (lv_at hl 1 rfl) ?_
    refine lv_aload_n hx hb dX1_changes_53 rfl (lv_at hl 3 rfl) ?_
    refine lv_iload hx hb dX1_changes_54 (lv_at hl 0 rfl) ?_
    have hPs : va_P (kD k) gCl (leW k a T pit cor tol) _ := hP.of_mem (fun x hx => (List.mem_cons_of_mem _ (List.mem_append_left _ hx)))
    refine c_call (va_runV (As := [.int (nI i)]) (rest := [.int (chSet f (shN cor) i)]) ⟨hx, hb, hml, hown, hts⟩ (met_X1_shown (n := 17) hvs hO (hsh i (by omega))) (cwV 1 hts (lw_V q630 q631 q632 q67 q633) rfl rfl rfl ⟨rfl, hd_X1_shown⟩ ⟨Nat.le_of_ble_eq_true rfl, Nat.le_of_ble_eq_true rfl⟩) (g_preV hG hS hPs (va_recv hG.K (le_o hPs) (ci := 1) (q0 := 0) rfl rfl)) rfl rfl hl.1 rfl (lv_room (Nat.le_of_ble_eq_true rfl)) dX1_changes_56 ⟨by show _ ≤ 22; omega, by show _ ≤ 100; omega⟩) ?_
    refine lv_aload hx hb dX1_changes_59 (lv_at hl 2 rfl) ?_
    refine lv_iload hx hb dX1_changes_61 (lv_at hl 0 rfl) ?_
    refine va_iald hx hb hG.K hP 0 0 rfl rfl (vp_in_nI (by omega) (by omega)) dX1_changes_63 ?_
    rw [nI_clamp (show i < 2 ^ 31 by omega)]
    refine lv_icmp_ne (tgt := 71) hx hb dX1_changes_64 (by decide) (fun c2 => ?_) (fun c2 => ?_)
    · refine lv_iconst (v := 1) hx hb dX1_changes_71 (by decide) ?_
      refine lv_iload hx hb dX1_changes_72 (lv_at hl 0 rfl) ?_
      refine lv_ishl hx hb dX1_changes_74 ?_
      refine lv_ior hx hb dX1_changes_75 ?_
      refine lv_istore_n (lv' := [(3, .int ((chSet f (shN cor) i) ||| ((1 : Int32) <<< ((nI i) &&& 31)))), (5, .int (nI i)), (4, .ref q1), (0, .ref (lL a)), (1, .int x), (2, .int y)]) hx hb dX1_changes_76 rfl hl (by decide) rfl (fun ls hl => ?_)
      have e8 : ((chSet f (shN cor) i) ||| ((1 : Int32) <<< ((nI i) &&& 31))) = chSet f (shN cor) (i + 1) := by rw [chSet, if_neg c2]
      rw [e8] at hl
      refine lv_iinc (v := nI (i + 1)) (lv' := [(5, .int (nI (i + 1))), (3, .int (chSet f (shN cor) (i + 1))), (4, .ref q1), (0, .ref (lL a)), (1, .int x), (2, .int y)]) hx hb dX1_changes_77 hl (k := 1) rfl (nI_succ i).symm (by decide) rfl (fun ls hl => ?_)
      refine lv_goto (tgt := 45) hx hb dX1_changes_80 (by decide) ?_
      exact ih (i + 1) ls (by omega) (lv_sub hl [0, 1, 2, 3, 4, 5] rfl) K
    · refine lv_iconst (v := 0) hx hb dX1_changes_67 (by decide) ?_
      refine lv_goto (tgt := 75) hx hb dX1_changes_68 (by decide) ?_
      refine lv_ior hx hb dX1_changes_75 ?_
      refine lv_istore_n (lv' := [(3, .int ((chSet f (shN cor) i) ||| (0 : Int32))), (5, .int (nI i)), (4, .ref q1), (0, .ref (lL a)), (1, .int x), (2, .int y)]) hx hb dX1_changes_76 rfl hl (by decide) rfl (fun ls hl => ?_)
      have e8 : ((chSet f (shN cor) i) ||| (0 : Int32)) = chSet f (shN cor) (i + 1) := by rw [chSet, if_pos c2]
      rw [e8] at hl
      refine lv_iinc (v := nI (i + 1)) (lv' := [(5, .int (nI (i + 1))), (3, .int (chSet f (shN cor) (i + 1))), (4, .ref q1), (0, .ref (lL a)), (1, .int x), (2, .int y)]) hx hb dX1_changes_77 hl (k := 1) rfl (nI_succ i).symm (by decide) rfl (fun ls hl => ?_)
      refine lv_goto (tgt := 45) hx hb dX1_changes_80 (by decide) ?_
      exact ih (i + 1) ls (by omega) (lv_sub hl [0, 1, 2, 3, 4, 5] rfl) K
theorem hd_X1_changes : yX1_changes.cls ≠ "java/lang/invoke/MethodHandle" ∧ yX1_changes.cls ≠ "java/lang/invoke/VarHandle" ∧ (parseMethodDescriptor yX1_changes.desc).map (fun d => d.parameters.length) = some 2 := by decide +kernel
set_option maxHeartbeats 4000000 in
set_option maxRecDepth 100000 in
theorem met_X1_changes {l : Launch} {k : Cx} {a : LA} {T : List TT} {vs : List TV} {pit cor : Nat → Int32} {tol : Int32} {fr : va_W} {x y r : Int32} (hvs : T.map Prod.snd = vs) (hO : leOk k a T) (hin : vp_in x 16) (h1 : shOk cor) (h2 : shOk (upd cor x.toNatClampNeg y)) (hpl : m_X1_places 21 vs (chSet (shN cor) (shN (upd cor x.toNatClampNeg y)) 16) = some r) (hD : va_D (Ab k) ((leW k a T pit cor tol) ++ fr)) : Met l yX1_changes (ws_ yX1_changes cX1_changes 6 (some .int)) ({ frames := 19, cells := 22, slots := 100, locals := 390 } : Room) (gPc [.ref (lL a), .int x, .int y] k ((leW k a T pit cor tol) ++ fr)) (QcM k (fun v w => v = some (.int r) ∧ w = leW k a T pit (upd cor x.toNatClampNeg y) tol ++ fr)) 22 100 (Ab k) := by
  refine Met.ofW (cc := cX1_changes) (maxL := 6) (ret := (some .int)) (by decide) rfl ?_
  intro p e s m args below meth c s₁ B hml hv
  obtain ⟨rfl, hP, hG⟩ := hv
  have hx := B.exec
  have hb := B.bytes
  have hr := B.returns
  have hts := atoms_spec (ws := ws_ yX1_changes cX1_changes 6 (some .int)) B.pre
  have hts : ∀ w ∈ lw_all, w.before _ s = true := fun w h => hts w (List.mem_cons_of_mem _ h)
  have hown : s.vm.findClass RX1 = some m.cls := findClass_of_methodNamed B.named
  have hlocks := B.notSynchronized
  have hl := lv_entry ([.ref (lL a), .int x, .int y]) (n := 6) (Nat.le_of_ble_eq_true rfl)
  rw [lg_entry_eq]
  generalize (lg_sl ([.ref (lL a), .int x, .int y]) ++ List.replicate (6 - (lg_sl ([.ref (lL a), .int x, .int y])).length) Slot.unset).toArray = ls at hl ⊢
  have hl : lv_has ls 6 [(0, .ref (lL a)), (1, .int x), (2, .int y)] := hl
  have hS : va_S (Ab k) s.heap s.heap [] := va_S.rf
  refine lv_iconst (v := 0) hx hb dX1_changes_0 (by decide) ?_
  refine lv_istore_n (lv' := [(3, .int (0 : Int32)), (0, .ref (lL a)), (1, .int x), (2, .int y)]) hx hb dX1_changes_1 rfl hl (by decide) rfl (fun ls hl => ?_)
  refine lv_bipush (v := 16) hx hb dX1_changes_2 (by decide) ?_
  refine va_newa (atype := .int) (ty := .int) (n := 16) (N' := 16) (a0 := (16, .inl (fun _ => 0))) hx hb (hts _ q168) rfl hG.K hP hD hS hG.A (fun _ => rfl) (by decide) (by decide) (Nat.le_of_ble_eq_true rfl) (Nat.le_of_ble_eq_true rfl) (Nat.le_of_ble_eq_true rfl) dX1_changes_4 (fun q1 cA H hK1 hP hD hS => ?_)
  have eA := kA_eq hG hK1
  subst eA
  have hP := hP.rot
  have hD := hD.rot
  have hP : va_P (kD k) gCl ((q1, .inl (kA k, 16, .inl (fun _ => 0))) :: ((leW k a T pit cor tol) ++ fr)) _ := hP
  have hD : va_D (Ab k) ((q1, .inl (kA k, 16, .inl (fun _ => 0))) :: ((leW k a T pit cor tol) ++ fr)) := hD
  refine lv_astore (lv' := [(4, .ref q1), (3, .int (0 : Int32)), (0, .ref (lL a)), (1, .int x), (2, .int y)]) hx hb dX1_changes_6 hl (by decide) rfl (fun ls hl => ?_)
  refine lv_iconst (v := 0) hx hb dX1_changes_8 (by decide) ?_
  refine lv_istore (lv' := [(5, .int (0 : Int32)), (4, .ref q1), (3, .int (0 : Int32)), (0, .ref (lL a)), (1, .int x), (2, .int y)]) hx hb dX1_changes_9 hl (by decide) rfl (fun ls hl => ?_)
  refine lp_X1_changes_1 (x := x) (y := y) hx hb hml hown hts hG hvs hO h1 (by decide) (by decide) 16 0 (fun _ => 0) H [] ls rfl (fun j hj => absurd hj (Nat.not_lt_zero j)) hP hD hS (lv_sub hl [0, 1, 2, 3, 4, 5] rfl) (fun H locs ls hP hD hS hl => ?_)
  refine lv_aload_n hx hb dX1_changes_35 rfl (lv_at hl 2 rfl) ?_
  have hPs : va_P (kD k) gCl (leW k a T pit cor tol) _ := hP.of_mem (fun x hx => (List.mem_cons_of_mem _ (List.mem_append_left _ hx)))
  refine va_get (ci := 1) (v := .ref (lK a)) (C := RX1) (T := TX1) (N := 4) hx hb hts in_X1 hown hG.K (le_o hPs) 0 rfl rfl 2 (by decide) (hts _ q155) (fun _ h9 => h9) rfl dX1_changes_36 ?_
  refine lv_iload_n hx hb dX1_changes_39 rfl (lv_at hl 3 rfl) ?_
  refine lv_iload_n hx hb dX1_changes_40 rfl (lv_at hl 4 rfl) ?_
  have hpm := cat_pick [[(q1, .inl (kA k, 16, .inl (shN cor)))], leW k a T pit cor tol] (fr) [1, 0] 2 rfl (by decide)
  have hP : va_P (kD k) gCl ((leW k a T pit cor tol) ++ ((q1, .inl (kA k, 16, .inl (shN cor))) :: fr)) _ := hP.perm hpm
  have hD : va_D (Ab k) ((leW k a T pit cor tol) ++ ((q1, .inl (kA k, 16, .inl (shN cor))) :: fr)) := hD.perm hpm
  rw [leW_flat] at hP hD
  have hP : va_P (kD k) gCl (((lL a), .inr (1, [.ref (lS a), .ref (lP a), .ref (lK a), .int tol])) :: (((lS a), .inr (2, [.ref (lR a)])) :: (((lP a), .inl (kA k, 6, .inl pit)) :: (((lK a), .inl (kA k, 16, .inl cor)) :: (((lR a), .inr (9, [.int (lM a), .ref (lE a), .int (nI (tads T).length)])) :: ((lsA k (lE a) (lC a) (tads T)) ++ ((tusW k T) ++ ((q1, .inl (kA k, 16, .inl (shN cor))) :: fr)))))))) _ := hP
  have hD : va_D (Ab k) (((lL a), .inr (1, [.ref (lS a), .ref (lP a), .ref (lK a), .int tol])) :: (((lS a), .inr (2, [.ref (lR a)])) :: (((lP a), .inl (kA k, 6, .inl pit)) :: (((lK a), .inl (kA k, 16, .inl cor)) :: (((lR a), .inr (9, [.int (lM a), .ref (lE a), .int (nI (tads T).length)])) :: ((lsA k (lE a) (lC a) (tads T)) ++ ((tusW k T) ++ ((q1, .inl (kA k, 16, .inl (shN cor))) :: fr)))))))) := hD
  refine va_iast hx hb hG.K hP hD hS 3 0 rfl rfl hin dX1_changes_41 (fun H locs hP hD hS => ?_)
  have hP : va_P (kD k) gCl (((lL a), .inr (1, [.ref (lS a), .ref (lP a), .ref (lK a), .int tol])) :: (((lS a), .inr (2, [.ref (lR a)])) :: (((lP a), .inl (kA k, 6, .inl pit)) :: (((lK a), .inl (kA k, 16, .inl (upd cor x.toNatClampNeg y))) :: (((lR a), .inr (9, [.int (lM a), .ref (lE a), .int (nI (tads T).length)])) :: ((lsA k (lE a) (lC a) (tads T)) ++ ((tusW k T) ++ ((q1, .inl (kA k, 16, .inl (shN cor))) :: fr)))))))) _ := hP
  have hD : va_D (Ab k) (((lL a), .inr (1, [.ref (lS a), .ref (lP a), .ref (lK a), .int tol])) :: (((lS a), .inr (2, [.ref (lR a)])) :: (((lP a), .inl (kA k, 6, .inl pit)) :: (((lK a), .inl (kA k, 16, .inl (upd cor x.toNatClampNeg y))) :: (((lR a), .inr (9, [.int (lM a), .ref (lE a), .int (nI (tads T).length)])) :: ((lsA k (lE a) (lC a) (tads T)) ++ ((tusW k T) ++ ((q1, .inl (kA k, 16, .inl (shN cor))) :: fr)))))))) := hD
  have hpm := cat_pick [[((lL a), .inr (1, [.ref (lS a), .ref (lP a), .ref (lK a), .int tol]))], [((lS a), .inr (2, [.ref (lR a)]))], [((lP a), .inl (kA k, 6, .inl pit))], [((lK a), .inl (kA k, 16, .inl (upd cor x.toNatClampNeg y)))], [((lR a), .inr (9, [.int (lM a), .ref (lE a), .int (nI (tads T).length)]))], lsA k (lE a) (lC a) (tads T), tusW k T, [(q1, .inl (kA k, 16, .inl (shN cor)))]] (fr) [7, 0, 1, 2, 3, 4, 5, 6] 8 rfl (by decide)
  have hP : va_P (kD k) gCl ((q1, .inl (kA k, 16, .inl (shN cor))) :: (((lL a), .inr (1, [.ref (lS a), .ref (lP a), .ref (lK a), .int tol])) :: (((lS a), .inr (2, [.ref (lR a)])) :: (((lP a), .inl (kA k, 6, .inl pit)) :: (((lK a), .inl (kA k, 16, .inl (upd cor x.toNatClampNeg y))) :: (((lR a), .inr (9, [.int (lM a), .ref (lE a), .int (nI (tads T).length)])) :: ((lsA k (lE a) (lC a) (tads T)) ++ ((tusW k T) ++ fr)))))))) _ := hP.perm hpm
  have hD : va_D (Ab k) ((q1, .inl (kA k, 16, .inl (shN cor))) :: (((lL a), .inr (1, [.ref (lS a), .ref (lP a), .ref (lK a), .int tol])) :: (((lS a), .inr (2, [.ref (lR a)])) :: (((lP a), .inl (kA k, 6, .inl pit)) :: (((lK a), .inl (kA k, 16, .inl (upd cor x.toNatClampNeg y))) :: (((lR a), .inr (9, [.int (lM a), .ref (lE a), .int (nI (tads T).length)])) :: ((lsA k (lE a) (lC a) (tads T)) ++ ((tusW k T) ++ fr)))))))) := hD.perm hpm
  have hpf := leW_fold (k := k) (a := a) (T2 := T) (pit := pit) (cor := (upd cor x.toNatClampNeg y)) (tol := tol) (fr := fr) (List.Perm.refl _)
  have hP : va_P (kD k) gCl ((q1, .inl (kA k, 16, .inl (shN cor))) :: ((leW k a T pit (upd cor x.toNatClampNeg y) tol) ++ fr)) _ := hP.perm (hpf.cons _)
  have hD : va_D (Ab k) ((q1, .inl (kA k, 16, .inl (shN cor))) :: ((leW k a T pit (upd cor x.toNatClampNeg y) tol) ++ fr)) := hD.perm (hpf.cons _)
  refine lv_iconst (v := 0) hx hb dX1_changes_42 (by decide) ?_
  refine lv_istore (lv' := [(5, .int (0 : Int32)), (4, .ref q1), (3, .int (0 : Int32)), (0, .ref (lL a)), (1, .int x), (2, .int y)]) hx hb dX1_changes_43 hl (by decide) rfl (fun ls hl => ?_)
  refine lp_X1_changes_2 (x := x) (y := y) (f := shN cor) hx hb hml hown hts hG hvs hO h2 (by decide) (by decide) hP hS 16 0 ls rfl (lv_sub hl [0, 2, 1, 3, 4, 5] rfl) (fun ls hl => ?_)
  refine lv_aload_n hx hb dX1_changes_83 rfl (lv_at hl 1 rfl) ?_
  refine lv_iload_n hx hb dX1_changes_84 rfl (lv_at hl 0 rfl) ?_
  refine c_callM (va_runV (As := [.int (chSet (shN cor) (shN (upd cor x.toNatClampNeg y)) 16)]) (rest := []) ⟨hx, hb, hml, hown, hts⟩ (met_X1_places (nf := 21) hvs hO (fun z hz => List.mem_cons_of_mem _ (List.mem_append_left _ hz)) hD hpl) (cwV 1 hts (lw_V q634 q636 qs10 q67 q637) rfl rfl rfl ⟨rfl, hd_X1_places⟩ ⟨Nat.le_of_ble_eq_true rfl, Nat.le_of_ble_eq_true rfl⟩) (g_preV hG hS hP (va_recv hG.K (le_o hP.tl.left) (ci := 1) (q0 := 0) rfl rfl)) rfl rfl hl.1 rfl (lv_room (Nat.le_of_ble_eq_true rfl)) dX1_changes_85 ⟨Nat.le_of_ble_eq_true rfl, Nat.le_of_ble_eq_true rfl⟩) hS (fun v w H locs hp hP hD hS => ?_)
  obtain ⟨rfl, rfl⟩ := hp
  have hP : va_P (kD k) gCl ((q1, .inl (kA k, 16, .inl (shN cor))) :: ((leW k a T pit (upd cor x.toNatClampNeg y) tol) ++ fr)) _ := hP
  have hD : va_D (Ab k) ((q1, .inl (kA k, 16, .inl (shN cor))) :: ((leW k a T pit (upd cor x.toNatClampNeg y) tol) ++ fr)) := hD
  have hP : va_P (kD k) gCl ((leW k a T pit (upd cor x.toNatClampNeg y) tol) ++ fr) _ := hP.tl
  have hD : va_D (Ab k) ((leW k a T pit (upd cor x.toNatClampNeg y) tol) ++ fr) := hD.subl (List.sublist_cons_self _ _)
  refine W.widen (k := 22) (n := 100) (Nat.le_of_ble_eq_true rfl) (Nat.le_of_ble_eq_true rfl) ?_
  exact W.iret hx hb hr (fun t9 ht9 hW9 => c_retM (w := (leW k a T pit (upd cor x.toNatClampNeg y) tol) ++ fr) ⟨rfl, rfl⟩ hP hD hS ht9) hS.2.2 dX1_changes_88
