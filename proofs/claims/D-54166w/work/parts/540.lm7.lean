/-! Lecture: comesSpeaker (printed by wip/gen/gen_lm7.py) -/
/-- the first speaker's place that is free -/
def freeS (pit : Nat → Int32) : Nat → Nat → Nat
  | 0, j => j
  | r + 1, j => if pit j ≤ 0 then j else freeS pit r (j + 1)
theorem freeS_le (pit : Nat → Int32) : ∀ r j : Nat, freeS pit r j ≤ j + r := by
  intro r
  induction r with
  | zero => intro j; exact Nat.le_refl _
  | succ r ih =>
    intro j
    unfold freeS
    split
    · omega
    · have := ih (j + 1); omega
def o_comesS (L : LV) (x : Int32) : Option OR :=
  if bi (ib x.toInt64 50 500) = 0 then some (.error (-1000001)) else
  if (6 : Int32) ≤ nI (freeS L.2.1 6 0) then some (.error (-1000003)) else
  some (.ok (nI (freeS L.2.1 6 0), (L.1, upd L.2.1 (freeS L.2.1 6 0) x, L.2.2.1, L.2.2.2)))
set_option maxHeartbeats 4000000 in
set_option maxRecDepth 100000 in
theorem lp_X1_comesSpeaker {p : Program} {l : Launch} {e : Env} {s : State} {m : MethodId} {args : Array Value} {below : List Frame} {meth : Method} {c : Code} {Q : State → Prop} {k : Cx} {fr : va_W} {a : LA} {T : List TT} {pit cor : Nat → Int32} {tol : Int32} {x : Int32} {H : Heap} {locs : List Loc} {cells slots : Nat} (hx : p.tables.exec = Jvm.exec) (hb : c.code = cX1_comesSpeaker) (hml : c.maxLocals = 3) (hown : s.vm.findClass RX1 = some m.cls) (hts : ∀ w ∈ lw_all, w.before args s = true) (hG : GU k s) (hP : va_P (kD k) gCl ((leW k a T pit cor tol) ++ fr) H) : ∀ (r j : Nat) (ls : Array Slot), j + r = 6 → lv_has ls 3 [(2, .int (nI j)), (0, .ref (lL a)), (1, .int x)] → (∀ (ls : Array Slot), lv_has ls 3 [(2, .int (nI (freeS pit r j))), (0, .ref (lL a)), (1, .int x)] → W p l e ({ frames := 7, cells := 2, slots := 14, locals := 147 } : Room) s m args below meth c H locs cells slots Q (F0 m 32 ls [])) → W p l e ({ frames := 7, cells := 2, slots := 14, locals := 147 } : Room) s m args below meth c H locs cells slots Q (F0 m 11 ls []) := by
  intro r
  induction r with
  | zero =>
    intro j ls hi hl K
    refine lv_iload_n hx hb dX1_comesSpeaker_11 rfl (lv_at hl 0 rfl) ?_
    refine lv_bipush (v := 6) hx hb dX1_comesSpeaker_12 (by decide) ?_
    refine lv_icmp_ge (tgt := 32) hx hb dX1_comesSpeaker_14 (by decide) (fun c1 => ?_) (fun c1 => absurd (nI_le (a := 6) (b := j) (by omega) (by omega)) c1)
    exact K ls (lv_sub hl [0, 1, 2] rfl)
  | succ r ih =>
    intro j ls hi hl K
    refine lv_iload_n hx hb dX1_comesSpeaker_11 rfl (lv_at hl 0 rfl) ?_
    refine lv_bipush (v := 6) hx hb dX1_comesSpeaker_12 (by decide) ?_
    refine lv_icmp_ge (tgt := 32) hx hb dX1_comesSpeaker_14 (by decide) (fun c1 => absurd c1 (nI_ge (a := j) (b := 6) (by omega) (by omega))) (fun c1 => ?_)
    refine lv_aload_n hx hb dX1_comesSpeaker_17 rfl (lv_at hl 1 rfl) ?_
    have hPs : va_P (kD k) gCl (leW k a T pit cor tol) _ := hP.of_mem (fun x hx => (List.mem_append_left _ hx))
    refine va_get (ci := 1) (v := .ref (lP a)) (C := RX1) (T := TX1) (N := 4) hx hb hts in_X1 hown hG.K (le_o hPs) 0 rfl rfl 1 (by decide) (hts _ q153) (fun _ h9 => h9) rfl dX1_comesSpeaker_18 ?_
    refine lv_iload_n hx hb dX1_comesSpeaker_21 rfl (lv_at hl 0 rfl) ?_
    have hPs : va_P (kD k) gCl (leW k a T pit cor tol) _ := hP.of_mem (fun x hx => (List.mem_append_left _ hx))
    refine va_iald hx hb hG.K (le_p hPs) 0 0 rfl rfl (vp_in_nI (by omega) (by omega)) dX1_comesSpeaker_22 ?_
    rw [nI_clamp (show j < 2 ^ 31 by omega)]
    refine lv_if_le (tgt := 32) hx hb dX1_comesSpeaker_23 (by decide) (fun c2 => ?_) (fun c2 => ?_)
    · have e8 : freeS pit (r + 1) j = j := by unfold freeS; rw [if_pos c2]
      rw [e8] at K
      exact K ls (lv_sub hl [0, 1, 2] rfl)
    · have e8 : freeS pit (r + 1) j = freeS pit r (j + 1) := by rw [freeS]; rw [if_neg c2]
      rw [e8] at K
      refine lv_iinc (v := nI (j + 1)) (lv' := [(2, .int (nI (j + 1))), (0, .ref (lL a)), (1, .int x)]) hx hb dX1_comesSpeaker_26 hl (k := 0) rfl (nI_succ j).symm (by decide) rfl (fun ls hl => ?_)
      refine lv_goto (tgt := 11) hx hb dX1_comesSpeaker_29 (by decide) ?_
      exact ih (j + 1) ls (by omega) hl K
theorem hd_X1_comesSpeaker : yX1_comesSpeaker.cls ≠ "java/lang/invoke/MethodHandle" ∧ yX1_comesSpeaker.cls ≠ "java/lang/invoke/VarHandle" ∧ (parseMethodDescriptor yX1_comesSpeaker.desc).map (fun d => d.parameters.length) = some 1 := by decide +kernel
set_option maxHeartbeats 4000000 in
set_option maxRecDepth 100000 in
theorem met_X1_comesSpeaker {l : Launch} (htr : l.stackTraces = false) {k : Cx} {a : LA} {T : List TT} {vs : List TV} {pit cor : Nat → Int32} {tol : Int32} {fr : va_W} {x : Int32} {out : OR} (hvs : T.map Prod.snd = vs) (hO : leOk k a T) (h1k : vs.length ≤ 1000) (h : o_comesS (vs, pit, cor, tol) x = some out) (hD : va_D (Ab k) ((leW k a T pit cor tol) ++ fr)) : vy_Met l yX1_comesSpeaker (ws_ yX1_comesSpeaker cX1_comesSpeaker 3 (some .int)) ({ frames := 7, cells := 2, slots := 14, locals := 147 } : Room) (gPc [.ref (lL a), .int x] k ((leW k a T pit cor tol) ++ fr)) (QcM k (oP k (lL a) fr out)) (QxM k (oX k fr out)) 2 14 (Ab k) := by
  refine vy_ofW (cc := cX1_comesSpeaker) (maxL := 3) (ret := (some .int)) (by decide) rfl ?_
  intro p e s m args below meth c s₁ B hml hex hv
  obtain ⟨rfl, hP, hG⟩ := hv
  have hx := B.exec
  have hb := B.bytes
  have hr := B.returns
  have hts := atoms_spec (ws := ws_ yX1_comesSpeaker cX1_comesSpeaker 3 (some .int)) B.pre
  have hts : ∀ w ∈ lw_all, w.before _ s = true := fun w h => hts w (List.mem_cons_of_mem _ h)
  have hown : s.vm.findClass RX1 = some m.cls := findClass_of_methodNamed B.named
  have hlocks := B.notSynchronized
  have hl := lv_entry ([.ref (lL a), .int x]) (n := 3) (Nat.le_of_ble_eq_true rfl)
  rw [lg_entry_eq]
  generalize (lg_sl ([.ref (lL a), .int x]) ++ List.replicate (3 - (lg_sl ([.ref (lL a), .int x])).length) Slot.unset).toArray = ls at hl ⊢
  have hl : lv_has ls 3 [(0, .ref (lL a)), (1, .int x)] := hl
  have hS : va_S (Ab k) s.heap s.heap [] := va_S.rf
  refine lv_iload_n hx hb dX1_comesSpeaker_0 rfl (lv_at hl 1 rfl) ?_
  refine c_call (va_runSN (As := [.int x]) (rest := []) ⟨hx, hb, hml, hown, hts⟩ (met_X0_isPitch (isPitch_eq _)) ⟨va_cnB 1 hts (lw_meth q451) rfl rfl rfl (nm_LectureTurns_Lecture_71 hG) (hts _ q66) hd_X0_isPitch ⟨Nat.le_of_ble_eq_true rfl, Nat.le_of_ble_eq_true rfl⟩, hts _ q450, trivial⟩ m_preS rfl rfl hl.1 rfl (lv_room (Nat.le_of_ble_eq_true rfl)) dX1_comesSpeaker_1 ⟨Nat.le_of_ble_eq_true rfl, Nat.le_of_ble_eq_true rfl⟩) ?_
  refine lv_ldc hx hb hown (hts _ q455) dX1_comesSpeaker_4 ?_
  refine d_callM (vy_runSN (As := [.int (bi (ib (x).toInt64 50 500)), .int (-1000001 : Int32)]) (rest := []) ⟨hx, hb, hml, hown, hts⟩ (met_X0_need htr hD) ⟨va_cnB 2 hts (lw_meth q458) rfl rfl rfl (nm_LectureTurns_Lecture_57 hG) (hts _ q66) hd_X0_need ⟨Nat.le_of_ble_eq_true rfl, Nat.le_of_ble_eq_true rfl⟩, hts _ q457, trivial⟩ (g_preS hG hS hP) rfl rfl hl.1 rfl (lv_room (Nat.le_of_ble_eq_true rfl)) dX1_comesSpeaker_6 ⟨Nat.le_of_ble_eq_true rfl, Nat.le_of_ble_eq_true rfl⟩) hS (fun E ce q9 w H locs hp hM hP hD hS h1 h2 h3 => ?_) (fun v w H locs hp hP hD hS => ?_)
  · obtain ⟨n1, rfl, u, sen, rfl⟩ := hp
    exact d_out (fun x h9 => (hex x h9).elim) hlocks h1 h2 h3 ⟨(-1000001 : Int32), .null, u, sen, leW k a T pit cor tol, (by have h9 := h; unfold o_comesS at h9; dsimp only at h9; rw [if_pos n1] at h9; cases h9; rfl), rfl, rfl⟩ hM hP hD hS (Nat.le_of_ble_eq_true rfl) (Nat.le_of_ble_eq_true rfl)
  obtain ⟨n1, rfl, rfl⟩ := hp
  have hP : va_P (kD k) gCl ((leW k a T pit cor tol) ++ fr) _ := hP
  have hD : va_D (Ab k) ((leW k a T pit cor tol) ++ fr) := hD
  refine lv_iconst (v := 0) hx hb dX1_comesSpeaker_9 (by decide) ?_
  refine lv_istore_n (lv' := [(2, .int (0 : Int32)), (0, .ref (lL a)), (1, .int x)]) hx hb dX1_comesSpeaker_10 rfl hl (by decide) rfl (fun ls hl => ?_)
  refine lp_X1_comesSpeaker (x := x) hx hb hml hown hts hG hP 6 0 ls rfl (lv_sub hl [0, 1, 2] rfl) (fun ls hl => ?_)
  refine lv_iload_n hx hb dX1_comesSpeaker_32 rfl (lv_at hl 0 rfl) ?_
  refine lv_bipush (v := 6) hx hb dX1_comesSpeaker_33 (by decide) ?_
  refine lv_icmp_ge (tgt := 42) hx hb dX1_comesSpeaker_35 (by decide) (fun c2 => ?_) (fun c2 => ?_)
  · refine lv_iconst (v := 0) hx hb dX1_comesSpeaker_42 (by decide) ?_
    refine lv_ldc hx hb hown (hts _ q525) dX1_comesSpeaker_43 ?_
    refine d_callM (vy_runSN (As := [.int (0 : Int32), .int (-1000003 : Int32)]) (rest := []) ⟨hx, hb, hml, hown, hts⟩ (met_X0_need htr hD) ⟨va_cnB 2 hts (lw_meth q458) rfl rfl rfl (nm_LectureTurns_Lecture_57 hG) (hts _ q66) hd_X0_need ⟨Nat.le_of_ble_eq_true rfl, Nat.le_of_ble_eq_true rfl⟩, hts _ q457, trivial⟩ (g_preS hG hS hP) rfl rfl hl.1 rfl (lv_room (Nat.le_of_ble_eq_true rfl)) dX1_comesSpeaker_45 ⟨Nat.le_of_ble_eq_true rfl, Nat.le_of_ble_eq_true rfl⟩) hS (fun E ce q9 w H locs hp hM hP hD hS h1 h2 h3 => ?_) (fun v w H locs hp hP hD hS => ?_)
    · obtain ⟨n3, rfl, u, sen, rfl⟩ := hp
      exact d_out (fun x h9 => (hex x h9).elim) hlocks h1 h2 h3 ⟨(-1000003 : Int32), .null, u, sen, leW k a T pit cor tol, (by have h9 := h; unfold o_comesS at h9; dsimp only at h9; rw [if_neg n1] at h9; rw [if_pos c2] at h9; cases h9; rfl), rfl, rfl⟩ hM hP hD hS (Nat.le_of_ble_eq_true rfl) (Nat.le_of_ble_eq_true rfl)
    · exact absurd rfl hp.1
  · refine lv_iconst (v := 1) hx hb dX1_comesSpeaker_38 (by decide) ?_
    refine lv_goto (tgt := 43) hx hb dX1_comesSpeaker_39 (by decide) ?_
    refine lv_ldc hx hb hown (hts _ q525) dX1_comesSpeaker_43 ?_
    refine d_callM (vy_runSN (As := [.int (1 : Int32), .int (-1000003 : Int32)]) (rest := []) ⟨hx, hb, hml, hown, hts⟩ (met_X0_need htr hD) ⟨va_cnB 2 hts (lw_meth q458) rfl rfl rfl (nm_LectureTurns_Lecture_57 hG) (hts _ q66) hd_X0_need ⟨Nat.le_of_ble_eq_true rfl, Nat.le_of_ble_eq_true rfl⟩, hts _ q457, trivial⟩ (g_preS hG hS hP) rfl rfl hl.1 rfl (lv_room (Nat.le_of_ble_eq_true rfl)) dX1_comesSpeaker_45 ⟨Nat.le_of_ble_eq_true rfl, Nat.le_of_ble_eq_true rfl⟩) hS (fun E ce q9 w H locs hp hM hP hD hS h1 h2 h3 => ?_) (fun v w H locs hp hP hD hS => ?_)
    · exact absurd hp.1 (by decide)
    obtain ⟨n4, rfl, rfl⟩ := hp
    have hP : va_P (kD k) gCl ((leW k a T pit cor tol) ++ fr) _ := hP
    have hD : va_D (Ab k) ((leW k a T pit cor tol) ++ fr) := hD
    refine lv_aload_n hx hb dX1_comesSpeaker_48 rfl (lv_at hl 1 rfl) ?_
    have hPs : va_P (kD k) gCl (leW k a T pit cor tol) _ := hP.of_mem (fun x hx => (List.mem_append_left _ hx))
    refine va_get (ci := 1) (v := .ref (lP a)) (C := RX1) (T := TX1) (N := 4) hx hb hts in_X1 hown hG.K (le_o hPs) 0 rfl rfl 1 (by decide) (hts _ q153) (fun _ h9 => h9) rfl dX1_comesSpeaker_49 ?_
    refine lv_iload_n hx hb dX1_comesSpeaker_52 rfl (lv_at hl 0 rfl) ?_
    refine lv_iload_n hx hb dX1_comesSpeaker_53 rfl (lv_at hl 2 rfl) ?_
    rw [leW_flat] at hP hD
    have hP : va_P (kD k) gCl (((lL a), .inr (1, [.ref (lS a), .ref (lP a), .ref (lK a), .int tol])) :: (((lS a), .inr (2, [.ref (lR a)])) :: (((lP a), .inl (kA k, 6, .inl pit)) :: (((lK a), .inl (kA k, 16, .inl cor)) :: (((lR a), .inr (9, [.int (lM a), .ref (lE a), .int (nI (tads T).length)])) :: ((lsA k (lE a) (lC a) (tads T)) ++ ((tusW k T) ++ fr))))))) _ := hP
    have hD : va_D (Ab k) (((lL a), .inr (1, [.ref (lS a), .ref (lP a), .ref (lK a), .int tol])) :: (((lS a), .inr (2, [.ref (lR a)])) :: (((lP a), .inl (kA k, 6, .inl pit)) :: (((lK a), .inl (kA k, 16, .inl cor)) :: (((lR a), .inr (9, [.int (lM a), .ref (lE a), .int (nI (tads T).length)])) :: ((lsA k (lE a) (lC a) (tads T)) ++ ((tusW k T) ++ fr))))))) := hD
    have hf6 : (freeS pit 6 0) < 6 := by
      have h7 := freeS_le pit 6 0
      refine Nat.lt_of_not_le (fun h6 => c2 (nI_le (a := 6) h6 (by omega)))
    refine va_iast hx hb hG.K hP hD hS 2 0 rfl rfl (vp_in_nI hf6 (by omega)) dX1_comesSpeaker_54 (fun H locs hP hD hS => ?_)
    have hP : va_P (kD k) gCl (((lL a), .inr (1, [.ref (lS a), .ref (lP a), .ref (lK a), .int tol])) :: (((lS a), .inr (2, [.ref (lR a)])) :: (((lP a), .inl (kA k, 6, .inl (upd pit (nI (freeS pit 6 0)).toNatClampNeg x))) :: (((lK a), .inl (kA k, 16, .inl cor)) :: (((lR a), .inr (9, [.int (lM a), .ref (lE a), .int (nI (tads T).length)])) :: ((lsA k (lE a) (lC a) (tads T)) ++ ((tusW k T) ++ fr))))))) _ := hP
    have hD : va_D (Ab k) (((lL a), .inr (1, [.ref (lS a), .ref (lP a), .ref (lK a), .int tol])) :: (((lS a), .inr (2, [.ref (lR a)])) :: (((lP a), .inl (kA k, 6, .inl (upd pit (nI (freeS pit 6 0)).toNatClampNeg x))) :: (((lK a), .inl (kA k, 16, .inl cor)) :: (((lR a), .inr (9, [.int (lM a), .ref (lE a), .int (nI (tads T).length)])) :: ((lsA k (lE a) (lC a) (tads T)) ++ ((tusW k T) ++ fr))))))) := hD
    rw [nI_clamp (show (freeS pit 6 0) < 2 ^ 31 by omega)] at hP hD
    have hpf := leW_fold (k := k) (a := a) (T2 := T) (pit := (upd pit (freeS pit 6 0) x)) (cor := cor) (tol := tol) (fr := fr) (List.Perm.refl _)
    have hP : va_P (kD k) gCl (leW k a T (upd pit (freeS pit 6 0) x) cor tol ++ fr) _ := hP.perm hpf
    have hD : va_D (Ab k) (leW k a T (upd pit (freeS pit 6 0) x) cor tol ++ fr) := hD.perm hpf
    refine lv_iload_n hx hb dX1_comesSpeaker_55 rfl (lv_at hl 0 rfl) ?_
    refine vy_ret ?_
    refine W.widen (k := 2) (n := 14) (Nat.le_of_ble_eq_true rfl) (Nat.le_of_ble_eq_true rfl) ?_
    exact W.iret hx hb hr (fun t9 ht9 hW9 => c_retM (w := (leW k a T (upd pit (freeS pit 6 0) x) cor tol) ++ fr) ⟨nI (freeS pit 6 0), (vs, upd pit (freeS pit 6 0) x, cor, tol), a, T, (by have h9 := h; unfold o_comesS at h9; dsimp only at h9; rw [if_neg n1] at h9; rw [if_neg c2] at h9; cases h9; rfl), rfl, rfl, hvs, hO, rfl⟩ hP hD hS ht9) hS.2.2 dX1_comesSpeaker_56
