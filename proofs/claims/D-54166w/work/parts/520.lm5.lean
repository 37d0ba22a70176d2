/-! Lecture: average, gives (printed by wip/gen/gen_lm5.py) -/
/-- the pitches of a speaker's turns, added up -/
def sumP (vs : List TV) (x : Int32) : Int32 := vs.foldl (fun s v => s + if vS v = x then vP v else 0) 0
theorem sumP_app (vs : List TV) (v : TV) (x : Int32) : sumP (vs ++ [v]) x = sumP vs x + if vS v = x then vP v else 0 := by
  unfold sumP; rw [List.foldl_append]; rfl
theorem take_next {α : Type} {vs : List α} {i : Nat} {v : α} (h : vs[i]? = some v) : vs.take (i + 1) = vs.take i ++ [v] := by
  rw [List.take_add_one, h]; rfl
def avg (vs : List TV) (pit : Nat → Int32) (x many : Int32) : Int32 := if many = 0 then pit x.toNatClampNeg else sumP vs x / many
def o_avg (vs : List TV) (pit : Nat → Int32) (x : Int32) : Option (Nat → Int32) := (m_X1_turnsOf 21 vs x).bind fun many => some (upd pit x.toNatClampNeg (avg vs pit x many))
def o_gives (L : LV) (x y : Int32) : Option OR :=
  (m_X1_isSpeaker L.2.1 y).bind fun b =>
  if bi b = 0 then some (.error (-1000001)) else
  match pAt L.1 x with
  | none => some (.error (-1000001))
  | some v => if vS v = y then some (.error (-1000002)) else
    (o_avg (L.1.set x.toNatClampNeg (vB v, vE v, vP v, y, vT v)) L.2.1 y).bind fun pit2 =>
    some (.ok (pit2 y.toNatClampNeg, (L.1.set x.toNatClampNeg (vB v, vE v, vP v, y, vT v), pit2, L.2.2.1, L.2.2.2)))
set_option maxHeartbeats 4000000 in
set_option maxRecDepth 100000 in
theorem lp_X1_average {p : Program} {l : Launch} {e : Env} {s : State} {m : MethodId} {args : Array Value} {below : List Frame} {meth : Method} {c : Code} {Q : State → Prop} {k : Cx} {fr : va_W} {a : LA} {T : List TT} {vs : List TV} {pit cor : Nat → Int32} {tol : Int32} {x many : Int32} {H : Heap} {locs : List Loc} {cells slots : Nat} (hx : p.tables.exec = Jvm.exec) (hb : c.code = cX1_average) (hml : c.maxLocals = 5) (hown : s.vm.findClass RX1 = some m.cls) (hts : ∀ w ∈ lw_all, w.before args s = true) (hG : GU k s) (hvs : T.map Prod.snd = vs) (hO : leOk k a T) (h20 : vs.length ≤ 20) (hP : va_P (kD k) gCl ((leW k a T pit cor tol) ++ fr) H) (hS : va_S (Ab k) s.heap H locs) : ∀ (r i : Nat) (ls : Array Slot), i + r = vs.length → cells ≤ 0 → slots ≤ 0 → lv_has ls 5 [(4, .int (nI i)), (3, .int (sumP (vs.take i) x)), (2, .int many), (0, .ref (lL a)), (1, .int x)] → (∀ (ls : Array Slot), lv_has ls 5 [(3, .int (sumP vs x)), (2, .int many), (0, .ref (lL a)), (1, .int x)] → W p l e ({ frames := 6, cells := 0, slots := 0, locals := 120 } : Room) s m args below meth c H locs cells slots Q (F0 m 70 ls [])) → W p l e ({ frames := 6, cells := 0, slots := 0, locals := 120 } : Room) s m args below meth c H locs cells slots Q (F0 m 11 ls []) := by
  intro r
  induction r with
  | zero =>
    intro i ls hi hc0 hs0 hl K
    refine lv_iload hx hb dX1_average_11 (lv_at hl 0 rfl) ?_
    refine lv_aload_n hx hb dX1_average_13 rfl (lv_at hl 3 rfl) ?_
    have hPs : va_P (kD k) gCl (leW k a T pit cor tol) _ := hP.of_mem (fun x hx => (List.mem_append_left _ hx))
    refine va_get (ci := 1) (v := .ref (lS a)) (C := RX1) (T := TX1) (N := 4) hx hb hts in_X1 hown hG.K (le_o hPs) 0 rfl rfl 0 (by decide) (hts _ q151) (fun _ h9 => h9) rfl dX1_average_14 ?_
    have hPs : va_P (kD k) gCl (leW k a T pit cor tol) _ := hP.of_mem (fun x hx => (List.mem_append_left _ hx))
    refine c_call (va_runV (As := []) (rest := [.int (nI i)]) ⟨hx, hb, hml, hown, hts⟩ (met_X2_size (n := vs.length) (by rw [← hvs]; simp)) (cwV 0 hts (lw_V q243 q244 q245 q68 q246) rfl rfl rfl ⟨rfl, hd_X2_size⟩ ⟨Nat.le_of_ble_eq_true rfl, Nat.le_of_ble_eq_true rfl⟩) (g_preV hG hS (le_st hPs) (va_recv hG.K (le_s hPs) (ci := 2) (q0 := 0) rfl rfl)) rfl rfl hl.1 rfl (lv_room (Nat.le_of_ble_eq_true rfl)) dX1_average_17 ⟨by show _ ≤ 0; omega, by show _ ≤ 0; omega⟩) ?_
    refine lv_icmp_ge (tgt := 70) hx hb dX1_average_20 (by decide) (fun c1 => ?_) (fun c1 => absurd (nI_le (a := vs.length) (b := i) (by omega) (by omega)) c1)
    have e9 : vs.take i = vs := List.take_of_length_le (by omega)
    rw [e9] at hl
    exact K ls (lv_sub hl [1, 2, 3, 4] rfl)
  | succ r ih =>
    intro i ls hi hc0 hs0 hl K
    have hTn : T.length = vs.length := by rw [← hvs]; simp
    obtain ⟨t, ht⟩ : ∃ t, T[i]? = some t := ⟨T[i], List.getElem?_eq_getElem (by omega)⟩
    have hv : vs[i]? = some t.2 := by rw [← hvs, List.getElem?_map, ht]; rfl
    have hq : pAt (tads T) (nI i) = some (aT t.1) := pAt_of (nI_pos (by omega)) (by rw [nI_clamp (by omega), List.getElem?_map, ht]; rfl)
    refine lv_iload hx hb dX1_average_11 (lv_at hl 0 rfl) ?_
    refine lv_aload_n hx hb dX1_average_13 rfl (lv_at hl 3 rfl) ?_
    have hPs : va_P (kD k) gCl (leW k a T pit cor tol) _ := hP.of_mem (fun x hx => (List.mem_append_left _ hx))
    refine va_get (ci := 1) (v := .ref (lS a)) (C := RX1) (T := TX1) (N := 4) hx hb hts in_X1 hown hG.K (le_o hPs) 0 rfl rfl 0 (by decide) (hts _ q151) (fun _ h9 => h9) rfl dX1_average_14 ?_
    have hPs : va_P (kD k) gCl (leW k a T pit cor tol) _ := hP.of_mem (fun x hx => (List.mem_append_left _ hx))
    refine c_call (va_runV (As := []) (rest := [.int (nI i)]) ⟨hx, hb, hml, hown, hts⟩ (met_X2_size (n := vs.length) (by rw [← hvs]; simp)) (cwV 0 hts (lw_V q243 q244 q245 q68 q246) rfl rfl rfl ⟨rfl, hd_X2_size⟩ ⟨Nat.le_of_ble_eq_true rfl, Nat.le_of_ble_eq_true rfl⟩) (g_preV hG hS (le_st hPs) (va_recv hG.K (le_s hPs) (ci := 2) (q0 := 0) rfl rfl)) rfl rfl hl.1 rfl (lv_room (Nat.le_of_ble_eq_true rfl)) dX1_average_17 ⟨by show _ ≤ 0; omega, by show _ ≤ 0; omega⟩) ?_
    refine lv_icmp_ge (tgt := 70) hx hb dX1_average_20 (by decide) (fun c1 => absurd c1 (nI_ge (a := i) (b := vs.length) (by omega) (by omega))) (fun c1 => ?_)
    refine lv_iload_n hx hb dX1_average_23 rfl (lv_at hl 1 rfl) ?_
    refine lv_aload_n hx hb dX1_average_24 rfl (lv_at hl 3 rfl) ?_
    have hPs : va_P (kD k) gCl (leW k a T pit cor tol) _ := hP.of_mem (fun x hx => (List.mem_append_left _ hx))
    refine va_get (ci := 1) (v := .ref (lS a)) (C := RX1) (T := TX1) (N := 4) hx hb hts in_X1 hown hG.K (le_o hPs) 0 rfl rfl 0 (by decide) (hts _ q151) (fun _ h9 => h9) rfl dX1_average_25 ?_
    refine lv_iload hx hb dX1_average_28 (lv_at hl 0 rfl) ?_
    have hPs : va_P (kD k) gCl (leW k a T pit cor tol) _ := hP.of_mem (fun x hx => (List.mem_append_left _ hx))
    refine c_call (va_runV (As := [.int (nI i)]) (rest := [.int (sumP (vs.take i) x)]) ⟨hx, hb, hml, hown, hts⟩ (met_X2_at (t := t) hO.1 hq) (cwV 1 hts (lw_V q253 q254 q255 q68 q256) rfl rfl rfl ⟨rfl, hd_X2_at⟩ ⟨Nat.le_of_ble_eq_true rfl, Nat.le_of_ble_eq_true rfl⟩) (g_preV hG hS (va_P.cons (le_t hPs ht) (le_st hPs)) (va_recv hG.K (le_s hPs) (ci := 2) (q0 := 0) rfl rfl)) rfl rfl hl.1 rfl (lv_room (Nat.le_of_ble_eq_true rfl)) dX1_average_30 ⟨by show _ ≤ 0; omega, by show _ ≤ 0; omega⟩) ?_
    have hPs : va_P (kD k) gCl (leW k a T pit cor tol) _ := hP.of_mem (fun x hx => (List.mem_append_left _ hx))
    refine va_castS hx hb hown (hts _ q251) (hG.K.1 4 _ rfl).2 (va_recv hG.K (le_t hPs ht) (ci := 4) (q0 := 0) rfl rfl) dX1_average_33 ?_
    have hPs : va_P (kD k) gCl (leW k a T pit cor tol) _ := hP.of_mem (fun x hx => (List.mem_append_left _ hx))
    refine va_getN (ci := 4) (v := .int (vS t.2)) (C := RX4) (T := TX4) (N := 5) hx hb hts in_X4 hown hG.K (le_t hPs ht) 0 rfl rfl 3 (by decide) (nf_LectureTurns_Lecture_81 hG) (fun _ h9 => h9) rfl dX1_average_36 ?_
    refine lv_iload_n hx hb dX1_average_39 rfl (lv_at hl 4 rfl) ?_
    refine lv_icmp_ne (tgt := 61) hx hb dX1_average_40 (by decide) (fun c2 => ?_) (fun c2 => ?_)
    · refine lv_iconst (v := 0) hx hb dX1_average_61 (by decide) ?_
      refine lv_iadd hx hb dX1_average_62 ?_
      refine lv_istore_n (lv' := [(3, .int ((sumP (vs.take i) x) + (0 : Int32))), (4, .int (nI i)), (2, .int many), (0, .ref (lL a)), (1, .int x)]) hx hb dX1_average_63 rfl hl (by decide) rfl (fun ls hl => ?_)
      refine lv_iinc (v := nI (i + 1)) (lv' := [(4, .int (nI (i + 1))), (3, .int ((sumP (vs.take i) x) + (0 : Int32))), (2, .int many), (0, .ref (lL a)), (1, .int x)]) hx hb dX1_average_64 hl (k := 1) rfl (nI_succ i).symm (by decide) rfl (fun ls hl => ?_)
      refine lv_goto (tgt := 11) hx hb dX1_average_67 (by decide) ?_
      have e8 : ((sumP (vs.take i) x) + (0 : Int32)) = sumP (vs.take (i + 1)) x := by rw [take_next hv, sumP_app, if_neg c2]
      rw [e8] at hl
      exact ih (i + 1) ls (by omega) hc0 hs0 (lv_sub hl [0, 1, 2, 3, 4] rfl) K
    · refine lv_aload_n hx hb dX1_average_43 rfl (lv_at hl 3 rfl) ?_
      have hPs : va_P (kD k) gCl (leW k a T pit cor tol) _ := hP.of_mem (fun x hx => (List.mem_append_left _ hx))
      refine va_get (ci := 1) (v := .ref (lS a)) (C := RX1) (T := TX1) (N := 4) hx hb hts in_X1 hown hG.K (le_o hPs) 0 rfl rfl 0 (by decide) (hts _ q151) (fun _ h9 => h9) rfl dX1_average_44 ?_
      refine lv_iload hx hb dX1_average_47 (lv_at hl 0 rfl) ?_
      have hPs : va_P (kD k) gCl (leW k a T pit cor tol) _ := hP.of_mem (fun x hx => (List.mem_append_left _ hx))
      refine c_call (va_runV (As := [.int (nI i)]) (rest := [.int (sumP (vs.take i) x)]) ⟨hx, hb, hml, hown, hts⟩ (met_X2_at (t := t) hO.1 hq) (cwV 1 hts (lw_V q253 q254 q255 q68 q256) rfl rfl rfl ⟨rfl, hd_X2_at⟩ ⟨Nat.le_of_ble_eq_true rfl, Nat.le_of_ble_eq_true rfl⟩) (g_preV hG hS (va_P.cons (le_t hPs ht) (le_st hPs)) (va_recv hG.K (le_s hPs) (ci := 2) (q0 := 0) rfl rfl)) rfl rfl hl.1 rfl (lv_room (Nat.le_of_ble_eq_true rfl)) dX1_average_49 ⟨by show _ ≤ 0; omega, by show _ ≤ 0; omega⟩) ?_
      have hPs : va_P (kD k) gCl (leW k a T pit cor tol) _ := hP.of_mem (fun x hx => (List.mem_append_left _ hx))
      refine va_castS hx hb hown (hts _ q251) (hG.K.1 4 _ rfl).2 (va_recv hG.K (le_t hPs ht) (ci := 4) (q0 := 0) rfl rfl) dX1_average_52 ?_
      have hPs : va_P (kD k) gCl (leW k a T pit cor tol) _ := hP.of_mem (fun x hx => (List.mem_append_left _ hx))
      refine va_getN (ci := 4) (v := .int (vP t.2)) (C := RX4) (T := TX4) (N := 5) hx hb hts in_X4 hown hG.K (le_t hPs ht) 0 rfl rfl 2 (by decide) (nf_LectureTurns_Lecture_114 hG) (fun _ h9 => h9) rfl dX1_average_55 ?_
      refine lv_goto (tgt := 62) hx hb dX1_average_58 (by decide) ?_
      refine lv_iadd hx hb dX1_average_62 ?_
      refine lv_istore_n (lv' := [(3, .int ((sumP (vs.take i) x) + (vP t.2))), (4, .int (nI i)), (2, .int many), (0, .ref (lL a)), (1, .int x)]) hx hb dX1_average_63 rfl hl (by decide) rfl (fun ls hl => ?_)
      refine lv_iinc (v := nI (i + 1)) (lv' := [(4, .int (nI (i + 1))), (3, .int ((sumP (vs.take i) x) + (vP t.2))), (2, .int many), (0, .ref (lL a)), (1, .int x)]) hx hb dX1_average_64 hl (k := 1) rfl (nI_succ i).symm (by decide) rfl (fun ls hl => ?_)
      refine lv_goto (tgt := 11) hx hb dX1_average_67 (by decide) ?_
      have e8 : ((sumP (vs.take i) x) + (vP t.2)) = sumP (vs.take (i + 1)) x := by rw [take_next hv, sumP_app, if_pos c2]
      rw [e8] at hl
      exact ih (i + 1) ls (by omega) hc0 hs0 (lv_sub hl [0, 1, 2, 3, 4] rfl) K
theorem hd_X1_average : yX1_average.cls ≠ "java/lang/invoke/MethodHandle" ∧ yX1_average.cls ≠ "java/lang/invoke/VarHandle" ∧ (parseMethodDescriptor yX1_average.desc).map (fun d => d.parameters.length) = some 1 := by decide +kernel
set_option maxHeartbeats 4000000 in
set_option maxRecDepth 100000 in
theorem met_X1_average {l : Launch} {k : Cx} {a : LA} {T : List TT} {vs : List TV} {pit cor : Nat → Int32} {tol : Int32} {fr : va_W} {x many : Int32} (hvs : T.map Prod.snd = vs) (hO : leOk k a T) (h20 : vs.length ≤ 20) (hin6 : vp_in x 6) (hmany : m_X1_turnsOf 21 vs x = some many) (hD : va_D (Ab k) ((leW k a T pit cor tol) ++ fr)) : Met l yX1_average (ws_ yX1_average cX1_average 5 none) ({ frames := 6, cells := 0, slots := 0, locals := 120 } : Room) (gPc [.ref (lL a), .int x] k ((leW k a T pit cor tol) ++ fr)) (QcM k (fun v w => v = none ∧ w = leW k a T (upd pit x.toNatClampNeg (avg vs pit x many)) cor tol ++ fr)) 0 0 (Ab k) := by
  refine Met.ofW (cc := cX1_average) (maxL := 5) (ret := none) (by decide) rfl ?_
  intro p e s m args below meth c s₁ B hml hv
  obtain ⟨rfl, hP, hG⟩ := hv
  have hx := B.exec
  have hb := B.bytes
  have hr := B.returns
  have hts := atoms_spec (ws := ws_ yX1_average cX1_average 5 none) B.pre
  have hts : ∀ w ∈ lw_all, w.before _ s = true := fun w h => hts w (List.mem_cons_of_mem _ h)
  have hown : s.vm.findClass RX1 = some m.cls := findClass_of_methodNamed B.named
  have hlocks := B.notSynchronized
  have hl := lv_entry ([.ref (lL a), .int x]) (n := 5) (Nat.le_of_ble_eq_true rfl)
  rw [lg_entry_eq]
  generalize (lg_sl ([.ref (lL a), .int x]) ++ List.replicate (5 - (lg_sl ([.ref (lL a), .int x])).length) Slot.unset).toArray = ls at hl ⊢
  have hl : lv_has ls 5 [(0, .ref (lL a)), (1, .int x)] := hl
  have hS : va_S (Ab k) s.heap s.heap [] := va_S.rf
  refine lv_aload_n hx hb dX1_average_0 rfl (lv_at hl 0 rfl) ?_
  refine lv_iload_n hx hb dX1_average_1 rfl (lv_at hl 1 rfl) ?_
  have hPs : va_P (kD k) gCl (leW k a T pit cor tol) _ := hP.of_mem (fun x hx => (List.mem_append_left _ hx))
  refine c_call (va_runV (As := [.int x]) (rest := []) ⟨hx, hb, hml, hown, hts⟩ (met_X1_turnsOf (nf := 21) hvs hO hmany) (cwV 1 hts (lw_V q668 q669 q670 q67 q671) rfl rfl rfl ⟨rfl, hd_X1_turnsOf⟩ ⟨Nat.le_of_ble_eq_true rfl, Nat.le_of_ble_eq_true rfl⟩) (g_preV hG hS hPs (va_recv hG.K (le_o hPs) (ci := 1) (q0 := 0) rfl rfl)) rfl rfl hl.1 rfl (lv_room (Nat.le_of_ble_eq_true rfl)) dX1_average_2 ⟨Nat.le_of_ble_eq_true rfl, Nat.le_of_ble_eq_true rfl⟩) ?_
  refine lv_istore_n (lv' := [(2, .int many), (0, .ref (lL a)), (1, .int x)]) hx hb dX1_average_5 rfl hl (by decide) rfl (fun ls hl => ?_)
  refine lv_iconst (v := 0) hx hb dX1_average_6 (by decide) ?_
  refine lv_istore_n (lv' := [(3, .int (0 : Int32)), (2, .int many), (0, .ref (lL a)), (1, .int x)]) hx hb dX1_average_7 rfl hl (by decide) rfl (fun ls hl => ?_)
  refine lv_iconst (v := 0) hx hb dX1_average_8 (by decide) ?_
  refine lv_istore (lv' := [(4, .int (0 : Int32)), (3, .int (0 : Int32)), (2, .int many), (0, .ref (lL a)), (1, .int x)]) hx hb dX1_average_9 hl (by decide) rfl (fun ls hl => ?_)
  refine lp_X1_average (x := x) (many := many) hx hb hml hown hts hG hvs hO h20 hP hS vs.length 0 ls (by omega) (Nat.le_refl _) (Nat.le_refl _) (lv_sub hl [0, 1, 2, 3, 4] rfl) (fun ls hl => ?_)
  refine lv_aload_n hx hb dX1_average_70 rfl (lv_at hl 2 rfl) ?_
  have hPs : va_P (kD k) gCl (leW k a T pit cor tol) _ := hP.of_mem (fun x hx => (List.mem_append_left _ hx))
  refine va_get (ci := 1) (v := .ref (lP a)) (C := RX1) (T := TX1) (N := 4) hx hb hts in_X1 hown hG.K (le_o hPs) 0 rfl rfl 1 (by decide) (hts _ q153) (fun _ h9 => h9) rfl dX1_average_71 ?_
  refine lv_iload_n hx hb dX1_average_74 rfl (lv_at hl 3 rfl) ?_
  refine lv_iload_n hx hb dX1_average_75 rfl (lv_at hl 1 rfl) ?_
  refine lv_if_ne (tgt := 88) hx hb dX1_average_76 (by decide) (fun c1 => ?_) (fun c1 => ?_)
  · refine lv_iload_n hx hb dX1_average_88 rfl (lv_at hl 0 rfl) ?_
    refine lv_iload_n hx hb dX1_average_89 rfl (lv_at hl 1 rfl) ?_
    refine lv_idiv hx hb dX1_average_90 c1 ?_
    rw [leW_flat] at hP hD
    have hP : va_P (kD k) gCl (((lL a), .inr (1, [.ref (lS a), .ref (lP a), .ref (lK a), .int tol])) :: (((lS a), .inr (2, [.ref (lR a)])) :: (((lP a), .inl (kA k, 6, .inl pit)) :: (((lK a), .inl (kA k, 16, .inl cor)) :: (((lR a), .inr (9, [.int (lM a), .ref (lE a), .int (nI (tads T).length)])) :: ((lsA k (lE a) (lC a) (tads T)) ++ ((tusW k T) ++ fr))))))) _ := hP
    have hD : va_D (Ab k) (((lL a), .inr (1, [.ref (lS a), .ref (lP a), .ref (lK a), .int tol])) :: (((lS a), .inr (2, [.ref (lR a)])) :: (((lP a), .inl (kA k, 6, .inl pit)) :: (((lK a), .inl (kA k, 16, .inl cor)) :: (((lR a), .inr (9, [.int (lM a), .ref (lE a), .int (nI (tads T).length)])) :: ((lsA k (lE a) (lC a) (tads T)) ++ ((tusW k T) ++ fr))))))) := hD
    refine va_iast hx hb hG.K hP hD hS 2 0 rfl rfl hin6 dX1_average_91 (fun H locs hP hD hS => ?_)
    have hP : va_P (kD k) gCl (((lL a), .inr (1, [.ref (lS a), .ref (lP a), .ref (lK a), .int tol])) :: (((lS a), .inr (2, [.ref (lR a)])) :: (((lP a), .inl (kA k, 6, .inl (upd pit x.toNatClampNeg ((sumP vs x) / many)))) :: (((lK a), .inl (kA k, 16, .inl cor)) :: (((lR a), .inr (9, [.int (lM a), .ref (lE a), .int (nI (tads T).length)])) :: ((lsA k (lE a) (lC a) (tads T)) ++ ((tusW k T) ++ fr))))))) _ := hP
    have hD : va_D (Ab k) (((lL a), .inr (1, [.ref (lS a), .ref (lP a), .ref (lK a), .int tol])) :: (((lS a), .inr (2, [.ref (lR a)])) :: (((lP a), .inl (kA k, 6, .inl (upd pit x.toNatClampNeg ((sumP vs x) / many)))) :: (((lK a), .inl (kA k, 16, .inl cor)) :: (((lR a), .inr (9, [.int (lM a), .ref (lE a), .int (nI (tads T).length)])) :: ((lsA k (lE a) (lC a) (tads T)) ++ ((tusW k T) ++ fr))))))) := hD
    have e8 : (upd pit x.toNatClampNeg ((sumP vs x) / many)) = upd pit x.toNatClampNeg (avg vs pit x many) := by unfold avg; rw [if_neg c1]
    rw [e8] at hP hD
    have hpf := leW_fold (k := k) (a := a) (T2 := T) (pit := (upd pit x.toNatClampNeg (avg vs pit x many))) (cor := cor) (tol := tol) (fr := fr) (List.Perm.refl _)
    have hP : va_P (kD k) gCl (leW k a T (upd pit x.toNatClampNeg (avg vs pit x many)) cor tol ++ fr) _ := hP.perm hpf
    have hD : va_D (Ab k) (leW k a T (upd pit x.toNatClampNeg (avg vs pit x many)) cor tol ++ fr) := hD.perm hpf
    exact W.vret hx hb hr (fun t9 ht9 hW9 => c_retM (w := (leW k a T (upd pit x.toNatClampNeg (avg vs pit x many)) cor tol) ++ fr) ⟨rfl, rfl⟩ hP hD hS ht9) hS.2.2 dX1_average_92
  · refine lv_aload_n hx hb dX1_average_79 rfl (lv_at hl 2 rfl) ?_
    have hPs : va_P (kD k) gCl (leW k a T pit cor tol) _ := hP.of_mem (fun x hx => (List.mem_append_left _ hx))
    refine va_get (ci := 1) (v := .ref (lP a)) (C := RX1) (T := TX1) (N := 4) hx hb hts in_X1 hown hG.K (le_o hPs) 0 rfl rfl 1 (by decide) (hts _ q153) (fun _ h9 => h9) rfl dX1_average_80 ?_
    refine lv_iload_n hx hb dX1_average_83 rfl (lv_at hl 3 rfl) ?_
    have hPs : va_P (kD k) gCl (leW k a T pit cor tol) _ := hP.of_mem (fun x hx => (List.mem_append_left _ hx))
    refine va_iald hx hb hG.K (le_p hPs) 0 0 rfl rfl hin6 dX1_average_84 ?_
    refine lv_goto (tgt := 91) hx hb dX1_average_85 (by decide) ?_
    rw [leW_flat] at hP hD
    have hP : va_P (kD k) gCl (((lL a), .inr (1, [.ref (lS a), .ref (lP a), .ref (lK a), .int tol])) :: (((lS a), .inr (2, [.ref (lR a)])) :: (((lP a), .inl (kA k, 6, .inl pit)) :: (((lK a), .inl (kA k, 16, .inl cor)) :: (((lR a), .inr (9, [.int (lM a), .ref (lE a), .int (nI (tads T).length)])) :: ((lsA k (lE a) (lC a) (tads T)) ++ ((tusW k T) ++ fr))))))) _ := hP
    have hD : va_D (Ab k) (((lL a), .inr (1, [.ref (lS a), .ref (lP a), .ref (lK a), .int tol])) :: (((lS a), .inr (2, [.ref (lR a)])) :: (((lP a), .inl (kA k, 6, .inl pit)) :: (((lK a), .inl (kA k, 16, .inl cor)) :: (((lR a), .inr (9, [.int (lM a), .ref (lE a), .int (nI (tads T).length)])) :: ((lsA k (lE a) (lC a) (tads T)) ++ ((tusW k T) ++ fr))))))) := hD
    refine va_iast hx hb hG.K hP hD hS 2 0 rfl rfl hin6 dX1_average_91 (fun H locs hP hD hS => ?_)
    have hP : va_P (kD k) gCl (((lL a), .inr (1, [.ref (lS a), .ref (lP a), .ref (lK a), .int tol])) :: (((lS a), .inr (2, [.ref (lR a)])) :: (((lP a), .inl (kA k, 6, .inl (upd pit x.toNatClampNeg (pit x.toNatClampNeg)))) :: (((lK a), .inl (kA k, 16, .inl cor)) :: (((lR a), .inr (9, [.int (lM a), .ref (lE a), .int (nI (tads T).length)])) :: ((lsA k (lE a) (lC a) (tads T)) ++ ((tusW k T) ++ fr))))))) _ := hP
    have hD : va_D (Ab k) (((lL a), .inr (1, [.ref (lS a), .ref (lP a), .ref (lK a), .int tol])) :: (((lS a), .inr (2, [.ref (lR a)])) :: (((lP a), .inl (kA k, 6, .inl (upd pit x.toNatClampNeg (pit x.toNatClampNeg)))) :: (((lK a), .inl (kA k, 16, .inl cor)) :: (((lR a), .inr (9, [.int (lM a), .ref (lE a), .int (nI (tads T).length)])) :: ((lsA k (lE a) (lC a) (tads T)) ++ ((tusW k T) ++ fr))))))) := hD
    have e8 : (upd pit x.toNatClampNeg (pit x.toNatClampNeg)) = upd pit x.toNatClampNeg (avg vs pit x many) := by unfold avg; rw [if_pos c1]
    rw [e8] at hP hD
    have hpf := leW_fold (k := k) (a := a) (T2 := T) (pit := (upd pit x.toNatClampNeg (avg vs pit x many))) (cor := cor) (tol := tol) (fr := fr) (List.Perm.refl _)
    have hP : va_P (kD k) gCl (leW k a T (upd pit x.toNatClampNeg (avg vs pit x many)) cor tol ++ fr) _ := hP.perm hpf
    have hD : va_D (Ab k) (leW k a T (upd pit x.toNatClampNeg (avg vs pit x many)) cor tol ++ fr) := hD.perm hpf
    exact W.vret hx hb hr (fun t9 ht9 hW9 => c_retM (w := (leW k a T (upd pit x.toNatClampNeg (avg vs pit x many)) cor tol) ++ fr) ⟨rfl, rfl⟩ hP hD hS ht9) hS.2.2 dX1_average_92
