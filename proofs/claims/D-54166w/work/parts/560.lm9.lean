/-! Lecture: follow (printed by wip/gen/gen_lm9.py) -/
/-- along the corrections: does it come to y? -/
def m_follow : Nat → (Nat → Int32) → Int32 → Int32 → Option Bool
  | 0, _, _, _ => none
  | n + 1, cor, x, y =>
    if x = y then some true else
    pg (¬ (x < 0 ∨ 16 ≤ x.toNatClampNeg)) <|
    if cor x.toNatClampNeg = (-1 : Int32) then some false else m_follow n cor (cor x.toNatClampNeg) y
/-- Circle -/
abbrev ciO (k : Cx) (q : Nat) (u sen : Value) : Nat × va_E := (q, .inr (6, [.ref q, u, sen, .ref (kS k 1), .null, .int 0]))
theorem hd_X1_follow : yX1_follow.cls ≠ "java/lang/invoke/MethodHandle" ∧ yX1_follow.cls ≠ "java/lang/invoke/VarHandle" ∧ (parseMethodDescriptor yX1_follow.desc).map (fun d => d.parameters.length) = some 2 := by decide +kernel
set_option maxHeartbeats 4000000 in
set_option maxRecDepth 100000 in
theorem met_X1_follow {l : Launch} (htr : l.stackTraces = false) {k : Cx} {a : LA} {T : List TT} {pit cor : Nat → Int32} {tol : Int32} {fr : va_W} (hD : va_D (Ab k) ((leW k a T pit cor tol) ++ fr)) : ∀ {n : Nat} {x y : Int32} {b : Bool}, m_follow n cor x y = some b → vy_Met l yX1_follow (ws_ yX1_follow cX1_follow 3 none) ({ frames := n + 6, cells := 1, slots := 6, locals := 122 + n * 22 } : Room) (gPc [.ref (lL a), .int x, .int y] k ((leW k a T pit cor tol) ++ fr)) (QcM k (fun v w => b = false ∧ v = none ∧ w = leW k a T pit cor tol ++ fr)) (QxM k (fun E q w => b = true ∧ E = RX6 ∧ ∃ u sen : Value, w = ciO k q u sen :: (leW k a T pit cor tol ++ fr))) 1 6 (Ab k) := by
  intro n
  induction n with
  | zero => intro x y b h; exact absurd h (by simp [m_follow])
  | succ n ih =>
  intro x y b h
  refine vy_ofW (cc := cX1_follow) (maxL := 3) (ret := none) (by decide) rfl ?_
  intro p e s m args below meth c s₁ B hml hex hv
  obtain ⟨rfl, hP, hG⟩ := hv
  have hx := B.exec
  have hb := B.bytes
  have hr := B.returns
  have hts := atoms_spec (ws := ws_ yX1_follow cX1_follow 3 none) B.pre
  have hts : ∀ w ∈ lw_all, w.before _ s = true := fun w h => hts w (List.mem_cons_of_mem _ h)
  have hown : s.vm.findClass RX1 = some m.cls := findClass_of_methodNamed B.named
  have hlocks := B.notSynchronized
  have hl := lv_entry ([.ref (lL a), .int x, .int y]) (n := 3) (Nat.le_of_ble_eq_true rfl)
  rw [lg_entry_eq]
  generalize (lg_sl ([.ref (lL a), .int x, .int y]) ++ List.replicate (3 - (lg_sl ([.ref (lL a), .int x, .int y])).length) Slot.unset).toArray = ls at hl ⊢
  have hl : lv_has ls 3 [(0, .ref (lL a)), (1, .int x), (2, .int y)] := hl
  have hS : va_S (Ab k) s.heap s.heap [] := va_S.rf
  rw [m_follow] at h
  refine lv_iload_n hx hb dX1_follow_0 rfl (lv_at hl 1 rfl) ?_
  refine lv_iload_n hx hb dX1_follow_1 rfl (lv_at hl 2 rfl) ?_
  refine lv_icmp_ne (tgt := 13) hx hb dX1_follow_2 (by decide) (fun c1 => ?_) (fun c1 => ?_)
  · rw [if_neg c1] at h
    obtain ⟨hg, h⟩ := pg_some h
    refine lv_aload_n hx hb dX1_follow_13 rfl (lv_at hl 0 rfl) ?_
    have hPs : va_P (kD k) gCl (leW k a T pit cor tol) _ := hP.of_mem (fun x hx => (List.mem_append_left _ hx))
    refine va_get (ci := 1) (v := .ref (lK a)) (C := RX1) (T := TX1) (N := 4) hx hb hts in_X1 hown hG.K (le_o hPs) 0 rfl rfl 2 (by decide) (hts _ q155) (fun _ h9 => h9) rfl dX1_follow_14 ?_
    refine lv_iload_n hx hb dX1_follow_17 rfl (lv_at hl 1 rfl) ?_
    have hPs : va_P (kD k) gCl (leW k a T pit cor tol) _ := hP.of_mem (fun x hx => (List.mem_append_left _ hx))
    refine va_iald hx hb hG.K (le_c hPs) 0 0 rfl rfl hg dX1_follow_18 ?_
    refine lv_iconst (v := -1) hx hb dX1_follow_19 (by decide) ?_
    refine lv_icmp_eq (tgt := 34) hx hb dX1_follow_20 (by decide) (fun c2 => ?_) (fun c2 => ?_)
    · refine vy_ret ?_
      refine W.widen (k := 1) (n := 6) (Nat.le_of_ble_eq_true rfl) (Nat.le_of_ble_eq_true rfl) ?_
      exact W.vret hx hb hr (fun t9 ht9 hW9 => c_retM (w := (leW k a T pit cor tol) ++ fr) ⟨by rw [if_pos c2] at h; cases h; rfl, rfl, rfl⟩ hP hD hS ht9) hS.2.2 dX1_follow_34
    · refine lv_aload_n hx hb dX1_follow_23 rfl (lv_at hl 0 rfl) ?_
      refine lv_aload_n hx hb dX1_follow_24 rfl (lv_at hl 0 rfl) ?_
      have hPs : va_P (kD k) gCl (leW k a T pit cor tol) _ := hP.of_mem (fun x hx => (List.mem_append_left _ hx))
      refine va_get (ci := 1) (v := .ref (lK a)) (C := RX1) (T := TX1) (N := 4) hx hb hts in_X1 hown hG.K (le_o hPs) 0 rfl rfl 2 (by decide) (hts _ q155) (fun _ h9 => h9) rfl dX1_follow_25 ?_
      refine lv_iload_n hx hb dX1_follow_28 rfl (lv_at hl 1 rfl) ?_
      have hPs : va_P (kD k) gCl (leW k a T pit cor tol) _ := hP.of_mem (fun x hx => (List.mem_append_left _ hx))
      refine va_iald hx hb hG.K (le_c hPs) 0 0 rfl rfl hg dX1_follow_29 ?_
      refine lv_iload_n hx hb dX1_follow_30 rfl (lv_at hl 2 rfl) ?_
      rw [if_neg c2] at h
      refine d_callM (vy_runV (As := [.int (cor x.toNatClampNeg), .int y]) (rest := []) ⟨hx, hb, hml, hown, hts⟩ (ih h) (cwV 2 hts (lw_V q599 q601 qs8 q67 q602) rfl rfl rfl ⟨rfl, hd_X1_follow⟩ ⟨Nat.le_refl _, by show 8 + (3 + 11) + (122 + n * 22) ≤ 122 + (n + 1) * 22; omega⟩) (g_preV hG hS hP (va_recv hG.K (le_o hP.left) (ci := 1) (q0 := 0) rfl rfl)) rfl rfl hl.1 rfl (lv_room (Nat.le_of_ble_eq_true rfl)) dX1_follow_31 ⟨Nat.le_of_ble_eq_true rfl, Nat.le_of_ble_eq_true rfl⟩) hS (fun E ce q9 w H locs hp hM hP hD hS h1 h2 h3 => ?_) (fun v w H locs hp hP hD hS => ?_)
      · obtain ⟨hb8, rfl, u, sen, rfl⟩ := hp
        exact d_out (fun x h9 => (hex x h9).elim) hlocks h1 h2 h3 ⟨hb8, rfl, u, sen, rfl⟩ hM hP hD hS (Nat.le_of_ble_eq_true rfl) (Nat.le_of_ble_eq_true rfl)
      obtain ⟨hb8, rfl, rfl⟩ := hp
      have hP : va_P (kD k) gCl ((leW k a T pit cor tol) ++ fr) _ := hP
      have hD : va_D (Ab k) ((leW k a T pit cor tol) ++ fr) := hD
      refine vy_ret ?_
      refine W.widen (k := 1) (n := 6) (Nat.le_of_ble_eq_true rfl) (Nat.le_of_ble_eq_true rfl) ?_
      exact W.vret hx hb hr (fun t9 ht9 hW9 => c_retM (w := (leW k a T pit cor tol) ++ fr) ⟨hb8, rfl, rfl⟩ hP hD hS ht9) hS.2.2 dX1_follow_34
  · refine d_new (ci := 6) (fs := [.null, .null, .null, .null, .null, .int 0]) (C := RX6) (T := TX6) (N := 6) hx hb hts in_X6 tyX6 tyX6_ok hown (hts _ q598) (hts _ q603) (hts _ q92) hG.K hP hD hS hG.A rfl (fun j hj => by rcases (show j = 0 ∨ j = 1 ∨ j = 2 ∨ j = 3 ∨ j = 4 ∨ j = 5 by omega) with rfl | rfl | rfl | rfl | rfl | rfl <;> rfl) (Nat.le_of_ble_eq_true rfl) (Nat.le_of_ble_eq_true rfl) dX1_follow_5 (fun q3 H hM hP hD hS => ?_)
    have hP := hP.rot
    have hD := hD.rot
    have hP : va_P (kD k) gCl ((q3, .inr (6, [.null, .null, .null, .null, .null, .int 0])) :: ((leW k a T pit cor tol) ++ fr)) _ := hP
    have hD : va_D (Ab k) ((q3, .inr (6, [.null, .null, .null, .null, .null, .int 0])) :: ((leW k a T pit cor tol) ++ fr)) := hD
    refine lv_dup hx hb dX1_follow_8 rfl ?_
    refine d_callX (va_runI (As := []) (rest := [.ref q3]) ⟨hx, hb, hml, hown, hts⟩ (met_X6_init htr hD) (cwI 0 hts (lw_meth q613) rfl rfl rfl (hts _ q92) (hts _ q611) (hts _ q612) rfl hd_X6_init ⟨by show 5 + 1 ≤ n + 1 + 6; omega, by show 8 + (1 + 11) + 102 ≤ 122 + (n + 1) * 22; omega⟩) (x_preS hG hS hP hM) rfl rfl hl.1 rfl (lv_room (Nat.le_of_ble_eq_true rfl)) dX1_follow_9 ⟨Nat.le_of_ble_eq_true rfl, Nat.le_of_ble_eq_true rfl⟩) hS (fun v w H locs hp hM hP hD hS => ?_)
    obtain ⟨u, sen, rfl, rfl⟩ := hp
    have hP : va_P (kD k) gCl ((q3, .inr (6, [.ref q3, u, sen, .ref (kS k 1), .null, .int 0])) :: ((leW k a T pit cor tol) ++ fr)) _ := hP
    have hD : va_D (Ab k) ((q3, .inr (6, [.ref q3, u, sen, .ref (kS k 1), .null, .int 0])) :: ((leW k a T pit cor tol) ++ fr)) := hD
    refine vx_athrow hx hb dX1_follow_12 ?_
    obtain ⟨ce, h1, h2, h3⟩ := d_obj (ci := 6) (q0 := 0) hG hP rfl rfl
    exact d_out (fun x h9 => (hex x h9).elim) hlocks h1 h2 h3 ⟨by rw [if_pos c1] at h; cases h; rfl, rfl, u, sen, rfl⟩ hM hP hD hS (Nat.le_of_ble_eq_true rfl) (Nat.le_of_ble_eq_true rfl)
