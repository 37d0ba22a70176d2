/-! Lecture: joins (printed by wip/gen/gen_lm8.py) -/
def reS (x y : Int32) (v : TV) : TV := (vB v, vE v, vP v, if vS v = x then y else vS v, vT v)
theorem step_set {α : Type} {f : α → α} {vs : List α} {i : Nat} {v v2 : α} (hv : vs[i]? = some v) (e : v2 = f v) : (vs.set i v2).take (i + 1) ++ ((vs.set i v2).drop (i + 1)).map f = vs.take i ++ (vs.drop i).map f := by
  have hl := (List.getElem?_eq_some_iff.mp hv).1
  have h1 : (vs.set i v2).take (i + 1) = vs.take i ++ [v2] := by
    rw [List.take_add_one, List.getElem?_set_self hl, List.take_set_of_le (Nat.le_refl _)]; rfl
  have h2 : (vs.set i v2).drop (i + 1) = vs.drop (i + 1) := List.drop_set_of_lt (by omega)
  have h3 : vs.drop i = v :: vs.drop (i + 1) := by
    rw [List.drop_eq_getElem_cons hl]
    rw [List.getElem?_eq_getElem hl] at hv
    rw [Option.some.inj hv]
  rw [h1, h2, h3, List.append_assoc, e]
  rfl
def o_joins (L : LV) (x y : Int32) : Option OR :=
  (m_X1_isSpeaker L.2.1 x).bind fun b1 =>
  if bi b1 = 0 then some (.error (-1000001)) else
  (m_X1_isSpeaker L.2.1 y).bind fun b2 =>
  if bi b2 = 0 then some (.error (-1000001)) else
  if x = y then some (.error (-1000001)) else
  (m_X1_turnsOf 21 (L.1.map (reS x y)) y).bind fun many =>
  some (.ok (many, (L.1.map (reS x y), upd (upd L.2.1 x.toNatClampNeg 0) y.toNatClampNeg (avg (L.1.map (reS x y)) (upd L.2.1 x.toNatClampNeg 0) y many), L.2.2.1, L.2.2.2)))
set_option maxHeartbeats 4000000 in
set_option maxRecDepth 100000 in
theorem lp_X1_joins {p : Program} {l : Launch} {e : Env} {s : State} {m : MethodId} {args : Array Value} {below : List Frame} {meth : Method} {c : Code} {Q : State → Prop} {k : Cx} {fr : va_W} {a : LA} {pit cor : Nat → Int32} {tol : Int32} {x y : Int32} {cells slots : Nat} (hx : p.tables.exec = Jvm.exec) (hb : c.code = cX1_joins) (hml : c.maxLocals = 5) (hown : s.vm.findClass RX1 = some m.cls) (hts : ∀ w ∈ lw_all, w.before args s = true) (hG : GU k s) : ∀ (r i : Nat) (T : List TT) (vs : List TV) (H : Heap) (locs : List Loc) (ls : Array Slot), i + r = vs.length → vs.length ≤ 20 → cells ≤ 1 → slots ≤ 7 → T.map Prod.snd = vs → leOk k a T → va_P (kD k) gCl ((leW k a T pit cor tol) ++ fr) H → va_D (Ab k) ((leW k a T pit cor tol) ++ fr) → va_S (Ab k) s.heap H locs → lv_has ls 5 [(3, .int (nI i)), (0, .ref (lL a)), (1, .int x), (2, .int y)] → (∀ (T2 : List TT) (H : Heap) (locs : List Loc) (ls : Array Slot), T2.map Prod.snd = vs.take i ++ (vs.drop i).map (reS x y) → leOk k a T2 → va_P (kD k) gCl ((leW k a T2 pit cor tol) ++ fr) H → va_D (Ab k) ((leW k a T2 pit cor tol) ++ fr) → va_S (Ab k) s.heap H locs → lv_has ls 5 [(0, .ref (lL a)), (1, .int x), (2, .int y)] → W p l e ({ frames := 7, cells := 1, slots := 7, locals := 147 } : Room) s m args below meth c H locs cells slots Q (F0 m 86 ls [])) → W p l e ({ frames := 7, cells := 1, slots := 7, locals := 147 } : Room) s m args below meth c H locs cells slots Q (F0 m 33 ls []) := by
  intro r
  induction r with
  | zero =>
    intro i T vs H locs ls hi h20 hc0 hs0 hvs hO hP hD hS hl K
    refine lv_iload_n hx hb dX1_joins_33 rfl (lv_at hl 0 rfl) ?_
    refine lv_aload_n hx hb dX1_joins_34 rfl (lv_at hl 1 rfl) ?_
    have hPs : va_P (kD k) gCl (leW k a T pit cor tol) _ := hP.of_mem (fun x hx => (List.mem_append_left _ hx))
    refine va_get (ci := 1) (v := .ref (lS a)) (C := RX1) (T := TX1) (N := 4) hx hb hts in_X1 hown hG.K (le_o hPs) 0 rfl rfl 0 (by decide) (hts _ q151) (fun _ h9 => h9) rfl dX1_joins_35 ?_
    have hPs : va_P (kD k) gCl (leW k a T pit cor tol) _ := hP.of_mem (fun x hx => (List.mem_append_left _ hx))
    refine c_call (va_runV (As := []) (rest := [.int (nI i)]) ⟨hx, hb, hml, hown, hts⟩ (met_X2_size (n := vs.length) (by rw [← hvs]; simp)) (cwV 0 hts (lw_V q243 q244 q245 q68 q246) rfl rfl rfl ⟨rfl, hd_X2_size⟩ ⟨Nat.le_of_ble_eq_true rfl, Nat.le_of_ble_eq_true rfl⟩) (g_preV hG hS (le_st hPs) (va_recv hG.K (le_s hPs) (ci := 2) (q0 := 0) rfl rfl)) rfl rfl hl.1 rfl (lv_room (Nat.le_of_ble_eq_true rfl)) dX1_joins_38 ⟨by show _ ≤ 1; omega, by show _ ≤ 7; omega⟩) ?_
    refine lv_icmp_ge (tgt := 86) hx hb dX1_joins_41 (by decide) (fun c1 => ?_) (fun c1 => absurd (nI_le (a := vs.length) (b := i) (by omega) (by omega)) c1)
    have e9 : T.map Prod.snd = vs.take i ++ (vs.drop i).map (reS x y) := by rw [List.take_of_length_le (by omega), List.drop_of_length_le (by omega), hvs]; simp
    exact K T H locs ls e9 hO hP hD hS (lv_sub hl [1, 2, 3] rfl)
  | succ r ih =>
    intro i T vs H locs ls hi h20 hc0 hs0 hvs hO hP hD hS hl K
    have hTn : T.length = vs.length := by rw [← hvs]; simp
    obtain ⟨t, ht⟩ : ∃ t, T[i]? = some t := ⟨T[i], List.getElem?_eq_getElem (by omega)⟩
    have hv : vs[i]? = some t.2 := by rw [← hvs, List.getElem?_map, ht]; rfl
    have hq : pAt (tads T) (nI i) = some (aT t.1) := pAt_of (nI_pos (by omega)) (by rw [nI_clamp (by omega), List.getElem?_map, ht]; rfl)
    refine lv_iload_n hx hb dX1_joins_33 rfl (lv_at hl 0 rfl) ?_
    refine lv_aload_n hx hb dX1_joins_34 rfl (lv_at hl 1 rfl) ?_
    have hPs : va_P (kD k) gCl (leW k a T pit cor tol) _ := hP.of_mem (fun x hx => (List.mem_append_left _ hx))
    refine va_get (ci := 1) (v := .ref (lS a)) (C := RX1) (T := TX1) (N := 4) hx hb hts in_X1 hown hG.K (le_o hPs) 0 rfl rfl 0 (by decide) (hts _ q151) (fun _ h9 => h9) rfl dX1_joins_35 ?_
    have hPs : va_P (kD k) gCl (leW k a T pit cor tol) _ := hP.of_mem (fun x hx => (List.mem_append_left _ hx))
    refine c_call (va_runV (As := []) (rest := [.int (nI i)]) ⟨hx, hb, hml, hown, hts⟩ (met_X2_size (n := vs.length) (by rw [← hvs]; simp)) (cwV 0 hts (lw_V q243 q244 q245 q68 q246) rfl rfl rfl ⟨rfl, hd_X2_size⟩ ⟨Nat.le_of_ble_eq_true rfl, Nat.le_of_ble_eq_true rfl⟩) (g_preV hG hS (le_st hPs) (va_recv hG.K (le_s hPs) (ci := 2) (q0 := 0) rfl rfl)) rfl rfl hl.1 rfl (lv_room (Nat.le_of_ble_eq_true rfl)) dX1_joins_38 ⟨by show _ ≤ 1; omega, by show _ ≤ 7; omega⟩) ?_
    refine lv_icmp_ge (tgt := 86) hx hb dX1_joins_41 (by decide) (fun c1 => absurd c1 (nI_ge (a := i) (b := vs.length) (by omega) (by omega))) (fun c1 => ?_)
    refine lv_aload_n hx hb dX1_joins_44 rfl (lv_at hl 1 rfl) ?_
    have hPs : va_P (kD k) gCl (leW k a T pit cor tol) _ := hP.of_mem (fun x hx => (List.mem_append_left _ hx))
    refine va_get (ci := 1) (v := .ref (lS a)) (C := RX1) (T := TX1) (N := 4) hx hb hts in_X1 hown hG.K (le_o hPs) 0 rfl rfl 0 (by decide) (hts _ q151) (fun _ h9 => h9) rfl dX1_joins_45 ?_
    refine lv_iload_n hx hb dX1_joins_48 rfl (lv_at hl 0 rfl) ?_
    have hPs : va_P (kD k) gCl (leW k a T pit cor tol) _ := hP.of_mem (fun x hx => (List.mem_append_left _ hx))
    refine c_call (va_runV (As := [.int (nI i)]) (rest := []) ⟨hx, hb, hml, hown, hts⟩ (met_X2_at (t := t) hO.1 hq) (cwV 1 hts (lw_V q253 q254 q255 q68 q256) rfl rfl rfl ⟨rfl, hd_X2_at⟩ ⟨Nat.le_of_ble_eq_true rfl, Nat.le_of_ble_eq_true rfl⟩) (g_preV hG hS (va_P.cons (le_t hPs ht) (le_st hPs)) (va_recv hG.K (le_s hPs) (ci := 2) (q0 := 0) rfl rfl)) rfl rfl hl.1 rfl (lv_room (Nat.le_of_ble_eq_true rfl)) dX1_joins_49 ⟨by show _ ≤ 1; omega, by show _ ≤ 7; omega⟩) ?_
    have hPs : va_P (kD k) gCl (leW k a T pit cor tol) _ := hP.of_mem (fun x hx => (List.mem_append_left _ hx))
    refine va_castS hx hb hown (hts _ q251) (hG.K.1 4 _ rfl).2 (va_recv hG.K (le_t hPs ht) (ci := 4) (q0 := 0) rfl rfl) dX1_joins_52 ?_
    refine lv_astore (lv' := [(4, .ref (aT t.1)), (3, .int (nI i)), (0, .ref (lL a)), (1, .int x), (2, .int y)]) hx hb dX1_joins_55 hl (by decide) rfl (fun ls hl => ?_)
    refine lv_aload hx hb dX1_joins_57 (lv_at hl 0 rfl) ?_
    refine lv_aload hx hb dX1_joins_59 (lv_at hl 0 rfl) ?_
    have hPs : va_P (kD k) gCl (leW k a T pit cor tol) _ := hP.of_mem (fun x hx => (List.mem_append_left _ hx))
    refine va_getN (ci := 4) (v := .int (vS t.2)) (C := RX4) (T := TX4) (N := 5) hx hb hts in_X4 hown hG.K (le_t hPs ht) 0 rfl rfl 3 (by decide) (nf_LectureTurns_Lecture_81 hG) (fun _ h9 => h9) rfl dX1_joins_61 ?_
    refine lv_iload_n hx hb dX1_joins_64 rfl (lv_at hl 3 rfl) ?_
    refine lv_icmp_ne (tgt := 72) hx hb dX1_joins_65 (by decide) (fun c2 => ?_) (fun c2 => ?_)
    · refine lv_aload hx hb dX1_joins_72 (lv_at hl 0 rfl) ?_
      have hPs : va_P (kD k) gCl (leW k a T pit cor tol) _ := hP.of_mem (fun x hx => (List.mem_append_left _ hx))
      refine va_getN (ci := 4) (v := .int (vS t.2)) (C := RX4) (T := TX4) (N := 5) hx hb hts in_X4 hown hG.K (le_t hPs ht) 0 rfl rfl 3 (by decide) (nf_LectureTurns_Lecture_81 hG) (fun _ h9 => h9) rfl dX1_joins_74 ?_
      rw [leW_flat] at hP hD
      have hP : va_P (kD k) gCl (((lL a), .inr (1, [.ref (lS a), .ref (lP a), .ref (lK a), .int tol])) :: (((lS a), .inr (2, [.ref (lR a)])) :: (((lP a), .inl (kA k, 6, .inl pit)) :: (((lK a), .inl (kA k, 16, .inl cor)) :: (((lR a), .inr (9, [.int (lM a), .ref (lE a), .int (nI (tads T).length)])) :: ((lsA k (lE a) (lC a) (tads T)) ++ ((tusW k T) ++ fr))))))) _ := hP
      have hD : va_D (Ab k) (((lL a), .inr (1, [.ref (lS a), .ref (lP a), .ref (lK a), .int tol])) :: (((lS a), .inr (2, [.ref (lR a)])) :: (((lP a), .inl (kA k, 6, .inl pit)) :: (((lK a), .inl (kA k, 16, .inl cor)) :: (((lR a), .inr (9, [.int (lM a), .ref (lE a), .int (nI (tads T).length)])) :: ((lsA k (lE a) (lC a) (tads T)) ++ ((tusW k T) ++ fr))))))) := hD
      have hpm := cat_pick [[((lL a), .inr (1, [.ref (lS a), .ref (lP a), .ref (lK a), .int tol]))], [((lS a), .inr (2, [.ref (lR a)]))], [((lP a), .inl (kA k, 6, .inl pit))], [((lK a), .inl (kA k, 16, .inl cor))], [((lR a), .inr (9, [.int (lM a), .ref (lE a), .int (nI (tads T).length)]))], lsA k (lE a) (lC a) (tads T), tusW k T] (fr) [6, 0, 1, 2, 3, 4, 5] 7 rfl (by decide)
      have hP : va_P (kD k) gCl ((tusW k T) ++ (((lL a), .inr (1, [.ref (lS a), .ref (lP a), .ref (lK a), .int tol])) :: (((lS a), .inr (2, [.ref (lR a)])) :: (((lP a), .inl (kA k, 6, .inl pit)) :: (((lK a), .inl (kA k, 16, .inl cor)) :: (((lR a), .inr (9, [.int (lM a), .ref (lE a), .int (nI (tads T).length)])) :: ((lsA k (lE a) (lC a) (tads T)) ++ fr))))))) _ := hP.perm hpm
      have hD : va_D (Ab k) ((tusW k T) ++ (((lL a), .inr (1, [.ref (lS a), .ref (lP a), .ref (lK a), .int tol])) :: (((lS a), .inr (2, [.ref (lR a)])) :: (((lP a), .inl (kA k, 6, .inl pit)) :: (((lK a), .inl (kA k, 16, .inl cor)) :: (((lR a), .inr (9, [.int (lM a), .ref (lE a), .int (nI (tads T).length)])) :: ((lsA k (lE a) (lC a) (tads T)) ++ fr))))))) := hD.perm hpm
      obtain ⟨R9, hR1, hR2⟩ := tusW_upd (k := k) ht
      have h8p := hP.perm (hR1.append_right _)
      have h8d := hD.perm (hR1.append_right _)
      simp only [List.cons_append, List.append_assoc] at h8p h8d
      have hP : va_P (kD k) gCl (((aT t.1), .inr (4, [.int (vB t.2), .int (vE t.2), .int (vP t.2), .int (vS t.2), .ref (aL t.1)])) :: (((aL t.1), .inr (9, [.int (aM t.1), .ref (aE t.1), .int (nI (bxs k (vT t.2)).length)])) :: ((lsA k (aE t.1) (aC t.1) (bxs k (vT t.2))) ++ (R9 ++ (((lL a), .inr (1, [.ref (lS a), .ref (lP a), .ref (lK a), .int tol])) :: (((lS a), .inr (2, [.ref (lR a)])) :: (((lP a), .inl (kA k, 6, .inl pit)) :: (((lK a), .inl (kA k, 16, .inl cor)) :: (((lR a), .inr (9, [.int (lM a), .ref (lE a), .int (nI (tads T).length)])) :: ((lsA k (lE a) (lC a) (tads T)) ++ fr)))))))))) _ := h8p
      have hD : va_D (Ab k) (((aT t.1), .inr (4, [.int (vB t.2), .int (vE t.2), .int (vP t.2), .int (vS t.2), .ref (aL t.1)])) :: (((aL t.1), .inr (9, [.int (aM t.1), .ref (aE t.1), .int (nI (bxs k (vT t.2)).length)])) :: ((lsA k (aE t.1) (aC t.1) (bxs k (vT t.2))) ++ (R9 ++ (((lL a), .inr (1, [.ref (lS a), .ref (lP a), .ref (lK a), .int tol])) :: (((lS a), .inr (2, [.ref (lR a)])) :: (((lP a), .inl (kA k, 6, .inl pit)) :: (((lK a), .inl (kA k, 16, .inl cor)) :: (((lR a), .inr (9, [.int (lM a), .ref (lE a), .int (nI (tads T).length)])) :: ((lsA k (lE a) (lC a) (tads T)) ++ fr)))))))))) := h8d
      refine va_putN (ci := 4) (v := .int (vS t.2)) (ty := .int) (C := RX4) (T := TX4) (N := 5) hx hb hts in_X4 tyX4 tyX4_ok nmX4 hown hG.K hP hD hS 0 rfl rfl 3 (by decide) (nf_LectureTurns_Lecture_81 hG) (fun _ h9 => h9) rfl (by decide +kernel) rfl rfl (Nat.le_of_ble_eq_true rfl) dX1_joins_77 (fun H locs hP hD hS => ?_)
      have hP : va_P (kD k) gCl (((aT t.1), .inr (4, [.int (vB t.2), .int (vE t.2), .int (vP t.2), .int (vS t.2), .ref (aL t.1)])) :: (((aL t.1), .inr (9, [.int (aM t.1), .ref (aE t.1), .int (nI (bxs k (vT t.2)).length)])) :: ((lsA k (aE t.1) (aC t.1) (bxs k (vT t.2))) ++ (R9 ++ (((lL a), .inr (1, [.ref (lS a), .ref (lP a), .ref (lK a), .int tol])) :: (((lS a), .inr (2, [.ref (lR a)])) :: (((lP a), .inl (kA k, 6, .inl pit)) :: (((lK a), .inl (kA k, 16, .inl cor)) :: (((lR a), .inr (9, [.int (lM a), .ref (lE a), .int (nI (tads T).length)])) :: ((lsA k (lE a) (lC a) (tads T)) ++ fr)))))))))) _ := hP
      have hD : va_D (Ab k) (((aT t.1), .inr (4, [.int (vB t.2), .int (vE t.2), .int (vP t.2), .int (vS t.2), .ref (aL t.1)])) :: (((aL t.1), .inr (9, [.int (aM t.1), .ref (aE t.1), .int (nI (bxs k (vT t.2)).length)])) :: ((lsA k (aE t.1) (aC t.1) (bxs k (vT t.2))) ++ (R9 ++ (((lL a), .inr (1, [.ref (lS a), .ref (lP a), .ref (lK a), .int tol])) :: (((lS a), .inr (2, [.ref (lR a)])) :: (((lP a), .inl (kA k, 6, .inl pit)) :: (((lK a), .inl (kA k, 16, .inl cor)) :: (((lR a), .inr (9, [.int (lM a), .ref (lE a), .int (nI (tads T).length)])) :: ((lsA k (lE a) (lC a) (tads T)) ++ fr)))))))))) := hD
      have htd : tads (T.set i ((aT t.1, aL t.1, aE t.1, aC t.1, aM t.1), (vB t.2, vE t.2, vP t.2, (vS t.2), vT t.2))) = tads T := tads_set ht rfl
      have hpm := cat_pick [[((aT t.1), .inr (4, [.int (vB t.2), .int (vE t.2), .int (vP t.2), .int (vS t.2), .ref (aL t.1)]))], [((aL t.1), .inr (9, [.int (aM t.1), .ref (aE t.1), .int (nI (bxs k (vT t.2)).length)]))], lsA k (aE t.1) (aC t.1) (bxs k (vT t.2)), R9, [((lL a), .inr (1, [.ref (lS a), .ref (lP a), .ref (lK a), .int tol]))], [((lS a), .inr (2, [.ref (lR a)]))], [((lP a), .inl (kA k, 6, .inl pit))], [((lK a), .inl (kA k, 16, .inl cor))], [((lR a), .inr (9, [.int (lM a), .ref (lE a), .int (nI (tads T).length)]))], lsA k (lE a) (lC a) (tads T)] (fr) [4, 5, 6, 7, 8, 9, 0, 1, 2, 3] 10 rfl (by decide)
      have hP : va_P (kD k) gCl (((lL a), .inr (1, [.ref (lS a), .ref (lP a), .ref (lK a), .int tol])) :: (((lS a), .inr (2, [.ref (lR a)])) :: (((lP a), .inl (kA k, 6, .inl pit)) :: (((lK a), .inl (kA k, 16, .inl cor)) :: (((lR a), .inr (9, [.int (lM a), .ref (lE a), .int (nI (tads T).length)])) :: ((lsA k (lE a) (lC a) (tads T)) ++ (((aT t.1), .inr (4, [.int (vB t.2), .int (vE t.2), .int (vP t.2), .int (vS t.2), .ref (aL t.1)])) :: (((aL t.1), .inr (9, [.int (aM t.1), .ref (aE t.1), .int (nI (bxs k (vT t.2)).length)])) :: ((lsA k (aE t.1) (aC t.1) (bxs k (vT t.2))) ++ (R9 ++ fr)))))))))) _ := hP.perm hpm
      have hD : va_D (Ab k) (((lL a), .inr (1, [.ref (lS a), .ref (lP a), .ref (lK a), .int tol])) :: (((lS a), .inr (2, [.ref (lR a)])) :: (((lP a), .inl (kA k, 6, .inl pit)) :: (((lK a), .inl (kA k, 16, .inl cor)) :: (((lR a), .inr (9, [.int (lM a), .ref (lE a), .int (nI (tads T).length)])) :: ((lsA k (lE a) (lC a) (tads T)) ++ (((aT t.1), .inr (4, [.int (vB t.2), .int (vE t.2), .int (vP t.2), .int (vS t.2), .ref (aL t.1)])) :: (((aL t.1), .inr (9, [.int (aM t.1), .ref (aE t.1), .int (nI (bxs k (vT t.2)).length)])) :: ((lsA k (aE t.1) (aC t.1) (bxs k (vT t.2))) ++ (R9 ++ fr)))))))))) := hD.perm hpm
      have hpf := leW_fold (k := k) (a := a) (T2 := T.set i ((aT t.1, aL t.1, aE t.1, aC t.1, aM t.1), (vB t.2, vE t.2, vP t.2, (vS t.2), vT t.2))) (pit := pit) (cor := cor) (tol := tol) (fr := fr) (hR2 ((aT t.1, aL t.1, aE t.1, aC t.1, aM t.1), (vB t.2, vE t.2, vP t.2, (vS t.2), vT t.2)))
      simp only [List.cons_append, List.append_assoc, htd] at hpf
      have hP : va_P (kD k) gCl (leW k a (T.set i ((aT t.1, aL t.1, aE t.1, aC t.1, aM t.1), (vB t.2, vE t.2, vP t.2, (vS t.2), vT t.2))) pit cor tol ++ fr) _ := hP.perm hpf
      have hD : va_D (Ab k) (leW k a (T.set i ((aT t.1, aL t.1, aE t.1, aC t.1, aM t.1), (vB t.2, vE t.2, vP t.2, (vS t.2), vT t.2))) pit cor tol ++ fr) := hD.perm hpf
      have hvs2 : (T.set i ((aT t.1, aL t.1, aE t.1, aC t.1, aM t.1), (vB t.2, vE t.2, vP t.2, (vS t.2), vT t.2))).map Prod.snd = vs.set i (vB t.2, vE t.2, vP t.2, (vS t.2), vT t.2) := by rw [map_set', hvs]
      have hO2 : leOk k a (T.set i ((aT t.1, aL t.1, aE t.1, aC t.1, aM t.1), (vB t.2, vE t.2, vP t.2, (vS t.2), vT t.2))) := ⟨by rw [htd]; exact hO.1, fun u hu => by rcases mem_set' hu with rfl | hu; exact hO.2 t (List.mem_of_getElem? ht); exact hO.2 u hu⟩
      have e8 : (vB t.2, vE t.2, vP t.2, (vS t.2), vT t.2) = reS x y t.2 := by unfold reS; rw [if_neg c2]
      refine lv_iinc (v := nI (i + 1)) (lv' := [(3, .int (nI (i + 1))), (4, .ref (aT t.1)), (0, .ref (lL a)), (1, .int x), (2, .int y)]) hx hb dX1_joins_80 hl (k := 1) rfl (nI_succ i).symm (by decide) rfl (fun ls hl => ?_)
      refine lv_goto (tgt := 33) hx hb dX1_joins_83 (by decide) ?_
      refine ih (i + 1) _ _ H locs ls (by rw [List.length_set]; omega) (by rw [List.length_set]; exact h20) hc0 hs0 hvs2 hO2 hP hD hS (lv_sub hl [0, 2, 3, 4] rfl) (fun T2 H locs ls h2 hO3 hP hD hS hl => ?_)
      rw [step_set hv e8] at h2
      exact K T2 H locs ls h2 hO3 hP hD hS hl
    · refine lv_iload_n hx hb dX1_joins_68 rfl (lv_at hl 4 rfl) ?_
      refine lv_goto (tgt := 77) hx hb dX1_joins_69 (by decide) ?_
      rw [leW_flat] at hP hD
      have hP : va_P (kD k) gCl (((lL a), .inr (1, [.ref (lS a), .ref (lP a), .ref (lK a), .int tol])) :: (((lS a), .inr (2, [.ref (lR a)])) :: (((lP a), .inl (kA k, 6, .inl pit)) :: (((lK a), .inl (kA k, 16, .inl cor)) :: (((lR a), .inr (9, [.int (lM a), .ref (lE a), .int (nI (tads T).length)])) :: ((lsA k (lE a) (lC a) (tads T)) ++ ((tusW k T) ++ fr))))))) _ := hP
      have hD : va_D (Ab k) (((lL a), .inr (1, [.ref (lS a), .ref (lP a), .ref (lK a), .int tol])) :: (((lS a), .inr (2, [.ref (lR a)])) :: (((lP a), .inl (kA k, 6, .inl pit)) :: (((lK a), .inl (kA k, 16, .inl cor)) :: (((lR a), .inr (9, [.int (lM a), .ref (lE a), .int (nI (tads T).length)])) :: ((lsA k (lE a) (lC a) (tads T)) ++ ((tusW k T) ++ fr))))))) := hD
      have hpm := cat_pick [[((lL a), .inr (1, [.ref (lS a), .ref (lP a), .ref (lK a), .int tol]))], [((lS a), .inr (2, [.ref (lR a)]))], [((lP a), .inl (kA k, 6, .inl pit))], [((lK a), .inl (kA k, 16, .inl cor))], [((lR a), .inr (9, [.int (lM a), .ref (lE a), .int (nI (tads T).length)]))], lsA k (lE a) (lC a) (tads T), tusW k T] (fr) [6, 0, 1, 2, 3, 4, 5] 7 rfl (by decide)
      have hP : va_P (kD k) gCl ((tusW k T) ++ (((lL a), .inr (1, [.ref (lS a), .ref (lP a), .ref (lK a), .int tol])) :: (((lS a), .inr (2, [.ref (lR a)])) :: (((lP a), .inl (kA k, 6, .inl pit)) :: (((lK a), .inl (kA k, 16, .inl cor)) :: (((lR a), .inr (9, [.int (lM a), .ref (lE a), .int (nI (tads T).length)])) :: ((lsA k (lE a) (lC a) (tads T)) ++ fr))))))) _ := hP.perm hpm
      have hD : va_D (Ab k) ((tusW k T) ++ (((lL a), .inr (1, [.ref (lS a), .ref (lP a), .ref (lK a), .int tol])) :: (((lS a), .inr (2, [.ref (lR a)])) :: (((lP a), .inl (kA k, 6, .inl pit)) :: (((lK a), .inl (kA k, 16, .inl cor)) :: (((lR a), .inr (9, [.int (lM a), .ref (lE a), .int (nI (tads T).length)])) :: ((lsA k (lE a) (lC a) (tads T)) ++ fr))))))) := hD.perm hpm
      obtain ⟨R9, hR1, hR2⟩ := tusW_upd (k := k) ht
      have h8p := hP.perm (hR1.append_right _)
      have h8d := hD.perm (hR1.append_right _)
      simp only [List.cons_append, List.append_assoc] at h8p h8d
      have hP : va_P (kD k) gCl (((aT t.1), .inr (4, [.int (vB t.2), .int (vE t.2), .int (vP t.2), .int (vS t.2), .ref (aL t.1)])) :: (((aL t.1), .inr (9, [.int (aM t.1), .ref (aE t.1), .int (nI (bxs k (vT t.2)).length)])) :: ((lsA k (aE t.1) (aC t.1) (bxs k (vT t.2))) ++ (R9 ++ (((lL a), .inr (1, [.ref (lS a), .ref (lP a), .ref (lK a), .int tol])) :: (((lS a), .inr (2, [.ref (lR a)])) :: (((lP a), .inl (kA k, 6, .inl pit)) :: (((lK a), .inl (kA k, 16, .inl cor)) :: (((lR a), .inr (9, [.int (lM a), .ref (lE a), .int (nI (tads T).length)])) :: ((lsA k (lE a) (lC a) (tads T)) ++ fr)))))))))) _ := h8p
      have hD : va_D (Ab k) (((aT t.1), .inr (4, [.int (vB t.2), .int (vE t.2), .int (vP t.2), .int (vS t.2), .ref (aL t.1)])) :: (((aL t.1), .inr (9, [.int (aM t.1), .ref (aE t.1), .int (nI (bxs k (vT t.2)).length)])) :: ((lsA k (aE t.1) (aC t.1) (bxs k (vT t.2))) ++ (R9 ++ (((lL a), .inr (1, [.ref (lS a), .ref (lP a), .ref (lK a), .int tol])) :: (((lS a), .inr (2, [.ref (lR a)])) :: (((lP a), .inl (kA k, 6, .inl pit)) :: (((lK a), .inl (kA k, 16, .inl cor)) :: (((lR a), .inr (9, [.int (lM a), .ref (lE a), .int (nI (tads T).length)])) :: ((lsA k (lE a) (lC a) (tads T)) ++ fr)))))))))) := h8d
      refine va_putN (ci := 4) (v := .int y) (ty := .int) (C := RX4) (T := TX4) (N := 5) hx hb hts in_X4 tyX4 tyX4_ok nmX4 hown hG.K hP hD hS 0 rfl rfl 3 (by decide) (nf_LectureTurns_Lecture_81 hG) (fun _ h9 => h9) rfl (by decide +kernel) rfl rfl (Nat.le_of_ble_eq_true rfl) dX1_joins_77 (fun H locs hP hD hS => ?_)
      have hP : va_P (kD k) gCl (((aT t.1), .inr (4, [.int (vB t.2), .int (vE t.2), .int (vP t.2), .int y, .ref (aL t.1)])) :: (((aL t.1), .inr (9, [.int (aM t.1), .ref (aE t.1), .int (nI (bxs k (vT t.2)).length)])) :: ((lsA k (aE t.1) (aC t.1) (bxs k (vT t.2))) ++ (R9 ++ (((lL a), .inr (1, [.ref (lS a), .ref (lP a), .ref (lK a), .int tol])) :: (((lS a), .inr (2, [.ref (lR a)])) :: (((lP a), .inl (kA k, 6, .inl pit)) :: (((lK a), .inl (kA k, 16, .inl cor)) :: (((lR a), .inr (9, [.int (lM a), .ref (lE a), .int (nI (tads T).length)])) :: ((lsA k (lE a) (lC a) (tads T)) ++ fr)))))))))) _ := hP
      have hD : va_D (Ab k) (((aT t.1), .inr (4, [.int (vB t.2), .int (vE t.2), .int (vP t.2), .int y, .ref (aL t.1)])) :: (((aL t.1), .inr (9, [.int (aM t.1), .ref (aE t.1), .int (nI (bxs k (vT t.2)).length)])) :: ((lsA k (aE t.1) (aC t.1) (bxs k (vT t.2))) ++ (R9 ++ (((lL a), .inr (1, [.ref (lS a), .ref (lP a), .ref (lK a), .int tol])) :: (((lS a), .inr (2, [.ref (lR a)])) :: (((lP a), .inl (kA k, 6, .inl pit)) :: (((lK a), .inl (kA k, 16, .inl cor)) :: (((lR a), .inr (9, [.int (lM a), .ref (lE a), .int (nI (tads T).length)])) :: ((lsA k (lE a) (lC a) (tads T)) ++ fr)))))))))) := hD
      have htd : tads (T.set i ((aT t.1, aL t.1, aE t.1, aC t.1, aM t.1), (vB t.2, vE t.2, vP t.2, y, vT t.2))) = tads T := tads_set ht rfl
      have hpm := cat_pick [[((aT t.1), .inr (4, [.int (vB t.2), .int (vE t.2), .int (vP t.2), .int y, .ref (aL t.1)]))], [((aL t.1), .inr (9, [.int (aM t.1), .ref (aE t.1), .int (nI (bxs k (vT t.2)).length)]))], lsA k (aE t.1) (aC t.1) (bxs k (vT t.2)), R9, [((lL a), .inr (1, [.ref (lS a), .ref (lP a), .ref (lK a), .int tol]))], [((lS a), .inr (2, [.ref (lR a)]))], [((lP a), .inl (kA k, 6, .inl pit))], [((lK a), .inl (kA k, 16, .inl cor))], [((lR a), .inr (9, [.int (lM a), .ref (lE a), .int (nI (tads T).length)]))], lsA k (lE a) (lC a) (tads T)] (fr) [4, 5, 6, 7, 8, 9, 0, 1, 2, 3] 10 rfl (by decide)
      have hP : va_P (kD k) gCl (((lL a), .inr (1, [.ref (lS a), .ref (lP a), .ref (lK a), .int tol])) :: (((lS a), .inr (2, [.ref (lR a)])) :: (((lP a), .inl (kA k, 6, .inl pit)) :: (((lK a), .inl (kA k, 16, .inl cor)) :: (((lR a), .inr (9, [.int (lM a), .ref (lE a), .int (nI (tads T).length)])) :: ((lsA k (lE a) (lC a) (tads T)) ++ (((aT t.1), .inr (4, [.int (vB t.2), .int (vE t.2), .int (vP t.2), .int y, .ref (aL t.1)])) :: (((aL t.1), .inr (9, [.int (aM t.1), .ref (aE t.1), .int (nI (bxs k (vT t.2)).length)])) :: ((lsA k (aE t.1) (aC t.1) (bxs k (vT t.2))) ++ (R9 ++ fr)))))))))) _ := hP.perm hpm
      have hD : va_D (Ab k) (((lL a), .inr (1, [.ref (lS a), .ref (lP a), .ref (lK a), .int tol])) :: (((lS a), .inr (2, [.ref (lR a)])) :: (((lP a), .inl (kA k, 6, .inl pit)) :: (((lK a), .inl (kA k, 16, .inl cor)) :: (((lR a), .inr (9, [.int (lM a), .ref (lE a), .int (nI (tads T).length)])) :: ((lsA k (lE a) (lC a) (tads T)) ++ (((aT t.1), .inr (4, [.int (vB t.2), .int (vE t.2), .int (vP t.2), .int y, .ref (aL t.1)])) :: (((aL t.1), .inr (9, [.int (aM t.1), .ref (aE t.1), .int (nI (bxs k (vT t.2)).length)])) :: ((lsA k (aE t.1) (aC t.1) (bxs k (vT t.2))) ++ (R9 ++ fr)))))))))) := hD.perm hpm
      have hpf := leW_fold (k := k) (a := a) (T2 := T.set i ((aT t.1, aL t.1, aE t.1, aC t.1, aM t.1), (vB t.2, vE t.2, vP t.2, y, vT t.2))) (pit := pit) (cor := cor) (tol := tol) (fr := fr) (hR2 ((aT t.1, aL t.1, aE t.1, aC t.1, aM t.1), (vB t.2, vE t.2, vP t.2, y, vT t.2)))
      simp only [List.cons_append, List.append_assoc, htd] at hpf
      have hP : va_P (kD k) gCl (leW k a (T.set i ((aT t.1, aL t.1, aE t.1, aC t.1, aM t.1), (vB t.2, vE t.2, vP t.2, y, vT t.2))) pit cor tol ++ fr) _ := hP.perm hpf
      have hD : va_D (Ab k) (leW k a (T.set i ((aT t.1, aL t.1, aE t.1, aC t.1, aM t.1), (vB t.2, vE t.2, vP t.2, y, vT t.2))) pit cor tol ++ fr) := hD.perm hpf
      have hvs2 : (T.set i ((aT t.1, aL t.1, aE t.1, aC t.1, aM t.1), (vB t.2, vE t.2, vP t.2, y, vT t.2))).map Prod.snd = vs.set i (vB t.2, vE t.2, vP t.2, y, vT t.2) := by rw [map_set', hvs]
      have hO2 : leOk k a (T.set i ((aT t.1, aL t.1, aE t.1, aC t.1, aM t.1), (vB t.2, vE t.2, vP t.2, y, vT t.2))) := ⟨by rw [htd]; exact hO.1, fun u hu => by rcases mem_set' hu with rfl | hu; exact hO.2 t (List.mem_of_getElem? ht); exact hO.2 u hu⟩
      have e8 : (vB t.2, vE t.2, vP t.2, y, vT t.2) = reS x y t.2 := by unfold reS; rw [if_pos c2]
      refine lv_iinc (v := nI (i + 1)) (lv' := [(3, .int (nI (i + 1))), (4, .ref (aT t.1)), (0, .ref (lL a)), (1, .int x), (2, .int y)]) hx hb dX1_joins_80 hl (k := 1) rfl (nI_succ i).symm (by decide) rfl (fun ls hl => ?_)
      refine lv_goto (tgt := 33) hx hb dX1_joins_83 (by decide) ?_
      refine ih (i + 1) _ _ H locs ls (by rw [List.length_set]; omega) (by rw [List.length_set]; exact h20) hc0 hs0 hvs2 hO2 hP hD hS (lv_sub hl [0, 2, 3, 4] rfl) (fun T2 H locs ls h2 hO3 hP hD hS hl => ?_)
      rw [step_set hv e8] at h2
      exact K T2 H locs ls h2 hO3 hP hD hS hl
theorem hd_X1_joins : yX1_joins.cls ≠ "java/lang/invoke/MethodHandle" ∧ yX1_joins.cls ≠ "java/lang/invoke/VarHandle" ∧ (parseMethodDescriptor yX1_joins.desc).map (fun d => d.parameters.length) = some 2 := by decide +kernel
set_option maxHeartbeats 4000000 in
set_option maxRecDepth 100000 in
theorem met_X1_joins {l : Launch} (htr : l.stackTraces = false) {k : Cx} {a : LA} {T : List TT} {vs : List TV} {pit cor : Nat → Int32} {tol : Int32} {fr : va_W} {x y : Int32} {out : OR} (hvs : T.map Prod.snd = vs) (hO : leOk k a T) (h1k : vs.length ≤ 1000) (h20 : vs.length ≤ 20) (h : o_joins (vs, pit, cor, tol) x y = some out) (hD : va_D (Ab k) ((leW k a T pit cor tol) ++ fr)) : vy_Met l yX1_joins (ws_ yX1_joins cX1_joins 5 (some .int)) ({ frames := 7, cells := 1, slots := 7, locals := 147 } : Room) (gPc [.ref (lL a), .int x, .int y] k ((leW k a T pit cor tol) ++ fr)) (QcM k (oP k (lL a) fr out)) (QxM k (oX k fr out)) 1 7 (Ab k) := by
  refine vy_ofW (cc := cX1_joins) (maxL := 5) (ret := (some .int)) (by decide) rfl ?_
  intro p e s m args below meth c s₁ B hml hex hv
  obtain ⟨rfl, hP, hG⟩ := hv
  have hx := B.exec
  have hb := B.bytes
  have hr := B.returns
  have hts := atoms_spec (ws := ws_ yX1_joins cX1_joins 5 (some .int)) B.pre
  have hts : ∀ w ∈ lw_all, w.before _ s = true := fun w h => hts w (List.mem_cons_of_mem _ h)
  have hown : s.vm.findClass RX1 = some m.cls := findClass_of_methodNamed B.named
  have hlocks := B.notSynchronized
  have hl := lv_entry ([.ref (lL a), .int x, .int y]) (n := 5) (Nat.le_of_ble_eq_true rfl)
  rw [lg_entry_eq]
  generalize (lg_sl ([.ref (lL a), .int x, .int y]) ++ List.replicate (5 - (lg_sl ([.ref (lL a), .int x, .int y])).length) Slot.unset).toArray = ls at hl ⊢
  have hl : lv_has ls 5 [(0, .ref (lL a)), (1, .int x), (2, .int y)] := hl
  have hS : va_S (Ab k) s.heap s.heap [] := va_S.rf
  unfold o_joins at h
  dsimp only at h
  obtain ⟨b1, eb1, h⟩ := Option.bind_eq_some_iff.mp h
  refine lv_aload_n hx hb dX1_joins_0 rfl (lv_at hl 0 rfl) ?_
  refine lv_iload_n hx hb dX1_joins_1 rfl (lv_at hl 1 rfl) ?_
  have hPs : va_P (kD k) gCl (leW k a T pit cor tol) _ := hP.of_mem (fun x hx => (List.mem_append_left _ hx))
  refine c_call (va_runV (As := [.int x]) (rest := []) ⟨hx, hb, hml, hown, hts⟩ (met_X1_isSpeaker hvs hO eb1) (cwV 1 hts (lw_V q659 q660 q661 q67 q662) rfl rfl rfl ⟨rfl, hd_X1_isSpeaker⟩ ⟨Nat.le_of_ble_eq_true rfl, Nat.le_of_ble_eq_true rfl⟩) (g_preV hG hS hPs (va_recv hG.K (le_o hPs) (ci := 1) (q0 := 0) rfl rfl)) rfl rfl hl.1 rfl (lv_room (Nat.le_of_ble_eq_true rfl)) dX1_joins_2 ⟨Nat.le_of_ble_eq_true rfl, Nat.le_of_ble_eq_true rfl⟩) ?_
  refine lv_if_eq (tgt := 25) hx hb dX1_joins_5 (by decide) (fun c1 => ?_) (fun c1 => ?_)
  · refine lv_iconst (v := 0) hx hb dX1_joins_25 (by decide) ?_
    refine lv_ldc hx hb hown (hts _ q455) dX1_joins_26 ?_
    refine d_callM (vy_runSN (As := [.int (0 : Int32), .int (-1000001 : Int32)]) (rest := []) ⟨hx, hb, hml, hown, hts⟩ (met_X0_need htr hD) ⟨va_cnB 2 hts (lw_meth q458) rfl rfl rfl (nm_LectureTurns_Lecture_57 hG) (hts _ q66) hd_X0_need ⟨Nat.le_of_ble_eq_true rfl, Nat.le_of_ble_eq_true rfl⟩, hts _ q457, trivial⟩ (g_preS hG hS hP) rfl rfl hl.1 rfl (lv_room (Nat.le_of_ble_eq_true rfl)) dX1_joins_28 ⟨Nat.le_of_ble_eq_true rfl, Nat.le_of_ble_eq_true rfl⟩) hS (fun E ce q9 w H locs hp hM hP hD hS h1 h2 h3 => ?_) (fun v w H locs hp hP hD hS => ?_)
    · obtain ⟨n2, rfl, u, sen, rfl⟩ := hp
      exact d_out (fun x h9 => (hex x h9).elim) hlocks h1 h2 h3 ⟨(-1000001 : Int32), .null, u, sen, leW k a T pit cor tol, (by have h9 := h; rw [if_pos c1] at h9; cases h9; rfl), rfl, rfl⟩ hM hP hD hS (Nat.le_of_ble_eq_true rfl) (Nat.le_of_ble_eq_true rfl)
    · exact absurd rfl hp.1
  · refine lv_aload_n hx hb dX1_joins_8 rfl (lv_at hl 0 rfl) ?_
    refine lv_iload_n hx hb dX1_joins_9 rfl (lv_at hl 2 rfl) ?_
    have hPs : va_P (kD k) gCl (leW k a T pit cor tol) _ := hP.of_mem (fun x hx => (List.mem_append_left _ hx))
    have h0 := h
    rw [if_neg c1] at h0
    obtain ⟨b2, eb2, h0⟩ := Option.bind_eq_some_iff.mp h0
    refine c_call (va_runV (As := [.int y]) (rest := []) ⟨hx, hb, hml, hown, hts⟩ (met_X1_isSpeaker hvs hO eb2) (cwV 1 hts (lw_V q659 q660 q661 q67 q662) rfl rfl rfl ⟨rfl, hd_X1_isSpeaker⟩ ⟨Nat.le_of_ble_eq_true rfl, Nat.le_of_ble_eq_true rfl⟩) (g_preV hG hS hPs (va_recv hG.K (le_o hPs) (ci := 1) (q0 := 0) rfl rfl)) rfl rfl hl.1 rfl (lv_room (Nat.le_of_ble_eq_true rfl)) dX1_joins_10 ⟨Nat.le_of_ble_eq_true rfl, Nat.le_of_ble_eq_true rfl⟩) ?_
    refine lv_if_eq (tgt := 25) hx hb dX1_joins_13 (by decide) (fun c3 => ?_) (fun c3 => ?_)
    · refine lv_iconst (v := 0) hx hb dX1_joins_25 (by decide) ?_
      refine lv_ldc hx hb hown (hts _ q455) dX1_joins_26 ?_
      refine d_callM (vy_runSN (As := [.int (0 : Int32), .int (-1000001 : Int32)]) (rest := []) ⟨hx, hb, hml, hown, hts⟩ (met_X0_need htr hD) ⟨va_cnB 2 hts (lw_meth q458) rfl rfl rfl (nm_LectureTurns_Lecture_57 hG) (hts _ q66) hd_X0_need ⟨Nat.le_of_ble_eq_true rfl, Nat.le_of_ble_eq_true rfl⟩, hts _ q457, trivial⟩ (g_preS hG hS hP) rfl rfl hl.1 rfl (lv_room (Nat.le_of_ble_eq_true rfl)) dX1_joins_28 ⟨Nat.le_of_ble_eq_true rfl, Nat.le_of_ble_eq_true rfl⟩) hS (fun E ce q9 w H locs hp hM hP hD hS h1 h2 h3 => ?_) (fun v w H locs hp hP hD hS => ?_)
      · obtain ⟨n4, rfl, u, sen, rfl⟩ := hp
        exact d_out (fun x h9 => (hex x h9).elim) hlocks h1 h2 h3 ⟨(-1000001 : Int32), .null, u, sen, leW k a T pit cor tol, (by have h9 := h; have h9 := h0; rw [if_pos c3] at h9; cases h9; rfl), rfl, rfl⟩ hM hP hD hS (Nat.le_of_ble_eq_true rfl) (Nat.le_of_ble_eq_true rfl)
      · exact absurd rfl hp.1
    · refine lv_iload_n hx hb dX1_joins_16 rfl (lv_at hl 1 rfl) ?_
      refine lv_iload_n hx hb dX1_joins_17 rfl (lv_at hl 2 rfl) ?_
      refine lv_icmp_eq (tgt := 25) hx hb dX1_joins_18 (by decide) (fun c5 => ?_) (fun c5 => ?_)
      · refine lv_iconst (v := 0) hx hb dX1_joins_25 (by decide) ?_
        refine lv_ldc hx hb hown (hts _ q455) dX1_joins_26 ?_
        refine d_callM (vy_runSN (As := [.int (0 : Int32), .int (-1000001 : Int32)]) (rest := []) ⟨hx, hb, hml, hown, hts⟩ (met_X0_need htr hD) ⟨va_cnB 2 hts (lw_meth q458) rfl rfl rfl (nm_LectureTurns_Lecture_57 hG) (hts _ q66) hd_X0_need ⟨Nat.le_of_ble_eq_true rfl, Nat.le_of_ble_eq_true rfl⟩, hts _ q457, trivial⟩ (g_preS hG hS hP) rfl rfl hl.1 rfl (lv_room (Nat.le_of_ble_eq_true rfl)) dX1_joins_28 ⟨Nat.le_of_ble_eq_true rfl, Nat.le_of_ble_eq_true rfl⟩) hS (fun E ce q9 w H locs hp hM hP hD hS h1 h2 h3 => ?_) (fun v w H locs hp hP hD hS => ?_)
        · obtain ⟨n6, rfl, u, sen, rfl⟩ := hp
          exact d_out (fun x h9 => (hex x h9).elim) hlocks h1 h2 h3 ⟨(-1000001 : Int32), .null, u, sen, leW k a T pit cor tol, (by have h9 := h; have h9 := h0; rw [if_neg c3] at h9; rw [if_pos c5] at h9; cases h9; rfl), rfl, rfl⟩ hM hP hD hS (Nat.le_of_ble_eq_true rfl) (Nat.le_of_ble_eq_true rfl)
        · exact absurd rfl hp.1
      · refine lv_iconst (v := 1) hx hb dX1_joins_21 (by decide) ?_
        refine lv_goto (tgt := 26) hx hb dX1_joins_22 (by decide) ?_
        refine lv_ldc hx hb hown (hts _ q455) dX1_joins_26 ?_
        refine d_callM (vy_runSN (As := [.int (1 : Int32), .int (-1000001 : Int32)]) (rest := []) ⟨hx, hb, hml, hown, hts⟩ (met_X0_need htr hD) ⟨va_cnB 2 hts (lw_meth q458) rfl rfl rfl (nm_LectureTurns_Lecture_57 hG) (hts _ q66) hd_X0_need ⟨Nat.le_of_ble_eq_true rfl, Nat.le_of_ble_eq_true rfl⟩, hts _ q457, trivial⟩ (g_preS hG hS hP) rfl rfl hl.1 rfl (lv_room (Nat.le_of_ble_eq_true rfl)) dX1_joins_28 ⟨Nat.le_of_ble_eq_true rfl, Nat.le_of_ble_eq_true rfl⟩) hS (fun E ce q9 w H locs hp hM hP hD hS h1 h2 h3 => ?_) (fun v w H locs hp hP hD hS => ?_)
        · exact absurd hp.1 (by decide)
        obtain ⟨n7, rfl, rfl⟩ := hp
        have hP : va_P (kD k) gCl ((leW k a T pit cor tol) ++ fr) _ := hP
        have hD : va_D (Ab k) ((leW k a T pit cor tol) ++ fr) := hD
        refine lv_iconst (v := 0) hx hb dX1_joins_31 (by decide) ?_
        refine lv_istore_n (lv' := [(3, .int (0 : Int32)), (0, .ref (lL a)), (1, .int x), (2, .int y)]) hx hb dX1_joins_32 rfl hl (by decide) rfl (fun ls hl => ?_)
        have h9 := h
        have h9 := h0
        rw [if_neg c3] at h9
        rw [if_neg c5] at h9
        obtain ⟨many, hmany, h9⟩ := Option.bind_eq_some_iff.mp h9
        refine lp_X1_joins (x := x) (y := y) hx hb hml hown hts hG vs.length 0 T vs H locs ls (by omega) h20 (Nat.le_refl _) (Nat.le_refl _) hvs hO hP hD hS (lv_sub hl [0, 1, 2, 3] rfl) (fun T2 H locs ls h2 hO2 hP hD hS hl => ?_)
        have h2 : T2.map Prod.snd = (vs.map (reS x y)) := by rw [h2]; simp
        refine lv_aload_n hx hb dX1_joins_86 rfl (lv_at hl 0 rfl) ?_
        have hPs : va_P (kD k) gCl (leW k a T2 pit cor tol) H := hP.left
        refine va_get (ci := 1) (v := .ref (lP a)) (C := RX1) (T := TX1) (N := 4) hx hb hts in_X1 hown hG.K (le_o hPs) 0 rfl rfl 1 (by decide) (hts _ q153) (fun _ h9 => h9) rfl dX1_joins_87 ?_
        refine lv_iload_n hx hb dX1_joins_90 rfl (lv_at hl 1 rfl) ?_
        refine lv_iconst (v := 0) hx hb dX1_joins_91 (by decide) ?_
        rw [leW_flat] at hP hD
        have hP : va_P (kD k) gCl (((lL a), .inr (1, [.ref (lS a), .ref (lP a), .ref (lK a), .int tol])) :: (((lS a), .inr (2, [.ref (lR a)])) :: (((lP a), .inl (kA k, 6, .inl pit)) :: (((lK a), .inl (kA k, 16, .inl cor)) :: (((lR a), .inr (9, [.int (lM a), .ref (lE a), .int (nI (tads T2).length)])) :: ((lsA k (lE a) (lC a) (tads T2)) ++ ((tusW k T2) ++ fr))))))) _ := hP
        have hD : va_D (Ab k) (((lL a), .inr (1, [.ref (lS a), .ref (lP a), .ref (lK a), .int tol])) :: (((lS a), .inr (2, [.ref (lR a)])) :: (((lP a), .inl (kA k, 6, .inl pit)) :: (((lK a), .inl (kA k, 16, .inl cor)) :: (((lR a), .inr (9, [.int (lM a), .ref (lE a), .int (nI (tads T2).length)])) :: ((lsA k (lE a) (lC a) (tads T2)) ++ ((tusW k T2) ++ fr))))))) := hD
        refine va_iast hx hb hG.K hP hD hS 2 0 rfl rfl (spk_in eb1 c1) dX1_joins_92 (fun H locs hP hD hS => ?_)
        have hP : va_P (kD k) gCl (((lL a), .inr (1, [.ref (lS a), .ref (lP a), .ref (lK a), .int tol])) :: (((lS a), .inr (2, [.ref (lR a)])) :: (((lP a), .inl (kA k, 6, .inl (upd pit x.toNatClampNeg (0 : Int32)))) :: (((lK a), .inl (kA k, 16, .inl cor)) :: (((lR a), .inr (9, [.int (lM a), .ref (lE a), .int (nI (tads T2).length)])) :: ((lsA k (lE a) (lC a) (tads T2)) ++ ((tusW k T2) ++ fr))))))) _ := hP
        have hD : va_D (Ab k) (((lL a), .inr (1, [.ref (lS a), .ref (lP a), .ref (lK a), .int tol])) :: (((lS a), .inr (2, [.ref (lR a)])) :: (((lP a), .inl (kA k, 6, .inl (upd pit x.toNatClampNeg (0 : Int32)))) :: (((lK a), .inl (kA k, 16, .inl cor)) :: (((lR a), .inr (9, [.int (lM a), .ref (lE a), .int (nI (tads T2).length)])) :: ((lsA k (lE a) (lC a) (tads T2)) ++ ((tusW k T2) ++ fr))))))) := hD
        have hpf := leW_fold (k := k) (a := a) (T2 := T2) (pit := (upd pit x.toNatClampNeg 0)) (cor := cor) (tol := tol) (fr := fr) (List.Perm.refl _)
        have hP : va_P (kD k) gCl (leW k a T2 (upd pit x.toNatClampNeg 0) cor tol ++ fr) _ := hP.perm hpf
        have hD : va_D (Ab k) (leW k a T2 (upd pit x.toNatClampNeg 0) cor tol ++ fr) := hD.perm hpf
        refine lv_aload_n hx hb dX1_joins_93 rfl (lv_at hl 0 rfl) ?_
        refine lv_iload_n hx hb dX1_joins_94 rfl (lv_at hl 2 rfl) ?_
        refine c_callM (va_runV (As := [.int y]) (rest := []) ⟨hx, hb, hml, hown, hts⟩ (met_X1_average h2 hO2 (by rw [List.length_map]; exact h20) (spk_in eb2 c3) hmany hD) (cwV 1 hts (lw_V q664 q666 qs11 q67 q667) rfl rfl rfl ⟨rfl, hd_X1_average⟩ ⟨Nat.le_of_ble_eq_true rfl, Nat.le_of_ble_eq_true rfl⟩) (g_preV hG hS hP (va_recv hG.K (le_o hP.left) (ci := 1) (q0 := 0) rfl rfl)) rfl rfl hl.1 rfl (lv_room (Nat.le_of_ble_eq_true rfl)) dX1_joins_95 ⟨Nat.le_of_ble_eq_true rfl, Nat.le_of_ble_eq_true rfl⟩) hS (fun v w H locs hp hP hD hS => ?_)
        obtain ⟨rfl, rfl⟩ := hp
        have hP : va_P (kD k) gCl ((leW k a T2 (upd (upd pit x.toNatClampNeg 0) y.toNatClampNeg (avg (vs.map (reS x y)) (upd pit x.toNatClampNeg 0) y many)) cor tol) ++ fr) _ := hP
        have hD : va_D (Ab k) ((leW k a T2 (upd (upd pit x.toNatClampNeg 0) y.toNatClampNeg (avg (vs.map (reS x y)) (upd pit x.toNatClampNeg 0) y many)) cor tol) ++ fr) := hD
        refine lv_aload_n hx hb dX1_joins_98 rfl (lv_at hl 0 rfl) ?_
        refine lv_iload_n hx hb dX1_joins_99 rfl (lv_at hl 2 rfl) ?_
        have hPs : va_P (kD k) gCl (leW k a T2 (upd (upd pit x.toNatClampNeg 0) y.toNatClampNeg (avg (vs.map (reS x y)) (upd pit x.toNatClampNeg 0) y many)) cor tol) H := hP.left
        refine c_call (va_runV (As := [.int y]) (rest := []) ⟨hx, hb, hml, hown, hts⟩ (met_X1_turnsOf (nf := 21) h2 hO2 hmany) (cwV 1 hts (lw_V q668 q669 q670 q67 q671) rfl rfl rfl ⟨rfl, hd_X1_turnsOf⟩ ⟨Nat.le_of_ble_eq_true rfl, Nat.le_of_ble_eq_true rfl⟩) (g_preV hG hS hPs (va_recv hG.K (le_o hPs) (ci := 1) (q0 := 0) rfl rfl)) rfl rfl hl.1 rfl (lv_room (Nat.le_of_ble_eq_true rfl)) dX1_joins_100 ⟨Nat.le_of_ble_eq_true rfl, Nat.le_of_ble_eq_true rfl⟩) ?_
        refine vy_ret ?_
        refine W.widen (k := 1) (n := 7) (Nat.le_of_ble_eq_true rfl) (Nat.le_of_ble_eq_true rfl) ?_
        exact W.iret hx hb hr (fun t9 ht9 hW9 => c_retM (w := (leW k a T2 (upd (upd pit x.toNatClampNeg 0) y.toNatClampNeg (avg (vs.map (reS x y)) (upd pit x.toNatClampNeg 0) y many)) cor tol) ++ fr) ⟨many, ((vs.map (reS x y)), (upd (upd pit x.toNatClampNeg 0) y.toNatClampNeg (avg (vs.map (reS x y)) (upd pit x.toNatClampNeg 0) y many)), cor, tol), a, T2, (by cases h9; rfl), rfl, rfl, h2, hO2, rfl⟩ hP hD hS ht9) hS.2.2 dX1_joins_103
