/-! readers that allocate (printed by wip/gen/gen_comp.py) -/
def m_X1_shows_L1 (cor : Nat → Int32)  : List Int32 → Int32 → Option Int32
  | [], y2 => some y2
  | b :: bs, y2 =>
    pb (m_X1_shown 17 cor b) <| fun r3 =>
    m_X1_shows_L1 cor bs (y2 ||| ((1 : Int32) <<< (r3 &&& 31)))
def m_X1_shows (cor : Nat → Int32) (w1 : TV) : Option Int32 :=
  pb (m_X1_shows_L1 cor (vT w1) (0 : Int32)) <| fun o2 =>
  some o2
def m_X1_places_L2  (x1 : Int32) : List Int32 → Int32 → Option Int32
  | [], y2 => some y2
  | b :: bs, y2 =>
    m_X1_places_L2 x1 bs (y2 + ((x1 >>> (b &&& 31)) &&& (1 : Int32)))
def m_X1_places_L1 (nf : Nat) (vs : List TV) (x1 : Int32) : Nat → Int32 → Int32 → Option Int32
  | 0, _, _ => none
  | n + 1, y3, y2 =>
    if (nI vs.length) ≤ y3 then
      some y2
    else
      pb (pAt vs y3) <| fun v3 =>
      pb (m_X1_places_L2 x1 (vT v3) y2) <| fun o5 =>
      m_X1_places_L1 nf vs x1 n (y3 + (1 : Int32)) o5
def m_X1_places (nf : Nat) (vs : List TV) (x1 : Int32) : Option Int32 :=
  pb (m_X1_places_L1 nf vs x1 21 (0 : Int32) (0 : Int32)) <| fun o1 =>
  some o1
theorem hd_X1_shows : yX1_shows.cls ≠ "java/lang/invoke/MethodHandle" ∧ yX1_shows.cls ≠ "java/lang/invoke/VarHandle" ∧ (parseMethodDescriptor yX1_shows.desc).map (fun d => d.parameters.length) = some 1 := by decide +kernel
set_option maxHeartbeats 4000000 in
set_option maxRecDepth 100000 in
theorem lp_X1_shows_1 {p : Program} {l : Launch} {e : Env} {s : State} {m : MethodId} {args : Array Value} {below : List Frame} {meth : Method} {c : Code} {Q : State → Prop} {w : va_W} {k : Cx} {a : LA} {T : List TT} {vs : List TV} {pit cor : Nat → Int32} {tol : Int32} {b1 : TA} {w1 : TV} {i1 : Nat}  (hx : p.tables.exec = Jvm.exec) (hb : c.code = cX1_shows) (hml : c.maxLocals = 5) (hown : s.vm.findClass RX1 = some m.cls) (hts : ∀ w ∈ lw_all, w.before args s = true) (hG : GU k s) (hvs : T.map Prod.snd = vs) (hO : leOk k a T) (et1 : T[i1]? = some (b1, w1)) (hm : ∀ q ∈ (leW k a T pit cor tol), q ∈ w) (hD : va_D (Ab k) w) (ei : T[i1]? = some (b1, w1)) {q cells slots : Nat} (hcE : cells ≤ 1) (hsE : slots ≤ 4)  : ∀ (bs : List Int32) (y2 : Int32) (z : Int32), m_X1_shows_L1 cor bs y2 = some z → ∀ (c9 : Nat) (las : Int32) (H : Heap) (locs : List Loc) (ls : Array Slot), (vT w1).drop c9 = bs → c9 ≤ (vT w1).length → va_P (kD k) gCl (itO q (nI c9) las (aM b1) (aL b1) :: w) H → va_D (Ab k) (itO q (nI c9) las (aM b1) (aL b1) :: w) → va_S (Ab k) s.heap H locs → lv_has ls 5 [(2, .int y2), (3, .ref q), (0, .ref (lL a))] → (∀ (H : Heap) (locs : List Loc) (ls : Array Slot), va_P (kD k) gCl w H → va_S (Ab k) s.heap H locs → lv_has ls 5 [(2, .int z), (0, .ref (lL a))] → W p l e ({ frames := 19, cells := 1, slots := 4, locals := 390 } : Room) s m args below meth c H locs cells slots Q (F0 m 47 ls [])) → W p l e ({ frames := 19, cells := 1, slots := 4, locals := 390 } : Room) s m args below meth c H locs cells slots Q (F0 m 10 ls []) := by
  have hmT : ∀ {j9 : Nat} {t9 : TT}, T[j9]? = some t9 → ∀ q ∈ lsW k (aL t9.1) (aE t9.1) (aC t9.1) (aM t9.1) (bxs k (vT t9.2)), q ∈ w := fun ht q hq => hm q (le_mt ht hq)
  have hml9 : ∀ x ∈ lsW k (aL b1) (aE b1) (aC b1) (aM b1) (bxs k (vT w1)), x ∈ w := hmT ei
  have hok := tls_ok hO ei
  intro bs
  induction bs with
  | nil =>
    intro y2 z h c9 las H locs ls hdr hcl hP hD2 hSa hl K
    unfold m_X1_shows_L1 at h
    refine lv_aload_n hx hb dX1_shows_10 rfl (lv_at hl 1 rfl) ?_
    refine c_call5 (va_runF (hG.K.1 12 _ rfl).2 (As := []) (rest := []) ⟨hx, hb, hml, hown, hts⟩ (met_hasNextF (it_end hdr hcl) (hml9 _ List.mem_cons_self)) (va_cwF 0 hts (lw_F (x := xHasNext) q640 q335 q337 q81 q339) rfl rfl rfl hG.f2 hd_xHasNext ⟨Nat.le_of_ble_eq_true rfl, Nat.le_of_ble_eq_true rfl⟩) (g_preV hG hSa hP (va_recv hG.K hP (ci := 12) (q0 := 0) rfl rfl)) rfl rfl hl.1 rfl (lv_room (Nat.le_of_ble_eq_true rfl)) dX1_shows_11 ⟨by show _ ≤ 1; omega, by show _ ≤ 4; omega⟩) ?_
    refine lv_if_eq (tgt := 47) hx hb dX1_shows_16 (by decide) (fun c8 => ?_) (fun c8 => absurd rfl c8)
    cases h
    exact K H locs ls hP.tl hSa (lv_sub hl [0, 2] rfl)
  | cons b bs ih =>
    intro y2 z h c9 las H locs ls hdr hcl hP hD2 hSa hl K
    unfold m_X1_shows_L1 at h
    obtain ⟨hn1, hy1, hd1, hd2, hb9⟩ := it_go (k := k) hdr (ls_small hok)
    have tb : ∃ n : Nat, n < 16 ∧ b = nI n := (hO.2 _ (List.mem_of_getElem? ei)).2 b hb9
    refine lv_aload_n hx hb dX1_shows_10 rfl (lv_at hl 1 rfl) ?_
    refine c_call5 (va_runF (hG.K.1 12 _ rfl).2 (As := []) (rest := []) ⟨hx, hb, hml, hown, hts⟩ (met_hasNextT hn1 (hml9 _ List.mem_cons_self)) (va_cwF 0 hts (lw_F (x := xHasNext) q640 q335 q337 q81 q339) rfl rfl rfl hG.f2 hd_xHasNext ⟨Nat.le_of_ble_eq_true rfl, Nat.le_of_ble_eq_true rfl⟩) (g_preV hG hSa hP (va_recv hG.K hP (ci := 12) (q0 := 0) rfl rfl)) rfl rfl hl.1 rfl (lv_room (Nat.le_of_ble_eq_true rfl)) dX1_shows_11 ⟨by show _ ≤ 1; omega, by show _ ≤ 4; omega⟩) ?_
    refine lv_if_eq (tgt := 47) hx hb dX1_shows_16 (by decide) (fun c8 => absurd c8 (by decide)) (fun c8 => ?_)
    refine lv_aload_n hx hb dX1_shows_19 rfl (lv_at hl 1 rfl) ?_
    refine c_callM5 (va_runF (hG.K.1 12 _ rfl).2 (As := []) (rest := []) ⟨hx, hb, hml, hown, hts⟩ (met_next hok hy1 hml9 hD2) (va_cwF 0 hts (lw_F (x := xNext) q642 q344 q346 q81 q348) rfl rfl rfl hG.f3 hd_xNext ⟨Nat.le_of_ble_eq_true rfl, Nat.le_of_ble_eq_true rfl⟩) (g_preV hG hSa hP (va_recv hG.K hP (ci := 12) (q0 := 0) rfl rfl)) rfl rfl hl.1 rfl (lv_room (Nat.le_of_ble_eq_true rfl)) dX1_shows_20 ⟨by show _ ≤ 1; omega, by show _ ≤ 4; omega⟩) hSa (fun v9 w9 H locs hp hP hD2 hSa => ?_)
    obtain ⟨rfl, e9⟩ := hp
    rw [e9] at hP hD2
    refine va_castS hx hb hown (hts _ q584) (hG.K.1 13 _ rfl).2 (bx_recv hG hSa tb) dX1_shows_25 ?_
    refine lv_astore (lv' := [(4, .ref (bxA k b)), (2, .int y2), (3, .ref q), (0, .ref (lL a))]) hx hb dX1_shows_28 hl (by decide) rfl (fun ls hl => ?_)
    have hP0 := hP
    have hP := hP.tl
    refine lv_iload_n hx hb dX1_shows_30 rfl (lv_at hl 1 rfl) ?_
    refine lv_iconst (v := 1) hx hb dX1_shows_31 (by decide) ?_
    refine lv_aload_n hx hb dX1_shows_32 rfl (lv_at hl 3 rfl) ?_
    refine lv_aload hx hb dX1_shows_33 (lv_at hl 0 rfl) ?_
    refine c_call (va_runV (As := []) (rest := [.ref (lL a), .int (1 : Int32), .int y2]) ⟨hx, hb, hml, hown, hts⟩ (met_J17_intValue tb) (cwV 0 hts (lw_V q643 q644 q645 q90 q646) rfl rfl rfl ⟨rfl, hd_J17_intValue⟩ ⟨Nat.le_of_ble_eq_true rfl, Nat.le_of_ble_eq_true rfl⟩) (g_preV hG hSa (va_P.nil) (bx_recv hG hSa tb)) rfl rfl hl.1 rfl (lv_room (Nat.le_of_ble_eq_true rfl)) dX1_shows_35 ⟨by show _ ≤ 1; omega, by show _ ≤ 4; omega⟩) ?_
    obtain ⟨r3, e2, h⟩ := pb_some h
    refine c_call (va_runV (As := [.int b]) (rest := [.int (1 : Int32), .int y2]) ⟨hx, hb, hml, hown, hts⟩ (met_X1_shown hvs hO  e2) (cwV 1 hts (lw_V q630 q631 q632 q67 q633) rfl rfl rfl ⟨rfl, hd_X1_shown⟩ ⟨Nat.le_of_ble_eq_true rfl, Nat.le_of_ble_eq_true rfl⟩) (g_preV hG hSa (hP.of_mem hm) (va_recv hG.K (le_o (hP.of_mem hm)) (ci := 1) (q0 := 0) rfl rfl)) rfl rfl hl.1 rfl (lv_room (Nat.le_of_ble_eq_true rfl)) dX1_shows_38 ⟨by show _ ≤ 1; omega, by show _ ≤ 4; omega⟩) ?_
    refine lv_ishl hx hb dX1_shows_41 ?_
    refine lv_ior hx hb dX1_shows_42 ?_
    refine lv_istore_n (lv' := [(2, .int (y2 ||| ((1 : Int32) <<< (r3 &&& 31)))), (4, .ref (bxA k b)), (3, .ref q), (0, .ref (lL a))]) hx hb dX1_shows_43 rfl hl (by decide) rfl (fun ls hl => ?_)
    refine lv_goto (tgt := 10) hx hb dX1_shows_44 (by decide) ?_
    exact ih _ _ h (c9 + 1) _ H locs ls hd1 hd2 hP0 hD2 hSa (lv_sub hl [0, 2, 3] rfl) K
set_option maxHeartbeats 4000000 in
set_option maxRecDepth 100000 in
theorem met_X1_shows {l : Launch} {w : va_W} {k : Cx} {a : LA} {T : List TT} {vs : List TV} {pit cor : Nat → Int32} {tol : Int32} {b1 : TA} {w1 : TV} {i1 : Nat} {r : Int32} (hvs : T.map Prod.snd = vs) (hO : leOk k a T) (et1 : T[i1]? = some (b1, w1)) (hm : ∀ q ∈ (leW k a T pit cor tol), q ∈ w) (hD : va_D (Ab k) w) (h : m_X1_shows cor w1 = some r) : Met l yX1_shows (ws_ yX1_shows cX1_shows 5 (some .int)) ({ frames := 19, cells := 1, slots := 4, locals := 390 } : Room) (gPc [.ref (lL a), .ref (aT b1)] k w) (QcM k (fun v w2 => v = some (.int r) ∧ w2 = w)) 1 4 (Ab k) := by
  refine Met.ofW (cc := cX1_shows) (maxL := 5) (ret := (some .int)) (by decide) rfl ?_
  intro p e s m args below meth c s₁ B hml hv
  obtain ⟨rfl, hP, hG⟩ := hv
  have hx := B.exec
  have hb := B.bytes
  have hr := B.returns
  have hts := atoms_spec (ws := ws_ yX1_shows cX1_shows 5 (some .int)) B.pre
  have hts : ∀ w ∈ lw_all, w.before _ s = true := fun w h => hts w (List.mem_cons_of_mem _ h)
  have hown : s.vm.findClass RX1 = some m.cls := findClass_of_methodNamed B.named
  have hlocks := B.notSynchronized
  have hSa : va_S (Ab k) s.heap s.heap [] := va_S.rf
  have hmT : ∀ {j9 : Nat} {t9 : TT}, T[j9]? = some t9 → ∀ q ∈ lsW k (aL t9.1) (aE t9.1) (aC t9.1) (aM t9.1) (bxs k (vT t9.2)), q ∈ w := fun ht q hq => hm q (le_mt ht hq)
  have hl := lv_entry ([.ref (lL a), .ref (aT b1)]) (n := 5) (Nat.le_of_ble_eq_true rfl)
  rw [lg_entry_eq]
  generalize (lg_sl ([.ref (lL a), .ref (aT b1)]) ++ List.replicate (5 - (lg_sl ([.ref (lL a), .ref (aT b1)])).length) Slot.unset).toArray = ls at hl ⊢
  have hl : lv_has ls 5 [(0, .ref (lL a)), (1, .ref (aT b1))] := hl
  unfold m_X1_shows at h
  refine lv_iconst (v := 0) hx hb dX1_shows_0 (by decide) ?_
  refine lv_istore_n (lv' := [(2, .int (0 : Int32)), (0, .ref (lL a)), (1, .ref (aT b1))]) hx hb dX1_shows_1 rfl hl (by decide) rfl (fun ls hl => ?_)
  refine lv_aload_n hx hb dX1_shows_2 rfl (lv_at hl 2 rfl) ?_
  refine va_getN (ci := 4) (v := .ref (aL b1)) (C := RX4) (T := TX4) (N := 5) hx hb hts in_X4 hown hG.K (le_t (hP.of_mem hm) et1) 0 rfl rfl 4 (by decide) (nf_LectureTurns_Lecture_91 hG) (fun _ h9 => h9) rfl dX1_shows_3 ?_
  refine c_callM (va_runV (As := []) (rest := []) ⟨hx, hb, hml, hown, hts⟩ (met_iterator ((hmT et1) _ List.mem_cons_self) hD) (cwV 0 hts (lw_V q638 q308 q309 q71 q310) rfl rfl rfl ⟨rfl, hd_J2_iterator⟩ ⟨Nat.le_of_ble_eq_true rfl, Nat.le_of_ble_eq_true rfl⟩) (g_preV hG hSa hP (va_recv hG.K (hP.of_mem (hmT et1)) (ci := 9) (q0 := 0) rfl rfl)) rfl rfl hl.1 rfl (lv_room (Nat.le_of_ble_eq_true rfl)) dX1_shows_6 ⟨Nat.le_of_ble_eq_true rfl, Nat.le_of_ble_eq_true rfl⟩) hSa (fun v9 w9 H locs hp hP hD2 hSa => ?_)
  obtain ⟨q1, rfl, e9⟩ := hp
  rw [e9] at hP hD2
  refine lv_astore_n (lv' := [(3, .ref q1), (2, .int (0 : Int32)), (0, .ref (lL a)), (1, .ref (aT b1))]) hx hb dX1_shows_9 rfl hl (by decide) rfl (fun ls hl => ?_)
  obtain ⟨o2, e501, h⟩ := pb_some h
  refine lp_X1_shows_1 hx hb hml hown hts hG hvs hO et1 hm hD et1 (by exact Nat.le_of_ble_eq_true rfl) (by exact Nat.le_of_ble_eq_true rfl) _ _ _ e501 0 _ _ _ ls rfl (Nat.zero_le _) hP hD2 hSa (lv_sub hl [1, 0, 2] rfl) (fun _ _ ls hP hSa hl => ?_)
  refine lv_iload_n hx hb dX1_shows_47 rfl (lv_at hl 0 rfl) ?_
  cases h
  refine W.widen (k := 1) (n := 4) (Nat.le_of_ble_eq_true rfl) (Nat.le_of_ble_eq_true rfl) ?_
  exact W.iret hx hb hr (fun t ht hW => c_retM (w := w) ⟨rfl, rfl⟩ hP hD hSa ht) hSa.2.2 dX1_shows_48
theorem hd_X1_places : yX1_places.cls ≠ "java/lang/invoke/MethodHandle" ∧ yX1_places.cls ≠ "java/lang/invoke/VarHandle" ∧ (parseMethodDescriptor yX1_places.desc).map (fun d => d.parameters.length) = some 1 := by decide +kernel
set_option maxHeartbeats 4000000 in
set_option maxRecDepth 100000 in
theorem lp_X1_places_2 {p : Program} {l : Launch} {e : Env} {s : State} {m : MethodId} {args : Array Value} {below : List Frame} {meth : Method} {c : Code} {Q : State → Prop} {w : va_W} {k : Cx} {a : LA} {T : List TT} {vs : List TV} {pit cor : Nat → Int32} {tol : Int32}  {a3 : TA} {v3 : TV} {j1 : Nat} (hx : p.tables.exec = Jvm.exec) (hb : c.code = cX1_places) (hml : c.maxLocals = 6) (hown : s.vm.findClass RX1 = some m.cls) (hts : ∀ w ∈ lw_all, w.before args s = true) (hG : GU k s) (hvs : T.map Prod.snd = vs) (hO : leOk k a T) (hm : ∀ q ∈ (leW k a T pit cor tol), q ∈ w) (hD : va_D (Ab k) w) (ei : T[j1]? = some (a3, v3)) {q cells slots : Nat} (hcE : cells ≤ 21) (hsE : slots ≤ 84) {x3 : Int32} {x1 : Int32} : ∀ (bs : List Int32) (y2 : Int32) (z : Int32), m_X1_places_L2 x1 bs y2 = some z → ∀ (c9 : Nat) (las : Int32) (H : Heap) (locs : List Loc) (ls : Array Slot), (vT v3).drop c9 = bs → c9 ≤ (vT v3).length → va_P (kD k) gCl (itO q (nI c9) las (aM a3) (aL a3) :: w) H → va_D (Ab k) (itO q (nI c9) las (aM a3) (aL a3) :: w) → va_S (Ab k) s.heap H locs → lv_has ls 6 [(2, .int y2), (4, .ref q), (3, .int x3), (0, .ref (lL a)), (1, .int x1)] → (∀ (H : Heap) (locs : List Loc) (ls : Array Slot), va_P (kD k) gCl w H → va_S (Ab k) s.heap H locs → lv_has ls 6 [(2, .int z), (3, .int x3), (0, .ref (lL a)), (1, .int x1)] → W p l e ({ frames := 5, cells := 21, slots := 84, locals := 97 } : Room) s m args below meth c H locs cells slots Q (F0 m 71 ls [])) → W p l e ({ frames := 5, cells := 21, slots := 84, locals := 97 } : Room) s m args below meth c H locs cells slots Q (F0 m 34 ls []) := by
  have hmT : ∀ {j9 : Nat} {t9 : TT}, T[j9]? = some t9 → ∀ q ∈ lsW k (aL t9.1) (aE t9.1) (aC t9.1) (aM t9.1) (bxs k (vT t9.2)), q ∈ w := fun ht q hq => hm q (le_mt ht hq)
  have hml9 : ∀ x ∈ lsW k (aL a3) (aE a3) (aC a3) (aM a3) (bxs k (vT v3)), x ∈ w := hmT ei
  have hok := tls_ok hO ei
  intro bs
  induction bs with
  | nil =>
    intro y2 z h c9 las H locs ls hdr hcl hP hD2 hSa hl K
    unfold m_X1_places_L2 at h
    refine lv_aload hx hb dX1_places_34 (lv_at hl 1 rfl) ?_
    refine c_call5 (va_runF (hG.K.1 12 _ rfl).2 (As := []) (rest := []) ⟨hx, hb, hml, hown, hts⟩ (met_hasNextF (it_end hdr hcl) (hml9 _ List.mem_cons_self)) (va_cwF 0 hts (lw_F (x := xHasNext) q640 q335 q337 q81 q339) rfl rfl rfl hG.f2 hd_xHasNext ⟨Nat.le_of_ble_eq_true rfl, Nat.le_of_ble_eq_true rfl⟩) (g_preV hG hSa hP (va_recv hG.K hP (ci := 12) (q0 := 0) rfl rfl)) rfl rfl hl.1 rfl (lv_room (Nat.le_of_ble_eq_true rfl)) dX1_places_36 ⟨by show _ ≤ 21; omega, by show _ ≤ 84; omega⟩) ?_
    refine lv_if_eq (tgt := 71) hx hb dX1_places_41 (by decide) (fun c8 => ?_) (fun c8 => absurd rfl c8)
    cases h
    exact K H locs ls hP.tl hSa (lv_sub hl [0, 2, 3, 4] rfl)
  | cons b bs ih =>
    intro y2 z h c9 las H locs ls hdr hcl hP hD2 hSa hl K
    unfold m_X1_places_L2 at h
    obtain ⟨hn1, hy1, hd1, hd2, hb9⟩ := it_go (k := k) hdr (ls_small hok)
    have tb : ∃ n : Nat, n < 16 ∧ b = nI n := (hO.2 _ (List.mem_of_getElem? ei)).2 b hb9
    refine lv_aload hx hb dX1_places_34 (lv_at hl 1 rfl) ?_
    refine c_call5 (va_runF (hG.K.1 12 _ rfl).2 (As := []) (rest := []) ⟨hx, hb, hml, hown, hts⟩ (met_hasNextT hn1 (hml9 _ List.mem_cons_self)) (va_cwF 0 hts (lw_F (x := xHasNext) q640 q335 q337 q81 q339) rfl rfl rfl hG.f2 hd_xHasNext ⟨Nat.le_of_ble_eq_true rfl, Nat.le_of_ble_eq_true rfl⟩) (g_preV hG hSa hP (va_recv hG.K hP (ci := 12) (q0 := 0) rfl rfl)) rfl rfl hl.1 rfl (lv_room (Nat.le_of_ble_eq_true rfl)) dX1_places_36 ⟨by show _ ≤ 21; omega, by show _ ≤ 84; omega⟩) ?_
    refine lv_if_eq (tgt := 71) hx hb dX1_places_41 (by decide) (fun c8 => absurd c8 (by decide)) (fun c8 => ?_)
    refine lv_aload hx hb dX1_places_44 (lv_at hl 1 rfl) ?_
    refine c_callM5 (va_runF (hG.K.1 12 _ rfl).2 (As := []) (rest := []) ⟨hx, hb, hml, hown, hts⟩ (met_next hok hy1 hml9 hD2) (va_cwF 0 hts (lw_F (x := xNext) q642 q344 q346 q81 q348) rfl rfl rfl hG.f3 hd_xNext ⟨Nat.le_of_ble_eq_true rfl, Nat.le_of_ble_eq_true rfl⟩) (g_preV hG hSa hP (va_recv hG.K hP (ci := 12) (q0 := 0) rfl rfl)) rfl rfl hl.1 rfl (lv_room (Nat.le_of_ble_eq_true rfl)) dX1_places_46 ⟨by show _ ≤ 21; omega, by show _ ≤ 84; omega⟩) hSa (fun v9 w9 H locs hp hP hD2 hSa => ?_)
    obtain ⟨rfl, e9⟩ := hp
    rw [e9] at hP hD2
    refine va_castS hx hb hown (hts _ q584) (hG.K.1 13 _ rfl).2 (bx_recv hG hSa tb) dX1_places_51 ?_
    refine lv_astore (lv' := [(5, .ref (bxA k b)), (2, .int y2), (4, .ref q), (3, .int x3), (0, .ref (lL a)), (1, .int x1)]) hx hb dX1_places_54 hl (by decide) rfl (fun ls hl => ?_)
    have hP0 := hP
    have hP := hP.tl
    refine lv_iload_n hx hb dX1_places_56 rfl (lv_at hl 1 rfl) ?_
    refine lv_iload_n hx hb dX1_places_57 rfl (lv_at hl 5 rfl) ?_
    refine lv_aload hx hb dX1_places_58 (lv_at hl 0 rfl) ?_
    refine c_call (va_runV (As := []) (rest := [.int x1, .int y2]) ⟨hx, hb, hml, hown, hts⟩ (met_J17_intValue tb) (cwV 0 hts (lw_V q643 q644 q645 q90 q646) rfl rfl rfl ⟨rfl, hd_J17_intValue⟩ ⟨Nat.le_of_ble_eq_true rfl, Nat.le_of_ble_eq_true rfl⟩) (g_preV hG hSa (va_P.nil) (bx_recv hG hSa tb)) rfl rfl hl.1 rfl (lv_room (Nat.le_of_ble_eq_true rfl)) dX1_places_60 ⟨by show _ ≤ 21; omega, by show _ ≤ 84; omega⟩) ?_
    refine lv_ishr hx hb dX1_places_63 ?_
    refine lv_iconst (v := 1) hx hb dX1_places_64 (by decide) ?_
    refine lv_iand hx hb dX1_places_65 ?_
    refine lv_iadd hx hb dX1_places_66 ?_
    refine lv_istore_n (lv' := [(2, .int (y2 + ((x1 >>> (b &&& 31)) &&& (1 : Int32)))), (5, .ref (bxA k b)), (4, .ref q), (3, .int x3), (0, .ref (lL a)), (1, .int x1)]) hx hb dX1_places_67 rfl hl (by decide) rfl (fun ls hl => ?_)
    refine lv_goto (tgt := 34) hx hb dX1_places_68 (by decide) ?_
    exact ih _ _ h (c9 + 1) _ H locs ls hd1 hd2 hP0 hD2 hSa (lv_sub hl [0, 2, 3, 4, 5] rfl) K
set_option maxHeartbeats 4000000 in
set_option maxRecDepth 100000 in
theorem lp_X1_places_1 {p : Program} {l : Launch} {e : Env} {s : State} {m : MethodId} {args : Array Value} {below : List Frame} {meth : Method} {c : Code} {Q : State → Prop} {w : va_W} {k : Cx} {a : LA} {T : List TT} {vs : List TV} {pit cor : Nat → Int32} {tol : Int32}  (hx : p.tables.exec = Jvm.exec) (hb : c.code = cX1_places) (hml : c.maxLocals = 6) (hown : s.vm.findClass RX1 = some m.cls) (hts : ∀ w ∈ lw_all, w.before args s = true) (hG : GU k s) (hvs : T.map Prod.snd = vs) (hO : leOk k a T) (hm : ∀ q ∈ (leW k a T pit cor tol), q ∈ w) (hD : va_D (Ab k) w) {CE SE : Nat} (hCE : CE ≤ 21) (hSE : SE ≤ 84) {x1 : Int32} (nf : Nat) : ∀ (n : Nat) (y3 : Int32) (y2 : Int32) (z : Int32), m_X1_places_L1 nf vs x1 n y3 y2 = some z → ∀ (H : Heap) (locs : List Loc) (ls : Array Slot) (cells slots : Nat), cells + n * 1 ≤ CE → slots + n * 4 ≤ SE → va_P (kD k) gCl w H → va_S (Ab k) s.heap H locs → lv_has ls 6 [(3, .int y3), (2, .int y2), (0, .ref (lL a)), (1, .int x1)] → (∀ (H : Heap) (locs : List Loc) (ls : Array Slot), va_P (kD k) gCl w H → va_S (Ab k) s.heap H locs → lv_has ls 6 [(2, .int z), (0, .ref (lL a)), (1, .int x1)] → W p l e ({ frames := 5, cells := 21, slots := 84, locals := 97 } : Room) s m args below meth c H locs CE SE Q (F0 m 77 ls [])) → W p l e ({ frames := 5, cells := 21, slots := 84, locals := 97 } : Room) s m args below meth c H locs cells slots Q (F0 m 4 ls []) := by
  have hmT : ∀ {j9 : Nat} {t9 : TT}, T[j9]? = some t9 → ∀ q ∈ lsW k (aL t9.1) (aE t9.1) (aC t9.1) (aM t9.1) (bxs k (vT t9.2)), q ∈ w := fun ht q hq => hm q (le_mt ht hq)
  intro n
  induction n with
  | zero => intro y3 y2 z h H locs ls cells slots hcN hsN hP hSa hl K; exact absurd h (by simp [m_X1_places_L1])
  | succ n ih =>
    intro y3 y2 z h H locs ls cells slots hcN hsN hP hSa hl K
    unfold m_X1_places_L1 at h
    refine lv_iload_n hx hb dX1_places_4 rfl (lv_at hl 0 rfl) ?_
    refine lv_aload_n hx hb dX1_places_5 rfl (lv_at hl 2 rfl) ?_
    refine va_get (ci := 1) (v := .ref (lS a)) (C := RX1) (T := TX1) (N := 4) hx hb hts in_X1 hown hG.K (le_o (hP.of_mem hm)) 0 rfl rfl 0 (by decide) (hts _ q151) (fun _ h9 => h9) rfl dX1_places_6 ?_
    refine c_call (va_runV (As := []) (rest := [.int y3]) ⟨hx, hb, hml, hown, hts⟩ (met_X2_size (n := vs.length) (by rw [← hvs]; simp)) (cwV 0 hts (lw_V q243 q244 q245 q68 q246) rfl rfl rfl ⟨rfl, hd_X2_size⟩ ⟨Nat.le_of_ble_eq_true rfl, Nat.le_of_ble_eq_true rfl⟩) (g_preV hG hSa (le_st (hP.of_mem hm)) (va_recv hG.K (le_s (hP.of_mem hm)) (ci := 2) (q0 := 0) rfl rfl)) rfl rfl hl.1 rfl (lv_room (Nat.le_of_ble_eq_true rfl)) dX1_places_9 ⟨by show _ ≤ 21; omega, by show _ ≤ 84; omega⟩) ?_
    refine lv_icmp_ge (tgt := 77) hx hb dX1_places_12 (by decide) (fun c2 => ?_) (fun c2 => ?_)
    · have h := pi_t c2 h
      cases h
      exact W.widen (by omega) (by omega) (K H locs ls hP hSa (lv_sub hl [1, 2, 3] rfl))
    · have h := pi_f c2 h
      refine lv_aload_n hx hb dX1_places_15 rfl (lv_at hl 2 rfl) ?_
      refine va_get (ci := 1) (v := .ref (lS a)) (C := RX1) (T := TX1) (N := 4) hx hb hts in_X1 hown hG.K (le_o (hP.of_mem hm)) 0 rfl rfl 0 (by decide) (hts _ q151) (fun _ h9 => h9) rfl dX1_places_16 ?_
      refine lv_iload_n hx hb dX1_places_19 rfl (lv_at hl 0 rfl) ?_
      obtain ⟨v3, e3, h⟩ := pb_some h
      obtain ⟨a3, e3, q3⟩ := pAt_T hvs e3
      refine c_call (va_runV (As := [.int y3]) (rest := []) ⟨hx, hb, hml, hown, hts⟩ (met_X2_at (t := (a3, v3)) hO.1 q3) (cwV 1 hts (lw_V q253 q254 q255 q68 q256) rfl rfl rfl ⟨rfl, hd_X2_at⟩ ⟨Nat.le_of_ble_eq_true rfl, Nat.le_of_ble_eq_true rfl⟩) (g_preV hG hSa (va_P.cons (le_t (hP.of_mem hm) e3) (le_st (hP.of_mem hm))) (va_recv hG.K (le_s (hP.of_mem hm)) (ci := 2) (q0 := 0) rfl rfl)) rfl rfl hl.1 rfl (lv_room (Nat.le_of_ble_eq_true rfl)) dX1_places_20 ⟨by show _ ≤ 21; omega, by show _ ≤ 84; omega⟩) ?_
      refine va_castS hx hb hown (hts _ q251) (hG.K.1 4 _ rfl).2 (va_recv hG.K (le_t (hP.of_mem hm) e3) (ci := 4) (q0 := 0) rfl rfl) dX1_places_23 ?_
      refine va_getN (ci := 4) (v := .ref (aL a3)) (C := RX4) (T := TX4) (N := 5) hx hb hts in_X4 hown hG.K (le_t (hP.of_mem hm) e3) 0 rfl rfl 4 (by decide) (nf_LectureTurns_Lecture_91 hG) (fun _ h9 => h9) rfl dX1_places_26 ?_
      refine c_callM (va_runV (As := []) (rest := []) ⟨hx, hb, hml, hown, hts⟩ (met_iterator ((hmT e3) _ List.mem_cons_self) hD) (cwV 0 hts (lw_V q638 q308 q309 q71 q310) rfl rfl rfl ⟨rfl, hd_J2_iterator⟩ ⟨Nat.le_of_ble_eq_true rfl, Nat.le_of_ble_eq_true rfl⟩) (g_preV hG hSa hP (va_recv hG.K (hP.of_mem (hmT e3)) (ci := 9) (q0 := 0) rfl rfl)) rfl rfl hl.1 rfl (lv_room (Nat.le_of_ble_eq_true rfl)) dX1_places_29 ⟨by show _ ≤ 21; omega, by show _ ≤ 84; omega⟩) hSa (fun v9 w9 H locs hp hP hD2 hSa => ?_)
      obtain ⟨q4, rfl, e9⟩ := hp
      rw [e9] at hP hD2
      refine lv_astore (lv' := [(4, .ref q4), (3, .int y3), (2, .int y2), (0, .ref (lL a)), (1, .int x1)]) hx hb dX1_places_32 hl (by decide) rfl (fun ls hl => ?_)
      obtain ⟨o5, e501, h⟩ := pb_some h
      refine lp_X1_places_2 hx hb hml hown hts hG hvs hO hm hD e3 (by show _ ≤ 21; omega) (by show _ ≤ 84; omega) _ _ _ e501 0 _ H locs ls rfl (Nat.zero_le _) hP hD2 hSa (lv_sub hl [2, 0, 1, 3, 4] rfl) (fun H locs ls hP hSa hl => ?_)
      refine lv_iinc (v := (y3 + (1 : Int32))) (lv' := [(3, .int (y3 + (1 : Int32))), (2, .int o5), (0, .ref (lL a)), (1, .int x1)]) hx hb dX1_places_71 hl (k := 1) rfl (by rfl) (by decide) rfl (fun ls hl => ?_)
      refine lv_goto (tgt := 4) hx hb dX1_places_74 (by decide) ?_
      exact ih _ _ _ h H locs ls _ _ (by omega) (by omega) hP hSa (lv_sub hl [0, 1, 2, 3] rfl) K
set_option maxHeartbeats 4000000 in
set_option maxRecDepth 100000 in
theorem met_X1_places {l : Launch} {w : va_W} {k : Cx} {a : LA} {T : List TT} {vs : List TV} {pit cor : Nat → Int32} {tol : Int32} {nf : Nat} {x1 : Int32} {r : Int32} (hvs : T.map Prod.snd = vs) (hO : leOk k a T) (hm : ∀ q ∈ (leW k a T pit cor tol), q ∈ w) (hD : va_D (Ab k) w) (h : m_X1_places nf vs x1 = some r) : Met l yX1_places (ws_ yX1_places cX1_places 6 (some .int)) ({ frames := 5, cells := 21, slots := 84, locals := 97 } : Room) (gPc [.ref (lL a), .int x1] k w) (QcM k (fun v w2 => v = some (.int r) ∧ w2 = w)) 21 84 (Ab k) := by
  refine Met.ofW (cc := cX1_places) (maxL := 6) (ret := (some .int)) (by decide) rfl ?_
  intro p e s m args below meth c s₁ B hml hv
  obtain ⟨rfl, hP, hG⟩ := hv
  have hx := B.exec
  have hb := B.bytes
  have hr := B.returns
  have hts := atoms_spec (ws := ws_ yX1_places cX1_places 6 (some .int)) B.pre
  have hts : ∀ w ∈ lw_all, w.before _ s = true := fun w h => hts w (List.mem_cons_of_mem _ h)
  have hown : s.vm.findClass RX1 = some m.cls := findClass_of_methodNamed B.named
  have hlocks := B.notSynchronized
  have hSa : va_S (Ab k) s.heap s.heap [] := va_S.rf
  have hmT : ∀ {j9 : Nat} {t9 : TT}, T[j9]? = some t9 → ∀ q ∈ lsW k (aL t9.1) (aE t9.1) (aC t9.1) (aM t9.1) (bxs k (vT t9.2)), q ∈ w := fun ht q hq => hm q (le_mt ht hq)
  have hl := lv_entry ([.ref (lL a), .int x1]) (n := 6) (Nat.le_of_ble_eq_true rfl)
  rw [lg_entry_eq]
  generalize (lg_sl ([.ref (lL a), .int x1]) ++ List.replicate (6 - (lg_sl ([.ref (lL a), .int x1])).length) Slot.unset).toArray = ls at hl ⊢
  have hl : lv_has ls 6 [(0, .ref (lL a)), (1, .int x1)] := hl
  unfold m_X1_places at h
  refine lv_iconst (v := 0) hx hb dX1_places_0 (by decide) ?_
  refine lv_istore_n (lv' := [(2, .int (0 : Int32)), (0, .ref (lL a)), (1, .int x1)]) hx hb dX1_places_1 rfl hl (by decide) rfl (fun ls hl => ?_)
  refine lv_iconst (v := 0) hx hb dX1_places_2 (by decide) ?_
  refine lv_istore_n (lv' := [(3, .int (0 : Int32)), (2, .int (0 : Int32)), (0, .ref (lL a)), (1, .int x1)]) hx hb dX1_places_3 rfl hl (by decide) rfl (fun ls hl => ?_)
  obtain ⟨o1, e501, h⟩ := pb_some h
  refine lp_X1_places_1 hx hb hml hown hts hG hvs hO hm hD (CE := 21) (SE := 84) (Nat.le_of_ble_eq_true rfl) (Nat.le_of_ble_eq_true rfl) _ _ _ _ _ e501 _ _ ls _ _ (Nat.le_of_ble_eq_true rfl) (Nat.le_of_ble_eq_true rfl) hP hSa (lv_sub hl [0, 1, 2, 3] rfl) (fun _ _ ls hP hSa hl => ?_)
  refine lv_iload_n hx hb dX1_places_77 rfl (lv_at hl 0 rfl) ?_
  cases h
  refine W.widen (k := 21) (n := 84) (Nat.le_of_ble_eq_true rfl) (Nat.le_of_ble_eq_true rfl) ?_
  exact W.iret hx hb hr (fun t ht hW => c_retM (w := w) ⟨rfl, rfl⟩ hP hD hSa ht) hSa.2.2 dX1_places_78
