/-! readers that allocate (printed by wip/gen/gen_comp.py) -/
def m_X0_showing_L1 (nf : Nat) (vs : List TV) (cor : Nat → Int32) (x1 : Int32) (x2 : Int32) : Nat → Int32 → Int32 → Option Int32
  | 0, _, _ => none
  | n + 1, y4, y3 =>
    if (nI vs.length) ≤ y4 then
      some y3
    else
      pb (pAt vs y4) <| fun v3 =>
      pb (m_X1_shows cor v3) <| fun r5 =>
      pb (
        if ((r5 >>> (x1 &&& 31)) &&& (1 : Int32)) = (1 : Int32) then
          some true
        else
          some false) <| fun j7 =>
      pb (
        if x2 = 0 then
          some y4
        else
          some (vS v3)) <| fun j9 =>
      pb (
        if (bi j7) = 0 then
          some (0 : Int32)
        else
          if j9 = (-1 : Int32) then
            some (0 : Int32)
          else
            some ((1 : Int32) <<< (j9 &&& 31))) <| fun j12 =>
      m_X0_showing_L1 nf vs cor x1 x2 n (y4 + (1 : Int32)) (y3 ||| j12)
def m_X0_showing (nf : Nat) (vs : List TV) (cor : Nat → Int32) (x1 : Int32) (x2 : Int32) : Option Int32 :=
  pb (m_X0_showing_L1 nf vs cor x1 x2 21 (0 : Int32) (0 : Int32)) <| fun o1 =>
  some o1
def m_X0_ofTurns_L1 (nf : Nat) (vs : List TV) (cor : Nat → Int32) (x1 : Int32) (x2 : Int32) : Nat → Int32 → Int32 → Int32 → Option (Int32 × Int32)
  | 0, _, _, _ => none
  | n + 1, y5, y4, y3 =>
    if (nI vs.length) ≤ y5 then
      some (y4, y3)
    else
      pb (pAt vs y5) <| fun v3 =>
      pb (
        if (vS v3) = x1 then
          some true
        else
          some false) <| fun j5 =>
      pb (
        if (bi j5) = 0 then
          some (0 : Int32)
        else
          if x2 = (2 : Int32) then
            pb (m_X4_seconds v3) <| fun r10 =>
            some r10
          else
            some (nI (vT v3).length)) <| fun j11 =>
      pb (
        if (bi j5) = 0 then
          some (0 : Int32)
        else
          pb (m_X1_shows cor v3) <| fun r14 =>
          some r14) <| fun j15 =>
      m_X0_ofTurns_L1 nf vs cor x1 x2 n (y5 + (1 : Int32)) (y4 ||| j15) (y3 + j11)
def m_X0_ofTurns (nf : Nat) (vs : List TV) (cor : Nat → Int32) (x1 : Int32) (x2 : Int32) : Option Int32 :=
  pb (m_X0_ofTurns_L1 nf vs cor x1 x2 21 (0 : Int32) (0 : Int32) (0 : Int32)) <| fun (o1, o2) =>
  if x2 = (3 : Int32) then
    some o1
  else
    some o2
def m_X0_termOf (nf : Nat) (vs : List TV) (cor : Nat → Int32) (x1 : Int32) (x2 : Int32) : Option Int32 :=
  pb (m_X0_isTerm x1) <| fun b2 =>
  if (bi b2) = 0 then
    some (-1000001 : Int32)
  else
    pb (m_X0_isBetween x2.toInt64 (0 : Int64) (6 : Int64)) <| fun b5 =>
    if (bi b5) = 0 then
      some (-1000001 : Int32)
    else
      if x2 = (0 : Int32) then
        pg (¬ (x1 < 0 ∨ 16 ≤ x1.toNatClampNeg)) <|
        pb (m_X0_orNotFound (cor x1.toNatClampNeg)) <| fun r10 =>
        some r10
      else
      if x2 = (1 : Int32) then
        pb (m_X1_shown 17 cor x1) <| fun r13 =>
        some r13
      else
      if x2 = (2 : Int32) then
        pb (m_X1_chain 17 cor x1) <| fun r16 =>
        some r16
      else
      if x2 = (3 : Int32) then
        pb (m_X1_shownAs nf cor x1) <| fun r19 =>
        pb (m_X1_places nf vs r19) <| fun r21 =>
        some r21
      else
      if x2 = (4 : Int32) then
        pb (
          if x2 = (5 : Int32) then
            some true
          else
            some false) <| fun j24 =>
        pb (m_X0_showing nf vs cor x1 (bi j24)) <| fun r26 =>
        some r26
      else
      if x2 = (5 : Int32) then
        pb (
          if x2 = (5 : Int32) then
            some true
          else
            some false) <| fun j29 =>
        pb (m_X0_showing nf vs cor x1 (bi j29)) <| fun r31 =>
        some r31
      else
      pb (m_X1_shownAs nf cor x1) <| fun r33 =>
      some r33
def m_X0_speakerOf (nf : Nat) (vs : List TV) (pit : Nat → Int32) (cor : Nat → Int32) (x1 : Int32) (x2 : Int32) : Option Int32 :=
  pb (m_X1_isSpeaker pit x1) <| fun b2 =>
  if (bi b2) = 0 then
    some (-1000001 : Int32)
  else
    pb (m_X0_isBetween x2.toInt64 (0 : Int64) (6 : Int64)) <| fun b5 =>
    if (bi b5) = 0 then
      some (-1000001 : Int32)
    else
      pb (m_X0_ofTurns nf vs cor x1 (2 : Int32)) <| fun r8 =>
      if x2 = (0 : Int32) then
        pg (¬ (x1 < 0 ∨ 6 ≤ x1.toNatClampNeg)) <|
        some (pit x1.toNatClampNeg)
      else
      if x2 = (1 : Int32) then
        pb (m_X1_turnsOf nf vs x1) <| fun r13 =>
        some r13
      else
      if x2 = (2 : Int32) then
        some r8
      else
      if x2 = (3 : Int32) then
        pb (m_X0_ofTurns nf vs cor x1 (3 : Int32)) <| fun r17 =>
        some r17
      else
      if x2 = (4 : Int32) then
        pb (m_X1_interruptions nf vs x1 (-1 : Int32)) <| fun r20 =>
        some r20
      else
      if x2 = (5 : Int32) then
        pb (m_X1_interruptions nf vs (-1 : Int32) x1) <| fun r23 =>
        some r23
      else
      if r8 = 0 then
        some (-1000004 : Int32)
      else
        pb (m_X0_ofTurns nf vs cor x1 (6 : Int32)) <| fun r26 =>
        pg ((FP.fmul (FP.i2f r26) (1114636288 : UInt32)) &&& 0x7fffffff ≤ 0x7f800000) <|
        pg ((FP.fdiv (FP.fmul (FP.i2f r26) (1114636288 : UInt32)) (FP.i2f r8)) &&& 0x7fffffff ≤ 0x7f800000) <|
        pb (m_J18_floatToIntBits (FP.fdiv (FP.fmul (FP.i2f r26) (1114636288 : UInt32)) (FP.i2f r8))) <| fun r30 =>
        some r30
theorem hd_X0_showing : yX0_showing.cls ≠ "java/lang/invoke/MethodHandle" ∧ yX0_showing.cls ≠ "java/lang/invoke/VarHandle" ∧ (parseMethodDescriptor yX0_showing.desc).map (fun d => d.parameters.length) = some 2 := by decide +kernel
set_option maxHeartbeats 4000000 in
set_option maxRecDepth 100000 in
theorem lp_X0_showing_1 {p : Program} {l : Launch} {e : Env} {s : State} {m : MethodId} {args : Array Value} {below : List Frame} {meth : Method} {c : Code} {Q : State → Prop} {w : va_W} {k : Cx} {a : LA} {T : List TT} {vs : List TV} {pit cor : Nat → Int32} {tol : Int32} {sy hi tx : Nat}  (hx : p.tables.exec = Jvm.exec) (hb : c.code = cX0_showing) (hml : c.maxLocals = 8) (hown : s.vm.findClass RX0 = some m.cls) (hts : ∀ w ∈ lw_all, w.before args s = true) (hG : GU k s) (hvs : T.map Prod.snd = vs) (hO : leOk k a T) (hm : ∀ q ∈ (syO sy a hi tx :: leW k a T pit cor tol), q ∈ w) (hD : va_D (Ab k) w) {CE SE : Nat} (hCE : CE ≤ 21) (hSE : SE ≤ 84) {x1 : Int32} {x2 : Int32} (nf : Nat) : ∀ (n : Nat) (y4 : Int32) (y3 : Int32) (z : Int32), m_X0_showing_L1 nf vs cor x1 x2 n y4 y3 = some z → ∀ (H : Heap) (locs : List Loc) (ls : Array Slot) (cells slots : Nat), cells + n * 1 ≤ CE → slots + n * 4 ≤ SE → va_P (kD k) gCl w H → va_S (Ab k) s.heap H locs → lv_has ls 8 [(4, .int y4), (3, .int y3), (0, .ref sy), (1, .int x1), (2, .int x2)] → (∀ (H : Heap) (locs : List Loc) (ls : Array Slot), va_P (kD k) gCl w H → va_S (Ab k) s.heap H locs → lv_has ls 8 [(3, .int z), (0, .ref sy), (1, .int x1), (2, .int x2)] → W p l e ({ frames := 20, cells := 21, slots := 84, locals := 414 } : Room) s m args below meth c H locs CE SE Q (F0 m 105 ls [])) → W p l e ({ frames := 20, cells := 21, slots := 84, locals := 414 } : Room) s m args below meth c H locs cells slots Q (F0 m 5 ls []) := by
  have hmT : ∀ {j9 : Nat} {t9 : TT}, T[j9]? = some t9 → ∀ q ∈ lsW k (aL t9.1) (aE t9.1) (aC t9.1) (aM t9.1) (bxs k (vT t9.2)), q ∈ w := fun ht q hq => hm q ((List.mem_cons_of_mem _ (le_mt ht hq)))
  intro n
  induction n with
  | zero => intro y4 y3 z h H locs ls cells slots hcN hsN hP hSa hl K; exact absurd h (by simp [m_X0_showing_L1])
  | succ n ih =>
    intro y4 y3 z h H locs ls cells slots hcN hsN hP hSa hl K
    unfold m_X0_showing_L1 at h
    refine lv_iload hx hb dX0_showing_5 (lv_at hl 0 rfl) ?_
    refine lv_aload_n hx hb dX0_showing_7 rfl (lv_at hl 2 rfl) ?_
    refine va_get (ci := 0) (v := .ref (lL a)) (C := RX0) (T := TX0) (N := 3) hx hb hts in_X0 hown hG.K (sy_o (hP.of_mem hm)) 0 rfl rfl 0 (by decide) (hts _ q220) (fun _ h9 => h9) rfl dX0_showing_8 ?_
    refine va_getN (ci := 1) (v := .ref (lS a)) (C := RX1) (T := TX1) (N := 4) hx hb hts in_X1 hown hG.K (le_o (sy_l (hP.of_mem hm))) 0 rfl rfl 0 (by decide) (nf_LectureTurns_132 hG) (fun _ h9 => h9) rfl dX0_showing_11 ?_
    refine c_call (va_runV (As := []) (rest := [.int y4]) ⟨hx, hb, hml, hown, hts⟩ (met_X2_size (n := vs.length) (by rw [← hvs]; simp)) (cwV 0 hts (lw_V q853 q244 q245 q68 q246) rfl rfl rfl ⟨rfl, hd_X2_size⟩ ⟨Nat.le_of_ble_eq_true rfl, Nat.le_of_ble_eq_true rfl⟩) (g_preV hG hSa (le_st (sy_l (hP.of_mem hm))) (va_recv hG.K (le_s (sy_l (hP.of_mem hm))) (ci := 2) (q0 := 0) rfl rfl)) rfl rfl hl.1 rfl (lv_room (Nat.le_of_ble_eq_true rfl)) dX0_showing_14 ⟨by show _ ≤ 21; omega, by show _ ≤ 84; omega⟩) ?_
    refine lv_icmp_ge (tgt := 105) hx hb dX0_showing_17 (by decide) (fun c2 => ?_) (fun c2 => ?_)
    · have h := pi_t c2 h
      cases h
      exact W.widen (by omega) (by omega) (K H locs ls hP hSa (lv_sub hl [1, 2, 3, 4] rfl))
    · have h := pi_f c2 h
      refine lv_aload_n hx hb dX0_showing_20 rfl (lv_at hl 2 rfl) ?_
      refine va_get (ci := 0) (v := .ref (lL a)) (C := RX0) (T := TX0) (N := 3) hx hb hts in_X0 hown hG.K (sy_o (hP.of_mem hm)) 0 rfl rfl 0 (by decide) (hts _ q220) (fun _ h9 => h9) rfl dX0_showing_21 ?_
      refine va_getN (ci := 1) (v := .ref (lS a)) (C := RX1) (T := TX1) (N := 4) hx hb hts in_X1 hown hG.K (le_o (sy_l (hP.of_mem hm))) 0 rfl rfl 0 (by decide) (nf_LectureTurns_132 hG) (fun _ h9 => h9) rfl dX0_showing_24 ?_
      refine lv_iload hx hb dX0_showing_27 (lv_at hl 0 rfl) ?_
      obtain ⟨v3, e3, h⟩ := pb_some h
      obtain ⟨a3, e3, q3⟩ := pAt_T hvs e3
      refine c_call (va_runV (As := [.int y4]) (rest := []) ⟨hx, hb, hml, hown, hts⟩ (met_X2_at (t := (a3, v3)) hO.1 q3) (cwV 1 hts (lw_V q765 q254 q255 q68 q256) rfl rfl rfl ⟨rfl, hd_X2_at⟩ ⟨Nat.le_of_ble_eq_true rfl, Nat.le_of_ble_eq_true rfl⟩) (g_preV hG hSa (va_P.cons (le_t (sy_l (hP.of_mem hm)) e3) (le_st (sy_l (hP.of_mem hm)))) (va_recv hG.K (le_s (sy_l (hP.of_mem hm))) (ci := 2) (q0 := 0) rfl rfl)) rfl rfl hl.1 rfl (lv_room (Nat.le_of_ble_eq_true rfl)) dX0_showing_29 ⟨by show _ ≤ 21; omega, by show _ ≤ 84; omega⟩) ?_
      refine va_castS hx hb hown (hts _ q766) (hG.K.1 4 _ rfl).2 (va_recv hG.K (le_t (sy_l (hP.of_mem hm)) e3) (ci := 4) (q0 := 0) rfl rfl) dX0_showing_32 ?_
      refine lv_astore (lv' := [(5, .ref (aT a3)), (4, .int y4), (3, .int y3), (0, .ref sy), (1, .int x1), (2, .int x2)]) hx hb dX0_showing_35 hl (by decide) rfl (fun ls hl => ?_)
      refine lv_aload_n hx hb dX0_showing_37 rfl (lv_at hl 3 rfl) ?_
      refine va_get (ci := 0) (v := .ref (lL a)) (C := RX0) (T := TX0) (N := 3) hx hb hts in_X0 hown hG.K (sy_o (hP.of_mem hm)) 0 rfl rfl 0 (by decide) (hts _ q220) (fun _ h9 => h9) rfl dX0_showing_38 ?_
      refine lv_aload hx hb dX0_showing_41 (lv_at hl 0 rfl) ?_
      obtain ⟨r5, e4, h⟩ := pb_some h
      refine c_callM (va_runV (As := [.ref (aT a3)]) (rest := []) ⟨hx, hb, hml, hown, hts⟩ (met_X1_shows hvs hO e3 (fun q hq => hm q (List.mem_cons_of_mem _ hq)) hD e4) (cwV 1 hts (lw_V q854 q855 q856 q67 q857) rfl rfl rfl ⟨rfl, hd_X1_shows⟩ ⟨Nat.le_of_ble_eq_true rfl, Nat.le_of_ble_eq_true rfl⟩) (g_preV hG hSa hP (va_recv hG.K (le_o (sy_l (hP.of_mem hm))) (ci := 1) (q0 := 0) rfl rfl)) rfl rfl hl.1 rfl (lv_room (Nat.le_of_ble_eq_true rfl)) dX0_showing_43 ⟨by show _ ≤ 21; omega, by show _ ≤ 84; omega⟩) hSa (fun v9 w9 H locs hp hP hD2 hSa => ?_)
      obtain ⟨rfl, e9⟩ := hp
      rw [e9] at hP
      refine lv_iload_n hx hb dX0_showing_46 rfl (lv_at hl 4 rfl) ?_
      refine lv_ishr hx hb dX0_showing_47 ?_
      refine lv_iconst (v := 1) hx hb dX0_showing_48 (by decide) ?_
      refine lv_iand hx hb dX0_showing_49 ?_
      refine lv_iconst (v := 1) hx hb dX0_showing_50 (by decide) ?_
      obtain ⟨j7, hj, h⟩ := pb_some h
      refine W.cut (g' := F0 m 59 ls [.int (bi j7)]) ?_ (fun K => ?_)
      · refine lv_istore (lv' := [(6, .int (bi j7)), (5, .ref (aT a3)), (4, .int y4), (3, .int y3), (0, .ref sy), (1, .int x1), (2, .int x2)]) hx hb dX0_showing_59 hl (by decide) rfl (fun ls hl => ?_)
        refine lv_iload_n hx hb dX0_showing_61 rfl (lv_at hl 6 rfl) ?_
        obtain ⟨j9, hj, h⟩ := pb_some h
        refine W.cut (g' := F0 m 75 ls [.int j9]) ?_ (fun K => ?_)
        · refine lv_istore (lv' := [(7, .int j9), (6, .int (bi j7)), (5, .ref (aT a3)), (4, .int y4), (3, .int y3), (0, .ref sy), (1, .int x1), (2, .int x2)]) hx hb dX0_showing_75 hl (by decide) rfl (fun ls hl => ?_)
          refine lv_iload_n hx hb dX0_showing_77 rfl (lv_at hl 4 rfl) ?_
          refine lv_iload hx hb dX0_showing_78 (lv_at hl 1 rfl) ?_
          obtain ⟨j12, hj, h⟩ := pb_some h
          refine W.cut (g' := F0 m 97 ls [.int j12, .int y3]) ?_ (fun K => ?_)
          · refine lv_ior hx hb dX0_showing_97 ?_
            refine lv_istore_n (lv' := [(3, .int (y3 ||| j12)), (7, .int j9), (6, .int (bi j7)), (5, .ref (aT a3)), (4, .int y4), (0, .ref sy), (1, .int x1), (2, .int x2)]) hx hb dX0_showing_98 rfl hl (by decide) rfl (fun ls hl => ?_)
            refine lv_iinc (v := (y4 + (1 : Int32))) (lv' := [(4, .int (y4 + (1 : Int32))), (3, .int (y3 ||| j12)), (7, .int j9), (6, .int (bi j7)), (5, .ref (aT a3)), (0, .ref sy), (1, .int x1), (2, .int x2)]) hx hb dX0_showing_99 hl (k := 4) rfl (by rfl) (by decide) rfl (fun ls hl => ?_)
            refine lv_goto (tgt := 5) hx hb dX0_showing_102 (by decide) ?_
            exact ih _ _ _ h H locs ls _ _ (by omega) (by omega) hP hSa (lv_sub hl [0, 1, 5, 6, 7] rfl) K
          · have h := hj
            refine lv_if_eq (tgt := 96) hx hb dX0_showing_80 (by decide) (fun c10 => ?_) (fun c10 => ?_)
            · have h := pi_t c10 h
              refine lv_iconst (v := 0) hx hb dX0_showing_96 (by decide) ?_
              cases h
              exact K
            · have h := pi_f c10 h
              refine lv_iload hx hb dX0_showing_83 (lv_at hl 0 rfl) ?_
              refine lv_iconst (v := -1) hx hb dX0_showing_85 (by decide) ?_
              refine lv_icmp_eq (tgt := 96) hx hb dX0_showing_86 (by decide) (fun c11 => ?_) (fun c11 => ?_)
              · have h := pi_t c11 h
                refine lv_iconst (v := 0) hx hb dX0_showing_96 (by decide) ?_
                cases h
                exact K
              · have h := pi_f c11 h
                refine lv_iconst (v := 1) hx hb dX0_showing_89 (by decide) ?_
                refine lv_iload hx hb dX0_showing_90 (lv_at hl 0 rfl) ?_
                refine lv_ishl hx hb dX0_showing_92 ?_
                refine lv_goto (tgt := 97) hx hb dX0_showing_93 (by decide) ?_
                cases h
                exact K
        · have h := hj
          refine lv_if_ne (tgt := 70) hx hb dX0_showing_62 (by decide) (fun c8 => ?_) (fun c8 => ?_)
          · have h := pi_f c8 h
            refine lv_aload hx hb dX0_showing_70 (lv_at hl 1 rfl) ?_
            refine va_getN (ci := 4) (v := .int (vS v3)) (C := RX4) (T := TX4) (N := 5) hx hb hts in_X4 hown hG.K (le_t (sy_l (hP.of_mem hm)) e3) 0 rfl rfl 3 (by decide) (nf_LectureTurns_174 hG) (fun _ h9 => h9) rfl dX0_showing_72 ?_
            cases h
            exact K
          · have h := pi_t c8 h
            refine lv_iload hx hb dX0_showing_65 (lv_at hl 2 rfl) ?_
            refine lv_goto (tgt := 75) hx hb dX0_showing_67 (by decide) ?_
            cases h
            exact K
      · have h := hj
        refine lv_icmp_ne (tgt := 58) hx hb dX0_showing_51 (by decide) (fun c6 => ?_) (fun c6 => ?_)
        · have h := pi_f c6 h
          refine lv_iconst (v := 0) hx hb dX0_showing_58 (by decide) ?_
          cases h
          exact K
        · have h := pi_t c6 h
          refine lv_iconst (v := 1) hx hb dX0_showing_54 (by decide) ?_
          refine lv_goto (tgt := 59) hx hb dX0_showing_55 (by decide) ?_
          cases h
          exact K
set_option maxHeartbeats 4000000 in
set_option maxRecDepth 100000 in
theorem met_X0_showing {l : Launch} {w : va_W} {k : Cx} {a : LA} {T : List TT} {vs : List TV} {pit cor : Nat → Int32} {tol : Int32} {sy hi tx : Nat} {nf : Nat} {x1 : Int32} {x2 : Int32} {r : Int32} (hvs : T.map Prod.snd = vs) (hO : leOk k a T) (hm : ∀ q ∈ (syO sy a hi tx :: leW k a T pit cor tol), q ∈ w) (hD : va_D (Ab k) w) (h : m_X0_showing nf vs cor x1 x2 = some r) : Met l yX0_showing (ws_ yX0_showing cX0_showing 8 (some .int)) ({ frames := 20, cells := 21, slots := 84, locals := 414 } : Room) (gPc [.ref sy, .int x1, .int x2] k w) (QcM k (fun v w2 => v = some (.int r) ∧ w2 = w)) 21 84 (Ab k) := by
  refine Met.ofW (cc := cX0_showing) (maxL := 8) (ret := (some .int)) (by decide) rfl ?_
  intro p e s m args below meth c s₁ B hml hv
  obtain ⟨rfl, hP, hG⟩ := hv
  have hx := B.exec
  have hb := B.bytes
  have hr := B.returns
  have hts := atoms_spec (ws := ws_ yX0_showing cX0_showing 8 (some .int)) B.pre
  have hts : ∀ w ∈ lw_all, w.before _ s = true := fun w h => hts w (List.mem_cons_of_mem _ h)
  have hown : s.vm.findClass RX0 = some m.cls := findClass_of_methodNamed B.named
  have hlocks := B.notSynchronized
  have hSa : va_S (Ab k) s.heap s.heap [] := va_S.rf
  have hmT : ∀ {j9 : Nat} {t9 : TT}, T[j9]? = some t9 → ∀ q ∈ lsW k (aL t9.1) (aE t9.1) (aC t9.1) (aM t9.1) (bxs k (vT t9.2)), q ∈ w := fun ht q hq => hm q ((List.mem_cons_of_mem _ (le_mt ht hq)))
  have hl := lv_entry ([.ref sy, .int x1, .int x2]) (n := 8) (Nat.le_of_ble_eq_true rfl)
  rw [lg_entry_eq]
  generalize (lg_sl ([.ref sy, .int x1, .int x2]) ++ List.replicate (8 - (lg_sl ([.ref sy, .int x1, .int x2])).length) Slot.unset).toArray = ls at hl ⊢
  have hl : lv_has ls 8 [(0, .ref sy), (1, .int x1), (2, .int x2)] := hl
  unfold m_X0_showing at h
  refine lv_iconst (v := 0) hx hb dX0_showing_0 (by decide) ?_
  refine lv_istore_n (lv' := [(3, .int (0 : Int32)), (0, .ref sy), (1, .int x1), (2, .int x2)]) hx hb dX0_showing_1 rfl hl (by decide) rfl (fun ls hl => ?_)
  refine lv_iconst (v := 0) hx hb dX0_showing_2 (by decide) ?_
  refine lv_istore (lv' := [(4, .int (0 : Int32)), (3, .int (0 : Int32)), (0, .ref sy), (1, .int x1), (2, .int x2)]) hx hb dX0_showing_3 hl (by decide) rfl (fun ls hl => ?_)
  obtain ⟨o1, e501, h⟩ := pb_some h
  refine lp_X0_showing_1 hx hb hml hown hts hG hvs hO hm hD (CE := 21) (SE := 84) (Nat.le_of_ble_eq_true rfl) (Nat.le_of_ble_eq_true rfl) _ _ _ _ _ e501 _ _ ls _ _ (Nat.le_of_ble_eq_true rfl) (Nat.le_of_ble_eq_true rfl) hP hSa (lv_sub hl [0, 1, 2, 3, 4] rfl) (fun _ _ ls hP hSa hl => ?_)
  refine lv_iload_n hx hb dX0_showing_105 rfl (lv_at hl 0 rfl) ?_
  cases h
  refine W.widen (k := 21) (n := 84) (Nat.le_of_ble_eq_true rfl) (Nat.le_of_ble_eq_true rfl) ?_
  exact W.iret hx hb hr (fun t ht hW => c_retM (w := w) ⟨rfl, rfl⟩ hP hD hSa ht) hSa.2.2 dX0_showing_106
theorem hd_X0_ofTurns : yX0_ofTurns.cls ≠ "java/lang/invoke/MethodHandle" ∧ yX0_ofTurns.cls ≠ "java/lang/invoke/VarHandle" ∧ (parseMethodDescriptor yX0_ofTurns.desc).map (fun d => d.parameters.length) = some 2 := by decide +kernel
set_option maxHeartbeats 4000000 in
set_option maxRecDepth 100000 in
theorem lp_X0_ofTurns_1 {p : Program} {l : Launch} {e : Env} {s : State} {m : MethodId} {args : Array Value} {below : List Frame} {meth : Method} {c : Code} {Q : State → Prop} {w : va_W} {k : Cx} {a : LA} {T : List TT} {vs : List TV} {pit cor : Nat → Int32} {tol : Int32} {sy hi tx : Nat}  (hx : p.tables.exec = Jvm.exec) (hb : c.code = cX0_ofTurns) (hml : c.maxLocals = 8) (hown : s.vm.findClass RX0 = some m.cls) (hts : ∀ w ∈ lw_all, w.before args s = true) (hG : GU k s) (hvs : T.map Prod.snd = vs) (hO : leOk k a T) (hm : ∀ q ∈ (syO sy a hi tx :: leW k a T pit cor tol), q ∈ w) (hD : va_D (Ab k) w) {CE SE : Nat} (hCE : CE ≤ 21) (hSE : SE ≤ 84) {x1 : Int32} {x2 : Int32} (nf : Nat) : ∀ (n : Nat) (y5 : Int32) (y4 : Int32) (y3 : Int32) (z : (Int32 × Int32)), m_X0_ofTurns_L1 nf vs cor x1 x2 n y5 y4 y3 = some z → ∀ (H : Heap) (locs : List Loc) (ls : Array Slot) (cells slots : Nat), cells + n * 1 ≤ CE → slots + n * 4 ≤ SE → va_P (kD k) gCl w H → va_S (Ab k) s.heap H locs → lv_has ls 8 [(5, .int y5), (4, .int y4), (3, .int y3), (0, .ref sy), (1, .int x1), (2, .int x2)] → (∀ (H : Heap) (locs : List Loc) (ls : Array Slot), va_P (kD k) gCl w H → va_S (Ab k) s.heap H locs → lv_has ls 8 [(4, .int z.1), (3, .int z.2), (0, .ref sy), (1, .int x1), (2, .int x2)] → W p l e ({ frames := 20, cells := 21, slots := 84, locals := 414 } : Room) s m args below meth c H locs CE SE Q (F0 m 118 ls [])) → W p l e ({ frames := 20, cells := 21, slots := 84, locals := 414 } : Room) s m args below meth c H locs cells slots Q (F0 m 8 ls []) := by
  have hmT : ∀ {j9 : Nat} {t9 : TT}, T[j9]? = some t9 → ∀ q ∈ lsW k (aL t9.1) (aE t9.1) (aC t9.1) (aM t9.1) (bxs k (vT t9.2)), q ∈ w := fun ht q hq => hm q ((List.mem_cons_of_mem _ (le_mt ht hq)))
  intro n
  induction n with
  | zero => intro y5 y4 y3 z h H locs ls cells slots hcN hsN hP hSa hl K; exact absurd h (by simp [m_X0_ofTurns_L1])
  | succ n ih =>
    intro y5 y4 y3 z h H locs ls cells slots hcN hsN hP hSa hl K
    unfold m_X0_ofTurns_L1 at h
    refine lv_iload hx hb dX0_ofTurns_8 (lv_at hl 0 rfl) ?_
    refine lv_aload_n hx hb dX0_ofTurns_10 rfl (lv_at hl 3 rfl) ?_
    refine va_get (ci := 0) (v := .ref (lL a)) (C := RX0) (T := TX0) (N := 3) hx hb hts in_X0 hown hG.K (sy_o (hP.of_mem hm)) 0 rfl rfl 0 (by decide) (hts _ q220) (fun _ h9 => h9) rfl dX0_ofTurns_11 ?_
    refine va_getN (ci := 1) (v := .ref (lS a)) (C := RX1) (T := TX1) (N := 4) hx hb hts in_X1 hown hG.K (le_o (sy_l (hP.of_mem hm))) 0 rfl rfl 0 (by decide) (nf_LectureTurns_132 hG) (fun _ h9 => h9) rfl dX0_ofTurns_14 ?_
    refine c_call (va_runV (As := []) (rest := [.int y5]) ⟨hx, hb, hml, hown, hts⟩ (met_X2_size (n := vs.length) (by rw [← hvs]; simp)) (cwV 0 hts (lw_V q853 q244 q245 q68 q246) rfl rfl rfl ⟨rfl, hd_X2_size⟩ ⟨Nat.le_of_ble_eq_true rfl, Nat.le_of_ble_eq_true rfl⟩) (g_preV hG hSa (le_st (sy_l (hP.of_mem hm))) (va_recv hG.K (le_s (sy_l (hP.of_mem hm))) (ci := 2) (q0 := 0) rfl rfl)) rfl rfl hl.1 rfl (lv_room (Nat.le_of_ble_eq_true rfl)) dX0_ofTurns_17 ⟨by show _ ≤ 21; omega, by show _ ≤ 84; omega⟩) ?_
    refine lv_icmp_ge (tgt := 118) hx hb dX0_ofTurns_20 (by decide) (fun c2 => ?_) (fun c2 => ?_)
    · have h := pi_t c2 h
      cases h
      exact W.widen (by omega) (by omega) (K H locs ls hP hSa (lv_sub hl [1, 2, 3, 4, 5] rfl))
    · have h := pi_f c2 h
      refine lv_aload_n hx hb dX0_ofTurns_23 rfl (lv_at hl 3 rfl) ?_
      refine va_get (ci := 0) (v := .ref (lL a)) (C := RX0) (T := TX0) (N := 3) hx hb hts in_X0 hown hG.K (sy_o (hP.of_mem hm)) 0 rfl rfl 0 (by decide) (hts _ q220) (fun _ h9 => h9) rfl dX0_ofTurns_24 ?_
      refine va_getN (ci := 1) (v := .ref (lS a)) (C := RX1) (T := TX1) (N := 4) hx hb hts in_X1 hown hG.K (le_o (sy_l (hP.of_mem hm))) 0 rfl rfl 0 (by decide) (nf_LectureTurns_132 hG) (fun _ h9 => h9) rfl dX0_ofTurns_27 ?_
      refine lv_iload hx hb dX0_ofTurns_30 (lv_at hl 0 rfl) ?_
      obtain ⟨v3, e3, h⟩ := pb_some h
      obtain ⟨a3, e3, q3⟩ := pAt_T hvs e3
      refine c_call (va_runV (As := [.int y5]) (rest := []) ⟨hx, hb, hml, hown, hts⟩ (met_X2_at (t := (a3, v3)) hO.1 q3) (cwV 1 hts (lw_V q765 q254 q255 q68 q256) rfl rfl rfl ⟨rfl, hd_X2_at⟩ ⟨Nat.le_of_ble_eq_true rfl, Nat.le_of_ble_eq_true rfl⟩) (g_preV hG hSa (va_P.cons (le_t (sy_l (hP.of_mem hm)) e3) (le_st (sy_l (hP.of_mem hm)))) (va_recv hG.K (le_s (sy_l (hP.of_mem hm))) (ci := 2) (q0 := 0) rfl rfl)) rfl rfl hl.1 rfl (lv_room (Nat.le_of_ble_eq_true rfl)) dX0_ofTurns_32 ⟨by show _ ≤ 21; omega, by show _ ≤ 84; omega⟩) ?_
      refine va_castS hx hb hown (hts _ q766) (hG.K.1 4 _ rfl).2 (va_recv hG.K (le_t (sy_l (hP.of_mem hm)) e3) (ci := 4) (q0 := 0) rfl rfl) dX0_ofTurns_35 ?_
      refine lv_astore (lv' := [(6, .ref (aT a3)), (5, .int y5), (4, .int y4), (3, .int y3), (0, .ref sy), (1, .int x1), (2, .int x2)]) hx hb dX0_ofTurns_38 hl (by decide) rfl (fun ls hl => ?_)
      refine lv_aload hx hb dX0_ofTurns_40 (lv_at hl 0 rfl) ?_
      refine va_getN (ci := 4) (v := .int (vS v3)) (C := RX4) (T := TX4) (N := 5) hx hb hts in_X4 hown hG.K (le_t (sy_l (hP.of_mem hm)) e3) 0 rfl rfl 3 (by decide) (nf_LectureTurns_174 hG) (fun _ h9 => h9) rfl dX0_ofTurns_42 ?_
      refine lv_iload_n hx hb dX0_ofTurns_45 rfl (lv_at hl 5 rfl) ?_
      obtain ⟨j5, hj, h⟩ := pb_some h
      refine W.cut (g' := F0 m 54 ls [.int (bi j5)]) ?_ (fun K => ?_)
      · refine lv_istore (lv' := [(7, .int (bi j5)), (6, .ref (aT a3)), (5, .int y5), (4, .int y4), (3, .int y3), (0, .ref sy), (1, .int x1), (2, .int x2)]) hx hb dX0_ofTurns_54 hl (by decide) rfl (fun ls hl => ?_)
        refine lv_iload_n hx hb dX0_ofTurns_56 rfl (lv_at hl 4 rfl) ?_
        refine lv_iload hx hb dX0_ofTurns_57 (lv_at hl 0 rfl) ?_
        obtain ⟨j11, hj, h⟩ := pb_some h
        refine W.cut (g' := F0 m 87 ls [.int j11, .int y3]) ?_ (fun K => ?_)
        · refine lv_iadd hx hb dX0_ofTurns_87 ?_
          refine lv_istore_n (lv' := [(3, .int (y3 + j11)), (7, .int (bi j5)), (6, .ref (aT a3)), (5, .int y5), (4, .int y4), (0, .ref sy), (1, .int x1), (2, .int x2)]) hx hb dX0_ofTurns_88 rfl hl (by decide) rfl (fun ls hl => ?_)
          refine lv_iload hx hb dX0_ofTurns_89 (lv_at hl 4 rfl) ?_
          refine lv_iload hx hb dX0_ofTurns_91 (lv_at hl 1 rfl) ?_
          obtain ⟨j15, hj, h⟩ := pb_some h
          refine W.cutM (cells' := cells + 1) (slots' := slots + 4) (G := fun H locs ls => va_P (kD k) gCl w H ∧ va_S (Ab k) s.heap H locs ∧ lv_has ls 8 [(3, .int (y3 + j11)), (7, .int (bi j5)), (6, .ref (aT a3)), (5, .int y5), (4, .int y4), (0, .ref sy), (1, .int x1), (2, .int x2)]) (pc' := 109) (st' := [.int j15, .int y4]) (fun H locs ls hG9 => ?_) (fun K => ?_)
          · obtain ⟨hP, hSa, hl⟩ := hG9
            refine lv_ior hx hb dX0_ofTurns_109 ?_
            refine lv_istore (lv' := [(4, .int (y4 ||| j15)), (3, .int (y3 + j11)), (7, .int (bi j5)), (6, .ref (aT a3)), (5, .int y5), (0, .ref sy), (1, .int x1), (2, .int x2)]) hx hb dX0_ofTurns_110 hl (by decide) rfl (fun ls hl => ?_)
            refine lv_iinc (v := (y5 + (1 : Int32))) (lv' := [(5, .int (y5 + (1 : Int32))), (4, .int (y4 ||| j15)), (3, .int (y3 + j11)), (7, .int (bi j5)), (6, .ref (aT a3)), (0, .ref sy), (1, .int x1), (2, .int x2)]) hx hb dX0_ofTurns_112 hl (k := 4) rfl (by rfl) (by decide) rfl (fun ls hl => ?_)
            refine lv_goto (tgt := 8) hx hb dX0_ofTurns_115 (by decide) ?_
            exact ih _ _ _ _ h H locs ls _ _ (by omega) (by omega) hP hSa (lv_sub hl [0, 1, 2, 5, 6, 7] rfl) K
          · have h := hj
            refine lv_if_eq (tgt := 108) hx hb dX0_ofTurns_93 (by decide) (fun c12 => ?_) (fun c12 => ?_)
            · have h := pi_t c12 h
              refine lv_iconst (v := 0) hx hb dX0_ofTurns_108 (by decide) ?_
              cases h
              exact W.widen (by omega) (by omega) (K _ _ _ ⟨hP, hSa, lv_sub hl [0, 1, 2, 3, 4, 5, 6, 7] rfl⟩)
            · have h := pi_f c12 h
              refine lv_aload_n hx hb dX0_ofTurns_96 rfl (lv_at hl 5 rfl) ?_
              refine va_get (ci := 0) (v := .ref (lL a)) (C := RX0) (T := TX0) (N := 3) hx hb hts in_X0 hown hG.K (sy_o (hP.of_mem hm)) 0 rfl rfl 0 (by decide) (hts _ q220) (fun _ h9 => h9) rfl dX0_ofTurns_97 ?_
              refine lv_aload hx hb dX0_ofTurns_100 (lv_at hl 2 rfl) ?_
              obtain ⟨r14, e13, h⟩ := pb_some h
              refine c_callM (va_runV (As := [.ref (aT a3)]) (rest := [.int y4]) ⟨hx, hb, hml, hown, hts⟩ (met_X1_shows hvs hO e3 (fun q hq => hm q (List.mem_cons_of_mem _ hq)) hD e13) (cwV 1 hts (lw_V q854 q855 q856 q67 q857) rfl rfl rfl ⟨rfl, hd_X1_shows⟩ ⟨Nat.le_of_ble_eq_true rfl, Nat.le_of_ble_eq_true rfl⟩) (g_preV hG hSa hP (va_recv hG.K (le_o (sy_l (hP.of_mem hm))) (ci := 1) (q0 := 0) rfl rfl)) rfl rfl hl.1 rfl (lv_room (Nat.le_of_ble_eq_true rfl)) dX0_ofTurns_102 ⟨by show _ ≤ 21; omega, by show _ ≤ 84; omega⟩) hSa (fun v9 w9 H locs hp hP hD2 hSa => ?_)
              obtain ⟨rfl, e9⟩ := hp
              rw [e9] at hP
              refine lv_goto (tgt := 109) hx hb dX0_ofTurns_105 (by decide) ?_
              cases h
              exact W.widen (by omega) (by omega) (K _ _ _ ⟨hP, hSa, lv_sub hl [0, 1, 2, 3, 4, 5, 6, 7] rfl⟩)
        · have h := hj
          refine lv_if_ne (tgt := 66) hx hb dX0_ofTurns_59 (by decide) (fun c6 => ?_) (fun c6 => ?_)
          · have h := pi_f c6 h
            refine lv_iload_n hx hb dX0_ofTurns_66 rfl (lv_at hl 7 rfl) ?_
            refine lv_iconst (v := 2) hx hb dX0_ofTurns_67 (by decide) ?_
            refine lv_icmp_ne (tgt := 79) hx hb dX0_ofTurns_68 (by decide) (fun c7 => ?_) (fun c7 => ?_)
            · have h := pi_f c7 h
              refine lv_aload hx hb dX0_ofTurns_79 (lv_at hl 1 rfl) ?_
              refine va_getN (ci := 4) (v := .ref (aL a3)) (C := RX4) (T := TX4) (N := 5) hx hb hts in_X4 hown hG.K (le_t (sy_l (hP.of_mem hm)) e3) 0 rfl rfl 4 (by decide) (nf_LectureTurns_150 hG) (fun _ h9 => h9) rfl dX0_ofTurns_81 ?_
              refine c_call (va_runV (As := []) (rest := [.int y3]) ⟨hx, hb, hml, hown, hts⟩ (met_J2_size (n := (vT v3).length) (by simp)) (cwV 0 hts (lw_V q786 q248 q249 q71 q250) rfl rfl rfl ⟨rfl, hd_J2_size⟩ ⟨Nat.le_of_ble_eq_true rfl, Nat.le_of_ble_eq_true rfl⟩) (g_preV hG hSa (tu_l (le_tw (sy_l (hP.of_mem hm)) e3)) (va_recv hG.K (tu_l (le_tw (sy_l (hP.of_mem hm)) e3)) (ci := 9) (q0 := 0) rfl rfl)) rfl rfl hl.1 rfl (lv_room (Nat.le_of_ble_eq_true rfl)) dX0_ofTurns_84 ⟨by show _ ≤ 21; omega, by show _ ≤ 84; omega⟩) ?_
              cases h
              exact K
            · have h := pi_t c7 h
              refine lv_aload hx hb dX0_ofTurns_71 (lv_at hl 1 rfl) ?_
              obtain ⟨r10, e9, h⟩ := pb_some h
              refine c_call (va_runV (As := []) (rest := [.int y3]) ⟨hx, hb, hml, hown, hts⟩ (met_X4_seconds e9) (cwV 0 hts (lw_V q867 q868 q869 q78 q870) rfl rfl rfl ⟨rfl, hd_X4_seconds⟩ ⟨Nat.le_of_ble_eq_true rfl, Nat.le_of_ble_eq_true rfl⟩) (g_preV hG hSa (le_t (sy_l (hP.of_mem hm)) e3) (va_recv hG.K (le_t (sy_l (hP.of_mem hm)) e3) (ci := 4) (q0 := 0) rfl rfl)) rfl rfl hl.1 rfl (lv_room (Nat.le_of_ble_eq_true rfl)) dX0_ofTurns_73 ⟨by show _ ≤ 21; omega, by show _ ≤ 84; omega⟩) ?_
              refine lv_goto (tgt := 87) hx hb dX0_ofTurns_76 (by decide) ?_
              cases h
              exact K
          · have h := pi_t c6 h
            refine lv_iconst (v := 0) hx hb dX0_ofTurns_62 (by decide) ?_
            refine lv_goto (tgt := 87) hx hb dX0_ofTurns_63 (by decide) ?_
            cases h
            exact K
      · have h := hj
        refine lv_icmp_ne (tgt := 53) hx hb dX0_ofTurns_46 (by decide) (fun c4 => ?_) (fun c4 => ?_)
        · have h := pi_f c4 h
          refine lv_iconst (v := 0) hx hb dX0_ofTurns_53 (by decide) ?_
          cases h
          exact K
        · have h := pi_t c4 h
          refine lv_iconst (v := 1) hx hb dX0_ofTurns_49 (by decide) ?_
          refine lv_goto (tgt := 54) hx hb dX0_ofTurns_50 (by decide) ?_
          cases h
          exact K
set_option maxHeartbeats 4000000 in
set_option maxRecDepth 100000 in
theorem met_X0_ofTurns {l : Launch} {w : va_W} {k : Cx} {a : LA} {T : List TT} {vs : List TV} {pit cor : Nat → Int32} {tol : Int32} {sy hi tx : Nat} {nf : Nat} {x1 : Int32} {x2 : Int32} {r : Int32} (hvs : T.map Prod.snd = vs) (hO : leOk k a T) (hm : ∀ q ∈ (syO sy a hi tx :: leW k a T pit cor tol), q ∈ w) (hD : va_D (Ab k) w) (h : m_X0_ofTurns nf vs cor x1 x2 = some r) : Met l yX0_ofTurns (ws_ yX0_ofTurns cX0_ofTurns 8 (some .int)) ({ frames := 20, cells := 21, slots := 84, locals := 414 } : Room) (gPc [.ref sy, .int x1, .int x2] k w) (QcM k (fun v w2 => v = some (.int r) ∧ w2 = w)) 21 84 (Ab k) := by
  refine Met.ofW (cc := cX0_ofTurns) (maxL := 8) (ret := (some .int)) (by decide) rfl ?_
  intro p e s m args below meth c s₁ B hml hv
  obtain ⟨rfl, hP, hG⟩ := hv
  have hx := B.exec
  have hb := B.bytes
  have hr := B.returns
  have hts := atoms_spec (ws := ws_ yX0_ofTurns cX0_ofTurns 8 (some .int)) B.pre
  have hts : ∀ w ∈ lw_all, w.before _ s = true := fun w h => hts w (List.mem_cons_of_mem _ h)
  have hown : s.vm.findClass RX0 = some m.cls := findClass_of_methodNamed B.named
  have hlocks := B.notSynchronized
  have hSa : va_S (Ab k) s.heap s.heap [] := va_S.rf
  have hmT : ∀ {j9 : Nat} {t9 : TT}, T[j9]? = some t9 → ∀ q ∈ lsW k (aL t9.1) (aE t9.1) (aC t9.1) (aM t9.1) (bxs k (vT t9.2)), q ∈ w := fun ht q hq => hm q ((List.mem_cons_of_mem _ (le_mt ht hq)))
  have hl := lv_entry ([.ref sy, .int x1, .int x2]) (n := 8) (Nat.le_of_ble_eq_true rfl)
  rw [lg_entry_eq]
  generalize (lg_sl ([.ref sy, .int x1, .int x2]) ++ List.replicate (8 - (lg_sl ([.ref sy, .int x1, .int x2])).length) Slot.unset).toArray = ls at hl ⊢
  have hl : lv_has ls 8 [(0, .ref sy), (1, .int x1), (2, .int x2)] := hl
  unfold m_X0_ofTurns at h
  refine lv_iconst (v := 0) hx hb dX0_ofTurns_0 (by decide) ?_
  refine lv_istore_n (lv' := [(3, .int (0 : Int32)), (0, .ref sy), (1, .int x1), (2, .int x2)]) hx hb dX0_ofTurns_1 rfl hl (by decide) rfl (fun ls hl => ?_)
  refine lv_iconst (v := 0) hx hb dX0_ofTurns_2 (by decide) ?_
  refine lv_istore (lv' := [(4, .int (0 : Int32)), (3, .int (0 : Int32)), (0, .ref sy), (1, .int x1), (2, .int x2)]) hx hb dX0_ofTurns_3 hl (by decide) rfl (fun ls hl => ?_)
  refine lv_iconst (v := 0) hx hb dX0_ofTurns_5 (by decide) ?_
  refine lv_istore (lv' := [(5, .int (0 : Int32)), (4, .int (0 : Int32)), (3, .int (0 : Int32)), (0, .ref sy), (1, .int x1), (2, .int x2)]) hx hb dX0_ofTurns_6 hl (by decide) rfl (fun ls hl => ?_)
  obtain ⟨⟨o1, o2⟩, e501, h⟩ := pb_some h
  refine lp_X0_ofTurns_1 hx hb hml hown hts hG hvs hO hm hD (CE := 21) (SE := 84) (Nat.le_of_ble_eq_true rfl) (Nat.le_of_ble_eq_true rfl) _ _ _ _ _ _ e501 _ _ ls _ _ (Nat.le_of_ble_eq_true rfl) (Nat.le_of_ble_eq_true rfl) hP hSa (lv_sub hl [0, 1, 2, 3, 4, 5] rfl) (fun _ _ ls hP hSa hl => ?_)
  refine lv_iload_n hx hb dX0_ofTurns_118 rfl (lv_at hl 4 rfl) ?_
  refine lv_iconst (v := 3) hx hb dX0_ofTurns_119 (by decide) ?_
  refine lv_icmp_ne (tgt := 128) hx hb dX0_ofTurns_120 (by decide) (fun c3 => ?_) (fun c3 => ?_)
  · have h := pi_f c3 h
    refine lv_iload_n hx hb dX0_ofTurns_128 rfl (lv_at hl 1 rfl) ?_
    cases h
    refine W.widen (k := 21) (n := 84) (Nat.le_of_ble_eq_true rfl) (Nat.le_of_ble_eq_true rfl) ?_
    exact W.iret hx hb hr (fun t ht hW => c_retM (w := w) ⟨rfl, rfl⟩ hP hD hSa ht) hSa.2.2 dX0_ofTurns_129
  · have h := pi_t c3 h
    refine lv_iload hx hb dX0_ofTurns_123 (lv_at hl 0 rfl) ?_
    refine lv_goto (tgt := 129) hx hb dX0_ofTurns_125 (by decide) ?_
    cases h
    refine W.widen (k := 21) (n := 84) (Nat.le_of_ble_eq_true rfl) (Nat.le_of_ble_eq_true rfl) ?_
    exact W.iret hx hb hr (fun t ht hW => c_retM (w := w) ⟨rfl, rfl⟩ hP hD hSa ht) hSa.2.2 dX0_ofTurns_129
theorem hd_X0_termOf : yX0_termOf.cls ≠ "java/lang/invoke/MethodHandle" ∧ yX0_termOf.cls ≠ "java/lang/invoke/VarHandle" ∧ (parseMethodDescriptor yX0_termOf.desc).map (fun d => d.parameters.length) = some 2 := by decide +kernel
set_option maxHeartbeats 4000000 in
set_option maxRecDepth 100000 in
theorem met_X0_termOf {l : Launch} {w : va_W} {k : Cx} {a : LA} {T : List TT} {vs : List TV} {pit cor : Nat → Int32} {tol : Int32} {sy hi tx : Nat} {nf : Nat} {x1 : Int32} {x2 : Int32} {r : Int32} (hvs : T.map Prod.snd = vs) (hO : leOk k a T) (hm : ∀ q ∈ (syO sy a hi tx :: leW k a T pit cor tol), q ∈ w) (hD : va_D (Ab k) w) (h : m_X0_termOf nf vs cor x1 x2 = some r) : Met l yX0_termOf (ws_ yX0_termOf cX0_termOf 3 (some .int)) ({ frames := 21, cells := 21, slots := 84, locals := 441 } : Room) (gPc [.ref sy, .int x1, .int x2] k w) (QcM k (fun v w2 => v = some (.int r) ∧ w2 = w)) 21 84 (Ab k) := by
  refine Met.ofW (cc := cX0_termOf) (maxL := 3) (ret := (some .int)) (by decide) rfl ?_
  intro p e s m args below meth c s₁ B hml hv
  obtain ⟨rfl, hP, hG⟩ := hv
  have hx := B.exec
  have hb := B.bytes
  have hr := B.returns
  have hts := atoms_spec (ws := ws_ yX0_termOf cX0_termOf 3 (some .int)) B.pre
  have hts : ∀ w ∈ lw_all, w.before _ s = true := fun w h => hts w (List.mem_cons_of_mem _ h)
  have hown : s.vm.findClass RX0 = some m.cls := findClass_of_methodNamed B.named
  have hlocks := B.notSynchronized
  have hSa : va_S (Ab k) s.heap s.heap [] := va_S.rf
  have hmT : ∀ {j9 : Nat} {t9 : TT}, T[j9]? = some t9 → ∀ q ∈ lsW k (aL t9.1) (aE t9.1) (aC t9.1) (aM t9.1) (bxs k (vT t9.2)), q ∈ w := fun ht q hq => hm q ((List.mem_cons_of_mem _ (le_mt ht hq)))
  have hl := lv_entry ([.ref sy, .int x1, .int x2]) (n := 3) (Nat.le_of_ble_eq_true rfl)
  rw [lg_entry_eq]
  generalize (lg_sl ([.ref sy, .int x1, .int x2]) ++ List.replicate (3 - (lg_sl ([.ref sy, .int x1, .int x2])).length) Slot.unset).toArray = ls at hl ⊢
  have hl : lv_has ls 3 [(0, .ref sy), (1, .int x1), (2, .int x2)] := hl
  unfold m_X0_termOf at h
  refine lv_iload_n hx hb dX0_termOf_0 rfl (lv_at hl 1 rfl) ?_
  obtain ⟨b2, e1, h⟩ := pb_some h
  refine c_call (va_runS (As := [.int x1]) (rest := []) ⟨hx, hb, hml, hown, hts⟩ (met_X0_isTerm e1) (va_cwS 1 hts (lw_S q837 q539 q66 q540) rfl rfl rfl hd_X0_isTerm ⟨Nat.le_of_ble_eq_true rfl, Nat.le_of_ble_eq_true rfl⟩) m_preS rfl rfl hl.1 rfl (lv_room (Nat.le_of_ble_eq_true rfl)) dX0_termOf_1 ⟨Nat.le_of_ble_eq_true rfl, Nat.le_of_ble_eq_true rfl⟩) ?_
  refine lv_if_eq (tgt := 19) hx hb dX0_termOf_4 (by decide) (fun c3 => ?_) (fun c3 => ?_)
  · have h := pi_t c3 h
    refine lv_ldc hx hb hown (hts _ q758) dX0_termOf_19 ?_
    cases h
    refine W.widen (k := 21) (n := 84) (Nat.le_of_ble_eq_true rfl) (Nat.le_of_ble_eq_true rfl) ?_
    exact W.iret hx hb hr (fun t ht hW => c_retM (w := w) ⟨rfl, rfl⟩ hP hD hSa ht) hSa.2.2 dX0_termOf_21
  · have h := pi_f c3 h
    refine lv_iload_n hx hb dX0_termOf_7 rfl (lv_at hl 2 rfl) ?_
    refine lv_i2l hx hb dX0_termOf_8 rfl ?_
    refine lv_lconst (v := 0) hx hb dX0_termOf_9 (by decide) ?_
    refine lv_ldc2 hx hb hown (hts _ q838) dX0_termOf_10 ?_
    obtain ⟨b5, e4, h⟩ := pb_some h
    refine c_call (va_runS (As := [.long x2.toInt64, .long (0 : Int64), .long (6 : Int64)]) (rest := []) ⟨hx, hb, hml, hown, hts⟩ (met_X0_isBetween e4) (va_cwS 3 hts (lw_S q454 q446 q66 q447) rfl rfl rfl hd_X0_isBetween ⟨Nat.le_of_ble_eq_true rfl, Nat.le_of_ble_eq_true rfl⟩) m_preS rfl rfl hl.1 rfl (lv_room (Nat.le_of_ble_eq_true rfl)) dX0_termOf_13 ⟨Nat.le_of_ble_eq_true rfl, Nat.le_of_ble_eq_true rfl⟩) ?_
    refine lv_if_ne (tgt := 22) hx hb dX0_termOf_16 (by decide) (fun c6 => ?_) (fun c6 => ?_)
    · have h := pi_f c6 h
      refine lv_iload_n hx hb dX0_termOf_22 rfl (lv_at hl 2 rfl) ?_
      by_cases c7 : x2 = (0 : Int32)
      · have h := pi_t c7 h
        refine lv_tableIn (off := 37) (tgt := 60) hx hb dX0_termOf_23 (by rw [c7]; decide) (by rw [c7]; decide) (by rw [c7]; decide) (by decide) ?_
        refine lv_aload_n hx hb dX0_termOf_60 rfl (lv_at hl 0 rfl) ?_
        refine va_get (ci := 0) (v := .ref (lL a)) (C := RX0) (T := TX0) (N := 3) hx hb hts in_X0 hown hG.K (sy_o (hP.of_mem hm)) 0 rfl rfl 0 (by decide) (hts _ q220) (fun _ h9 => h9) rfl dX0_termOf_61 ?_
        refine va_getN (ci := 1) (v := .ref (lK a)) (C := RX1) (T := TX1) (N := 4) hx hb hts in_X1 hown hG.K (le_o (sy_l (hP.of_mem hm))) 0 rfl rfl 2 (by decide) (nf_LectureTurns_182 hG) (fun _ h9 => h9) rfl dX0_termOf_64 ?_
        refine lv_iload_n hx hb dX0_termOf_67 rfl (lv_at hl 1 rfl) ?_
        obtain ⟨g8, h⟩ := pg_some h
        refine va_iald hx hb hG.K (le_c (sy_l (hP.of_mem hm))) 0 0 rfl rfl g8 dX0_termOf_68 ?_
        obtain ⟨r10, e9, h⟩ := pb_some h
        refine c_call (va_runS (As := [.int (cor x1.toNatClampNeg)]) (rest := []) ⟨hx, hb, hml, hown, hts⟩ (met_X0_orNotFound e9) (va_cwS 1 hts (lw_S q780 q781 q66 q782) rfl rfl rfl hd_X0_orNotFound ⟨Nat.le_of_ble_eq_true rfl, Nat.le_of_ble_eq_true rfl⟩) m_preS rfl rfl hl.1 rfl (lv_room (Nat.le_of_ble_eq_true rfl)) dX0_termOf_69 ⟨Nat.le_of_ble_eq_true rfl, Nat.le_of_ble_eq_true rfl⟩) ?_
        cases h
        refine W.widen (k := 21) (n := 84) (Nat.le_of_ble_eq_true rfl) (Nat.le_of_ble_eq_true rfl) ?_
        exact W.iret hx hb hr (fun t ht hW => c_retM (w := w) ⟨rfl, rfl⟩ hP hD hSa ht) hSa.2.2 dX0_termOf_72
      have h := pi_f c7 h
      by_cases c11 : x2 = (1 : Int32)
      · have h := pi_t c11 h
        refine lv_tableIn (off := 50) (tgt := 73) hx hb dX0_termOf_23 (by rw [c11]; decide) (by rw [c11]; decide) (by rw [c11]; decide) (by decide) ?_
        refine lv_aload_n hx hb dX0_termOf_73 rfl (lv_at hl 0 rfl) ?_
        refine va_get (ci := 0) (v := .ref (lL a)) (C := RX0) (T := TX0) (N := 3) hx hb hts in_X0 hown hG.K (sy_o (hP.of_mem hm)) 0 rfl rfl 0 (by decide) (hts _ q220) (fun _ h9 => h9) rfl dX0_termOf_74 ?_
        refine lv_iload_n hx hb dX0_termOf_77 rfl (lv_at hl 1 rfl) ?_
        obtain ⟨r13, e12, h⟩ := pb_some h
        refine c_call (va_runV (As := [.int x1]) (rest := []) ⟨hx, hb, hml, hown, hts⟩ (met_X1_shown hvs hO  e12) (cwV 1 hts (lw_V q832 q631 q632 q67 q633) rfl rfl rfl ⟨rfl, hd_X1_shown⟩ ⟨Nat.le_of_ble_eq_true rfl, Nat.le_of_ble_eq_true rfl⟩) (g_preV hG hSa (sy_l (hP.of_mem hm)) (va_recv hG.K (le_o (sy_l (hP.of_mem hm))) (ci := 1) (q0 := 0) rfl rfl)) rfl rfl hl.1 rfl (lv_room (Nat.le_of_ble_eq_true rfl)) dX0_termOf_78 ⟨Nat.le_of_ble_eq_true rfl, Nat.le_of_ble_eq_true rfl⟩) ?_
        cases h
        refine W.widen (k := 21) (n := 84) (Nat.le_of_ble_eq_true rfl) (Nat.le_of_ble_eq_true rfl) ?_
        exact W.iret hx hb hr (fun t ht hW => c_retM (w := w) ⟨rfl, rfl⟩ hP hD hSa ht) hSa.2.2 dX0_termOf_81
      have h := pi_f c11 h
      by_cases c14 : x2 = (2 : Int32)
      · have h := pi_t c14 h
        refine lv_tableIn (off := 59) (tgt := 82) hx hb dX0_termOf_23 (by rw [c14]; decide) (by rw [c14]; decide) (by rw [c14]; decide) (by decide) ?_
        refine lv_aload_n hx hb dX0_termOf_82 rfl (lv_at hl 0 rfl) ?_
        refine va_get (ci := 0) (v := .ref (lL a)) (C := RX0) (T := TX0) (N := 3) hx hb hts in_X0 hown hG.K (sy_o (hP.of_mem hm)) 0 rfl rfl 0 (by decide) (hts _ q220) (fun _ h9 => h9) rfl dX0_termOf_83 ?_
        refine lv_iload_n hx hb dX0_termOf_86 rfl (lv_at hl 1 rfl) ?_
        obtain ⟨r16, e15, h⟩ := pb_some h
        refine c_call (va_runV (As := [.int x1]) (rest := []) ⟨hx, hb, hml, hown, hts⟩ (met_X1_chain hvs hO  e15) (cwV 1 hts (lw_V q839 q840 q841 q67 q842) rfl rfl rfl ⟨rfl, hd_X1_chain⟩ ⟨Nat.le_of_ble_eq_true rfl, Nat.le_of_ble_eq_true rfl⟩) (g_preV hG hSa (sy_l (hP.of_mem hm)) (va_recv hG.K (le_o (sy_l (hP.of_mem hm))) (ci := 1) (q0 := 0) rfl rfl)) rfl rfl hl.1 rfl (lv_room (Nat.le_of_ble_eq_true rfl)) dX0_termOf_87 ⟨Nat.le_of_ble_eq_true rfl, Nat.le_of_ble_eq_true rfl⟩) ?_
        cases h
        refine W.widen (k := 21) (n := 84) (Nat.le_of_ble_eq_true rfl) (Nat.le_of_ble_eq_true rfl) ?_
        exact W.iret hx hb hr (fun t ht hW => c_retM (w := w) ⟨rfl, rfl⟩ hP hD hSa ht) hSa.2.2 dX0_termOf_90
      have h := pi_f c14 h
      by_cases c17 : x2 = (3 : Int32)
      · have h := pi_t c17 h
        refine lv_tableIn (off := 68) (tgt := 91) hx hb dX0_termOf_23 (by rw [c17]; decide) (by rw [c17]; decide) (by rw [c17]; decide) (by decide) ?_
        refine lv_aload_n hx hb dX0_termOf_91 rfl (lv_at hl 0 rfl) ?_
        refine va_get (ci := 0) (v := .ref (lL a)) (C := RX0) (T := TX0) (N := 3) hx hb hts in_X0 hown hG.K (sy_o (hP.of_mem hm)) 0 rfl rfl 0 (by decide) (hts _ q220) (fun _ h9 => h9) rfl dX0_termOf_92 ?_
        refine lv_aload_n hx hb dX0_termOf_95 rfl (lv_at hl 0 rfl) ?_
        refine va_get (ci := 0) (v := .ref (lL a)) (C := RX0) (T := TX0) (N := 3) hx hb hts in_X0 hown hG.K (sy_o (hP.of_mem hm)) 0 rfl rfl 0 (by decide) (hts _ q220) (fun _ h9 => h9) rfl dX0_termOf_96 ?_
        refine lv_iload_n hx hb dX0_termOf_99 rfl (lv_at hl 1 rfl) ?_
        obtain ⟨r19, e18, h⟩ := pb_some h
        refine c_call (va_runV (As := [.int x1]) (rest := [.ref (lL a)]) ⟨hx, hb, hml, hown, hts⟩ (met_X1_shownAs hvs hO  e18) (cwV 1 hts (lw_V q844 q845 q846 q67 q847) rfl rfl rfl ⟨rfl, hd_X1_shownAs⟩ ⟨Nat.le_of_ble_eq_true rfl, Nat.le_of_ble_eq_true rfl⟩) (g_preV hG hSa (sy_l (hP.of_mem hm)) (va_recv hG.K (le_o (sy_l (hP.of_mem hm))) (ci := 1) (q0 := 0) rfl rfl)) rfl rfl hl.1 rfl (lv_room (Nat.le_of_ble_eq_true rfl)) dX0_termOf_100 ⟨Nat.le_of_ble_eq_true rfl, Nat.le_of_ble_eq_true rfl⟩) ?_
        obtain ⟨r21, e20, h⟩ := pb_some h
        refine c_callM (va_runVN (As := [.int r19]) (rest := []) ⟨hx, hb, hml, hown, hts⟩ (met_X1_places hvs hO  (fun q hq => hm q (List.mem_cons_of_mem _ hq)) hD e20) ⟨va_cnB 1 hts (lw_meth q637) rfl rfl rfl (nm_LectureTurns_195 hG) (hts _ q67) hd_X1_places ⟨Nat.le_of_ble_eq_true rfl, Nat.le_of_ble_eq_true rfl⟩, hts _ q636, hts _ qs10⟩ (g_preV hG hSa hP (va_recv hG.K (le_o (sy_l (hP.of_mem hm))) (ci := 1) (q0 := 0) rfl rfl)) rfl rfl hl.1 rfl (lv_room (Nat.le_of_ble_eq_true rfl)) dX0_termOf_103 ⟨Nat.le_of_ble_eq_true rfl, Nat.le_of_ble_eq_true rfl⟩) hSa (fun v9 w9 H locs hp hP hD2 hSa => ?_)
        obtain ⟨rfl, e9⟩ := hp
        rw [e9] at hP
        cases h
        refine W.widen (k := 21) (n := 84) (Nat.le_of_ble_eq_true rfl) (Nat.le_of_ble_eq_true rfl) ?_
        exact W.iret hx hb hr (fun t ht hW => c_retM (w := w) ⟨rfl, rfl⟩ hP hD hSa ht) hSa.2.2 dX0_termOf_106
      have h := pi_f c17 h
      by_cases c22 : x2 = (4 : Int32)
      · have h := pi_t c22 h
        refine lv_tableIn (off := 84) (tgt := 107) hx hb dX0_termOf_23 (by rw [c22]; decide) (by rw [c22]; decide) (by rw [c22]; decide) (by decide) ?_
        refine lv_aload_n hx hb dX0_termOf_107 rfl (lv_at hl 0 rfl) ?_
        refine lv_iload_n hx hb dX0_termOf_108 rfl (lv_at hl 1 rfl) ?_
        refine lv_iload_n hx hb dX0_termOf_109 rfl (lv_at hl 2 rfl) ?_
        refine lv_iconst (v := 5) hx hb dX0_termOf_110 (by decide) ?_
        obtain ⟨j24, hj, h⟩ := pb_some h
        refine W.cut (g' := F0 m 119 ls [.int (bi j24), .int x1, .ref sy]) ?_ (fun K => ?_)
        · obtain ⟨r26, e25, h⟩ := pb_some h
          refine c_callM (va_runV (As := [.int x1, .int (bi j24)]) (rest := []) ⟨hx, hb, hml, hown, hts⟩ (met_X0_showing hvs hO  hm hD e25) (cwV 2 hts (lw_V q849 q851 qs15 q66 q852) rfl rfl rfl ⟨rfl, hd_X0_showing⟩ ⟨Nat.le_of_ble_eq_true rfl, Nat.le_of_ble_eq_true rfl⟩) (g_preV hG hSa hP (va_recv hG.K (sy_o (hP.of_mem hm)) (ci := 0) (q0 := 0) rfl rfl)) rfl rfl hl.1 rfl (lv_room (Nat.le_of_ble_eq_true rfl)) dX0_termOf_119 ⟨Nat.le_of_ble_eq_true rfl, Nat.le_of_ble_eq_true rfl⟩) hSa (fun v9 w9 H locs hp hP hD2 hSa => ?_)
          obtain ⟨rfl, e9⟩ := hp
          rw [e9] at hP
          cases h
          refine W.widen (k := 21) (n := 84) (Nat.le_of_ble_eq_true rfl) (Nat.le_of_ble_eq_true rfl) ?_
          exact W.iret hx hb hr (fun t ht hW => c_retM (w := w) ⟨rfl, rfl⟩ hP hD hSa ht) hSa.2.2 dX0_termOf_122
        · have h := hj
          refine lv_icmp_ne (tgt := 118) hx hb dX0_termOf_111 (by decide) (fun c23 => ?_) (fun c23 => ?_)
          · have h := pi_f c23 h
            refine lv_iconst (v := 0) hx hb dX0_termOf_118 (by decide) ?_
            cases h
            exact K
          · have h := pi_t c23 h
            refine lv_iconst (v := 1) hx hb dX0_termOf_114 (by decide) ?_
            refine lv_goto (tgt := 119) hx hb dX0_termOf_115 (by decide) ?_
            cases h
            exact K
      have h := pi_f c22 h
      by_cases c27 : x2 = (5 : Int32)
      · have h := pi_t c27 h
        refine lv_tableIn (off := 84) (tgt := 107) hx hb dX0_termOf_23 (by rw [c27]; decide) (by rw [c27]; decide) (by rw [c27]; decide) (by decide) ?_
        refine lv_aload_n hx hb dX0_termOf_107 rfl (lv_at hl 0 rfl) ?_
        refine lv_iload_n hx hb dX0_termOf_108 rfl (lv_at hl 1 rfl) ?_
        refine lv_iload_n hx hb dX0_termOf_109 rfl (lv_at hl 2 rfl) ?_
        refine lv_iconst (v := 5) hx hb dX0_termOf_110 (by decide) ?_
        obtain ⟨j29, hj, h⟩ := pb_some h
        refine W.cut (g' := F0 m 119 ls [.int (bi j29), .int x1, .ref sy]) ?_ (fun K => ?_)
        · obtain ⟨r31, e30, h⟩ := pb_some h
          refine c_callM (va_runV (As := [.int x1, .int (bi j29)]) (rest := []) ⟨hx, hb, hml, hown, hts⟩ (met_X0_showing hvs hO  hm hD e30) (cwV 2 hts (lw_V q849 q851 qs15 q66 q852) rfl rfl rfl ⟨rfl, hd_X0_showing⟩ ⟨Nat.le_of_ble_eq_true rfl, Nat.le_of_ble_eq_true rfl⟩) (g_preV hG hSa hP (va_recv hG.K (sy_o (hP.of_mem hm)) (ci := 0) (q0 := 0) rfl rfl)) rfl rfl hl.1 rfl (lv_room (Nat.le_of_ble_eq_true rfl)) dX0_termOf_119 ⟨Nat.le_of_ble_eq_true rfl, Nat.le_of_ble_eq_true rfl⟩) hSa (fun v9 w9 H locs hp hP hD2 hSa => ?_)
          obtain ⟨rfl, e9⟩ := hp
          rw [e9] at hP
          cases h
          refine W.widen (k := 21) (n := 84) (Nat.le_of_ble_eq_true rfl) (Nat.le_of_ble_eq_true rfl) ?_
          exact W.iret hx hb hr (fun t ht hW => c_retM (w := w) ⟨rfl, rfl⟩ hP hD hSa ht) hSa.2.2 dX0_termOf_122
        · have h := hj
          refine lv_icmp_ne (tgt := 118) hx hb dX0_termOf_111 (by decide) (fun c28 => ?_) (fun c28 => ?_)
          · have h := pi_f c28 h
            refine lv_iconst (v := 0) hx hb dX0_termOf_118 (by decide) ?_
            cases h
            exact K
          · have h := pi_t c28 h
            refine lv_iconst (v := 1) hx hb dX0_termOf_114 (by decide) ?_
            refine lv_goto (tgt := 119) hx hb dX0_termOf_115 (by decide) ?_
            cases h
            exact K
      have h := pi_f c27 h
      refine lv_tableOut (tgt := 123) hx hb dX0_termOf_23 (sw_out 0 5 (fun k h1 h2 => ?_)) (by decide) ?_
      · rcases (show k = 0 ∨ k = 1 ∨ k = 2 ∨ k = 3 ∨ k = 4 ∨ k = 5 by omega) with rfl | rfl | rfl | rfl | rfl | rfl
        · exact sw_ne (by decide) c7
        · exact sw_ne (by decide) c11
        · exact sw_ne (by decide) c14
        · exact sw_ne (by decide) c17
        · exact sw_ne (by decide) c22
        · exact sw_ne (by decide) c27
      refine lv_aload_n hx hb dX0_termOf_123 rfl (lv_at hl 0 rfl) ?_
      refine va_get (ci := 0) (v := .ref (lL a)) (C := RX0) (T := TX0) (N := 3) hx hb hts in_X0 hown hG.K (sy_o (hP.of_mem hm)) 0 rfl rfl 0 (by decide) (hts _ q220) (fun _ h9 => h9) rfl dX0_termOf_124 ?_
      refine lv_iload_n hx hb dX0_termOf_127 rfl (lv_at hl 1 rfl) ?_
      obtain ⟨r33, e32, h⟩ := pb_some h
      refine c_call (va_runV (As := [.int x1]) (rest := []) ⟨hx, hb, hml, hown, hts⟩ (met_X1_shownAs hvs hO  e32) (cwV 1 hts (lw_V q844 q845 q846 q67 q847) rfl rfl rfl ⟨rfl, hd_X1_shownAs⟩ ⟨Nat.le_of_ble_eq_true rfl, Nat.le_of_ble_eq_true rfl⟩) (g_preV hG hSa (sy_l (hP.of_mem hm)) (va_recv hG.K (le_o (sy_l (hP.of_mem hm))) (ci := 1) (q0 := 0) rfl rfl)) rfl rfl hl.1 rfl (lv_room (Nat.le_of_ble_eq_true rfl)) dX0_termOf_128 ⟨Nat.le_of_ble_eq_true rfl, Nat.le_of_ble_eq_true rfl⟩) ?_
      cases h
      refine W.widen (k := 21) (n := 84) (Nat.le_of_ble_eq_true rfl) (Nat.le_of_ble_eq_true rfl) ?_
      exact W.iret hx hb hr (fun t ht hW => c_retM (w := w) ⟨rfl, rfl⟩ hP hD hSa ht) hSa.2.2 dX0_termOf_131
    · have h := pi_t c6 h
      refine lv_ldc hx hb hown (hts _ q758) dX0_termOf_19 ?_
      cases h
      refine W.widen (k := 21) (n := 84) (Nat.le_of_ble_eq_true rfl) (Nat.le_of_ble_eq_true rfl) ?_
      exact W.iret hx hb hr (fun t ht hW => c_retM (w := w) ⟨rfl, rfl⟩ hP hD hSa ht) hSa.2.2 dX0_termOf_21
theorem hd_X0_speakerOf : yX0_speakerOf.cls ≠ "java/lang/invoke/MethodHandle" ∧ yX0_speakerOf.cls ≠ "java/lang/invoke/VarHandle" ∧ (parseMethodDescriptor yX0_speakerOf.desc).map (fun d => d.parameters.length) = some 2 := by decide +kernel
set_option maxHeartbeats 4000000 in
set_option maxRecDepth 100000 in
theorem met_X0_speakerOf {l : Launch} {w : va_W} {k : Cx} {a : LA} {T : List TT} {vs : List TV} {pit cor : Nat → Int32} {tol : Int32} {sy hi tx : Nat} {nf : Nat} {x1 : Int32} {x2 : Int32} {r : Int32} (hvs : T.map Prod.snd = vs) (hO : leOk k a T) (hm : ∀ q ∈ (syO sy a hi tx :: leW k a T pit cor tol), q ∈ w) (hD : va_D (Ab k) w) (h : m_X0_speakerOf nf vs pit cor x1 x2 = some r) : Met l yX0_speakerOf (ws_ yX0_speakerOf cX0_speakerOf 4 (some .int)) ({ frames := 21, cells := 42, slots := 168, locals := 441 } : Room) (gPc [.ref sy, .int x1, .int x2] k w) (QcM k (fun v w2 => v = some (.int r) ∧ w2 = w)) 42 168 (Ab k) := by
  refine Met.ofW (cc := cX0_speakerOf) (maxL := 4) (ret := (some .int)) (by decide) rfl ?_
  intro p e s m args below meth c s₁ B hml hv
  obtain ⟨rfl, hP, hG⟩ := hv
  have hx := B.exec
  have hb := B.bytes
  have hr := B.returns
  have hts := atoms_spec (ws := ws_ yX0_speakerOf cX0_speakerOf 4 (some .int)) B.pre
  have hts : ∀ w ∈ lw_all, w.before _ s = true := fun w h => hts w (List.mem_cons_of_mem _ h)
  have hown : s.vm.findClass RX0 = some m.cls := findClass_of_methodNamed B.named
  have hlocks := B.notSynchronized
  have hSa : va_S (Ab k) s.heap s.heap [] := va_S.rf
  have hmT : ∀ {j9 : Nat} {t9 : TT}, T[j9]? = some t9 → ∀ q ∈ lsW k (aL t9.1) (aE t9.1) (aC t9.1) (aM t9.1) (bxs k (vT t9.2)), q ∈ w := fun ht q hq => hm q ((List.mem_cons_of_mem _ (le_mt ht hq)))
  have hl := lv_entry ([.ref sy, .int x1, .int x2]) (n := 4) (Nat.le_of_ble_eq_true rfl)
  rw [lg_entry_eq]
  generalize (lg_sl ([.ref sy, .int x1, .int x2]) ++ List.replicate (4 - (lg_sl ([.ref sy, .int x1, .int x2])).length) Slot.unset).toArray = ls at hl ⊢
  have hl : lv_has ls 4 [(0, .ref sy), (1, .int x1), (2, .int x2)] := hl
  unfold m_X0_speakerOf at h
  refine lv_aload_n hx hb dX0_speakerOf_0 rfl (lv_at hl 0 rfl) ?_
  refine va_get (ci := 0) (v := .ref (lL a)) (C := RX0) (T := TX0) (N := 3) hx hb hts in_X0 hown hG.K (sy_o (hP.of_mem hm)) 0 rfl rfl 0 (by decide) (hts _ q220) (fun _ h9 => h9) rfl dX0_speakerOf_1 ?_
  refine lv_iload_n hx hb dX0_speakerOf_4 rfl (lv_at hl 1 rfl) ?_
  obtain ⟨b2, e1, h⟩ := pb_some h
  refine c_call (va_runV (As := [.int x1]) (rest := []) ⟨hx, hb, hml, hown, hts⟩ (met_X1_isSpeaker hvs hO  e1) (cwV 1 hts (lw_V q862 q660 q661 q67 q662) rfl rfl rfl ⟨rfl, hd_X1_isSpeaker⟩ ⟨Nat.le_of_ble_eq_true rfl, Nat.le_of_ble_eq_true rfl⟩) (g_preV hG hSa (sy_l (hP.of_mem hm)) (va_recv hG.K (le_o (sy_l (hP.of_mem hm))) (ci := 1) (q0 := 0) rfl rfl)) rfl rfl hl.1 rfl (lv_room (Nat.le_of_ble_eq_true rfl)) dX0_speakerOf_5 ⟨Nat.le_of_ble_eq_true rfl, Nat.le_of_ble_eq_true rfl⟩) ?_
  refine lv_if_eq (tgt := 23) hx hb dX0_speakerOf_8 (by decide) (fun c3 => ?_) (fun c3 => ?_)
  · have h := pi_t c3 h
    refine lv_ldc hx hb hown (hts _ q758) dX0_speakerOf_23 ?_
    cases h
    refine W.widen (k := 42) (n := 168) (Nat.le_of_ble_eq_true rfl) (Nat.le_of_ble_eq_true rfl) ?_
    exact W.iret hx hb hr (fun t ht hW => c_retM (w := w) ⟨rfl, rfl⟩ hP hD hSa ht) hSa.2.2 dX0_speakerOf_25
  · have h := pi_f c3 h
    refine lv_iload_n hx hb dX0_speakerOf_11 rfl (lv_at hl 2 rfl) ?_
    refine lv_i2l hx hb dX0_speakerOf_12 rfl ?_
    refine lv_lconst (v := 0) hx hb dX0_speakerOf_13 (by decide) ?_
    refine lv_ldc2 hx hb hown (hts _ q838) dX0_speakerOf_14 ?_
    obtain ⟨b5, e4, h⟩ := pb_some h
    refine c_call (va_runS (As := [.long x2.toInt64, .long (0 : Int64), .long (6 : Int64)]) (rest := []) ⟨hx, hb, hml, hown, hts⟩ (met_X0_isBetween e4) (va_cwS 3 hts (lw_S q454 q446 q66 q447) rfl rfl rfl hd_X0_isBetween ⟨Nat.le_of_ble_eq_true rfl, Nat.le_of_ble_eq_true rfl⟩) m_preS rfl rfl hl.1 rfl (lv_room (Nat.le_of_ble_eq_true rfl)) dX0_speakerOf_17 ⟨Nat.le_of_ble_eq_true rfl, Nat.le_of_ble_eq_true rfl⟩) ?_
    refine lv_if_ne (tgt := 26) hx hb dX0_speakerOf_20 (by decide) (fun c6 => ?_) (fun c6 => ?_)
    · have h := pi_f c6 h
      refine lv_aload_n hx hb dX0_speakerOf_26 rfl (lv_at hl 0 rfl) ?_
      refine lv_iload_n hx hb dX0_speakerOf_27 rfl (lv_at hl 1 rfl) ?_
      refine lv_iconst (v := 2) hx hb dX0_speakerOf_28 (by decide) ?_
      obtain ⟨r8, e7, h⟩ := pb_some h
      refine c_callM (va_runV (As := [.int x1, .int (2 : Int32)]) (rest := []) ⟨hx, hb, hml, hown, hts⟩ (met_X0_ofTurns hvs hO  hm hD e7) (cwV 2 hts (lw_V q863 q865 qs16 q66 q866) rfl rfl rfl ⟨rfl, hd_X0_ofTurns⟩ ⟨Nat.le_of_ble_eq_true rfl, Nat.le_of_ble_eq_true rfl⟩) (g_preV hG hSa hP (va_recv hG.K (sy_o (hP.of_mem hm)) (ci := 0) (q0 := 0) rfl rfl)) rfl rfl hl.1 rfl (lv_room (Nat.le_of_ble_eq_true rfl)) dX0_speakerOf_29 ⟨Nat.le_of_ble_eq_true rfl, Nat.le_of_ble_eq_true rfl⟩) hSa (fun v9 w9 H locs hp hP hD2 hSa => ?_)
      obtain ⟨rfl, e9⟩ := hp
      rw [e9] at hP
      refine lv_istore_n (lv' := [(3, .int r8), (0, .ref sy), (1, .int x1), (2, .int x2)]) hx hb dX0_speakerOf_32 rfl hl (by decide) rfl (fun ls hl => ?_)
      refine lv_iload_n hx hb dX0_speakerOf_33 rfl (lv_at hl 3 rfl) ?_
      by_cases c9 : x2 = (0 : Int32)
      · have h := pi_t c9 h
        refine lv_tableIn (off := 38) (tgt := 72) hx hb dX0_speakerOf_34 (by rw [c9]; decide) (by rw [c9]; decide) (by rw [c9]; decide) (by decide) ?_
        refine lv_aload_n hx hb dX0_speakerOf_72 rfl (lv_at hl 1 rfl) ?_
        refine va_get (ci := 0) (v := .ref (lL a)) (C := RX0) (T := TX0) (N := 3) hx hb hts in_X0 hown hG.K (sy_o (hP.of_mem hm)) 0 rfl rfl 0 (by decide) (hts _ q220) (fun _ h9 => h9) rfl dX0_speakerOf_73 ?_
        refine va_getN (ci := 1) (v := .ref (lP a)) (C := RX1) (T := TX1) (N := 4) hx hb hts in_X1 hown hG.K (le_o (sy_l (hP.of_mem hm))) 0 rfl rfl 1 (by decide) (nf_LectureTurns_211 hG) (fun _ h9 => h9) rfl dX0_speakerOf_76 ?_
        refine lv_iload_n hx hb dX0_speakerOf_79 rfl (lv_at hl 2 rfl) ?_
        obtain ⟨g10, h⟩ := pg_some h
        refine va_iald hx hb hG.K (le_p (sy_l (hP.of_mem hm))) 0 0 rfl rfl g10 dX0_speakerOf_80 ?_
        cases h
        refine W.widen (k := 42) (n := 168) (Nat.le_of_ble_eq_true rfl) (Nat.le_of_ble_eq_true rfl) ?_
        exact W.iret hx hb hr (fun t ht hW => c_retM (w := w) ⟨rfl, rfl⟩ hP hD hSa ht) hSa.2.2 dX0_speakerOf_81
      have h := pi_f c9 h
      by_cases c11 : x2 = (1 : Int32)
      · have h := pi_t c11 h
        refine lv_tableIn (off := 48) (tgt := 82) hx hb dX0_speakerOf_34 (by rw [c11]; decide) (by rw [c11]; decide) (by rw [c11]; decide) (by decide) ?_
        refine lv_aload_n hx hb dX0_speakerOf_82 rfl (lv_at hl 1 rfl) ?_
        refine va_get (ci := 0) (v := .ref (lL a)) (C := RX0) (T := TX0) (N := 3) hx hb hts in_X0 hown hG.K (sy_o (hP.of_mem hm)) 0 rfl rfl 0 (by decide) (hts _ q220) (fun _ h9 => h9) rfl dX0_speakerOf_83 ?_
        refine lv_iload_n hx hb dX0_speakerOf_86 rfl (lv_at hl 2 rfl) ?_
        obtain ⟨r13, e12, h⟩ := pb_some h
        refine c_call (va_runV (As := [.int x1]) (rest := []) ⟨hx, hb, hml, hown, hts⟩ (met_X1_turnsOf hvs hO  e12) (cwV 1 hts (lw_V q871 q669 q670 q67 q671) rfl rfl rfl ⟨rfl, hd_X1_turnsOf⟩ ⟨Nat.le_of_ble_eq_true rfl, Nat.le_of_ble_eq_true rfl⟩) (g_preV hG hSa (sy_l (hP.of_mem hm)) (va_recv hG.K (le_o (sy_l (hP.of_mem hm))) (ci := 1) (q0 := 0) rfl rfl)) rfl rfl hl.1 rfl (lv_room (Nat.le_of_ble_eq_true rfl)) dX0_speakerOf_87 ⟨Nat.le_of_ble_eq_true rfl, Nat.le_of_ble_eq_true rfl⟩) ?_
        cases h
        refine W.widen (k := 42) (n := 168) (Nat.le_of_ble_eq_true rfl) (Nat.le_of_ble_eq_true rfl) ?_
        exact W.iret hx hb hr (fun t ht hW => c_retM (w := w) ⟨rfl, rfl⟩ hP hD hSa ht) hSa.2.2 dX0_speakerOf_90
      have h := pi_f c11 h
      by_cases c14 : x2 = (2 : Int32)
      · have h := pi_t c14 h
        refine lv_tableIn (off := 57) (tgt := 91) hx hb dX0_speakerOf_34 (by rw [c14]; decide) (by rw [c14]; decide) (by rw [c14]; decide) (by decide) ?_
        refine lv_iload_n hx hb dX0_speakerOf_91 rfl (lv_at hl 0 rfl) ?_
        cases h
        refine W.widen (k := 42) (n := 168) (Nat.le_of_ble_eq_true rfl) (Nat.le_of_ble_eq_true rfl) ?_
        exact W.iret hx hb hr (fun t ht hW => c_retM (w := w) ⟨rfl, rfl⟩ hP hD hSa ht) hSa.2.2 dX0_speakerOf_92
      have h := pi_f c14 h
      by_cases c15 : x2 = (3 : Int32)
      · have h := pi_t c15 h
        refine lv_tableIn (off := 59) (tgt := 93) hx hb dX0_speakerOf_34 (by rw [c15]; decide) (by rw [c15]; decide) (by rw [c15]; decide) (by decide) ?_
        refine lv_aload_n hx hb dX0_speakerOf_93 rfl (lv_at hl 1 rfl) ?_
        refine lv_iload_n hx hb dX0_speakerOf_94 rfl (lv_at hl 2 rfl) ?_
        refine lv_iconst (v := 3) hx hb dX0_speakerOf_95 (by decide) ?_
        obtain ⟨r17, e16, h⟩ := pb_some h
        refine c_callM (va_runV (As := [.int x1, .int (3 : Int32)]) (rest := []) ⟨hx, hb, hml, hown, hts⟩ (met_X0_ofTurns hvs hO  hm hD e16) (cwV 2 hts (lw_V q863 q865 qs16 q66 q866) rfl rfl rfl ⟨rfl, hd_X0_ofTurns⟩ ⟨Nat.le_of_ble_eq_true rfl, Nat.le_of_ble_eq_true rfl⟩) (g_preV hG hSa hP (va_recv hG.K (sy_o (hP.of_mem hm)) (ci := 0) (q0 := 0) rfl rfl)) rfl rfl hl.1 rfl (lv_room (Nat.le_of_ble_eq_true rfl)) dX0_speakerOf_96 ⟨Nat.le_of_ble_eq_true rfl, Nat.le_of_ble_eq_true rfl⟩) hSa (fun v9 w9 H locs hp hP hD2 hSa => ?_)
        obtain ⟨rfl, e9⟩ := hp
        rw [e9] at hP
        cases h
        refine W.widen (k := 42) (n := 168) (Nat.le_of_ble_eq_true rfl) (Nat.le_of_ble_eq_true rfl) ?_
        exact W.iret hx hb hr (fun t ht hW => c_retM (w := w) ⟨rfl, rfl⟩ hP hD hSa ht) hSa.2.2 dX0_speakerOf_99
      have h := pi_f c15 h
      by_cases c18 : x2 = (4 : Int32)
      · have h := pi_t c18 h
        refine lv_tableIn (off := 66) (tgt := 100) hx hb dX0_speakerOf_34 (by rw [c18]; decide) (by rw [c18]; decide) (by rw [c18]; decide) (by decide) ?_
        refine lv_aload_n hx hb dX0_speakerOf_100 rfl (lv_at hl 1 rfl) ?_
        refine va_get (ci := 0) (v := .ref (lL a)) (C := RX0) (T := TX0) (N := 3) hx hb hts in_X0 hown hG.K (sy_o (hP.of_mem hm)) 0 rfl rfl 0 (by decide) (hts _ q220) (fun _ h9 => h9) rfl dX0_speakerOf_101 ?_
        refine lv_iload_n hx hb dX0_speakerOf_104 rfl (lv_at hl 2 rfl) ?_
        refine lv_iconst (v := -1) hx hb dX0_speakerOf_105 (by decide) ?_
        obtain ⟨r20, e19, h⟩ := pb_some h
        refine c_call (va_runV (As := [.int x1, .int (-1 : Int32)]) (rest := []) ⟨hx, hb, hml, hown, hts⟩ (met_X1_interruptions hvs hO  e19) (cwV 2 hts (lw_V q872 q873 q874 q67 q875) rfl rfl rfl ⟨rfl, hd_X1_interruptions⟩ ⟨Nat.le_of_ble_eq_true rfl, Nat.le_of_ble_eq_true rfl⟩) (g_preV hG hSa (sy_l (hP.of_mem hm)) (va_recv hG.K (le_o (sy_l (hP.of_mem hm))) (ci := 1) (q0 := 0) rfl rfl)) rfl rfl hl.1 rfl (lv_room (Nat.le_of_ble_eq_true rfl)) dX0_speakerOf_106 ⟨Nat.le_of_ble_eq_true rfl, Nat.le_of_ble_eq_true rfl⟩) ?_
        cases h
        refine W.widen (k := 42) (n := 168) (Nat.le_of_ble_eq_true rfl) (Nat.le_of_ble_eq_true rfl) ?_
        exact W.iret hx hb hr (fun t ht hW => c_retM (w := w) ⟨rfl, rfl⟩ hP hD hSa ht) hSa.2.2 dX0_speakerOf_109
      have h := pi_f c18 h
      by_cases c21 : x2 = (5 : Int32)
      · have h := pi_t c21 h
        refine lv_tableIn (off := 76) (tgt := 110) hx hb dX0_speakerOf_34 (by rw [c21]; decide) (by rw [c21]; decide) (by rw [c21]; decide) (by decide) ?_
        refine lv_aload_n hx hb dX0_speakerOf_110 rfl (lv_at hl 1 rfl) ?_
        refine va_get (ci := 0) (v := .ref (lL a)) (C := RX0) (T := TX0) (N := 3) hx hb hts in_X0 hown hG.K (sy_o (hP.of_mem hm)) 0 rfl rfl 0 (by decide) (hts _ q220) (fun _ h9 => h9) rfl dX0_speakerOf_111 ?_
        refine lv_iconst (v := -1) hx hb dX0_speakerOf_114 (by decide) ?_
        refine lv_iload_n hx hb dX0_speakerOf_115 rfl (lv_at hl 2 rfl) ?_
        obtain ⟨r23, e22, h⟩ := pb_some h
        refine c_call (va_runV (As := [.int (-1 : Int32), .int x1]) (rest := []) ⟨hx, hb, hml, hown, hts⟩ (met_X1_interruptions hvs hO  e22) (cwV 2 hts (lw_V q872 q873 q874 q67 q875) rfl rfl rfl ⟨rfl, hd_X1_interruptions⟩ ⟨Nat.le_of_ble_eq_true rfl, Nat.le_of_ble_eq_true rfl⟩) (g_preV hG hSa (sy_l (hP.of_mem hm)) (va_recv hG.K (le_o (sy_l (hP.of_mem hm))) (ci := 1) (q0 := 0) rfl rfl)) rfl rfl hl.1 rfl (lv_room (Nat.le_of_ble_eq_true rfl)) dX0_speakerOf_116 ⟨Nat.le_of_ble_eq_true rfl, Nat.le_of_ble_eq_true rfl⟩) ?_
        cases h
        refine W.widen (k := 42) (n := 168) (Nat.le_of_ble_eq_true rfl) (Nat.le_of_ble_eq_true rfl) ?_
        exact W.iret hx hb hr (fun t ht hW => c_retM (w := w) ⟨rfl, rfl⟩ hP hD hSa ht) hSa.2.2 dX0_speakerOf_119
      have h := pi_f c21 h
      refine lv_tableOut (tgt := 120) hx hb dX0_speakerOf_34 (sw_out 0 5 (fun k h1 h2 => ?_)) (by decide) ?_
      · rcases (show k = 0 ∨ k = 1 ∨ k = 2 ∨ k = 3 ∨ k = 4 ∨ k = 5 by omega) with rfl | rfl | rfl | rfl | rfl | rfl
        · exact sw_ne (by decide) c9
        · exact sw_ne (by decide) c11
        · exact sw_ne (by decide) c14
        · exact sw_ne (by decide) c15
        · exact sw_ne (by decide) c18
        · exact sw_ne (by decide) c21
      refine lv_iload_n hx hb dX0_speakerOf_120 rfl (lv_at hl 0 rfl) ?_
      refine lv_if_ne (tgt := 129) hx hb dX0_speakerOf_121 (by decide) (fun c24 => ?_) (fun c24 => ?_)
      · have h := pi_f c24 h
        refine lv_aload_n hx hb dX0_speakerOf_129 rfl (lv_at hl 1 rfl) ?_
        refine lv_iload_n hx hb dX0_speakerOf_130 rfl (lv_at hl 2 rfl) ?_
        refine lv_bipush (v := 6) hx hb dX0_speakerOf_131 (by decide) ?_
        obtain ⟨r26, e25, h⟩ := pb_some h
        refine c_callM (va_runV (As := [.int x1, .int (6 : Int32)]) (rest := []) ⟨hx, hb, hml, hown, hts⟩ (met_X0_ofTurns hvs hO  hm hD e25) (cwV 2 hts (lw_V q863 q865 qs16 q66 q866) rfl rfl rfl ⟨rfl, hd_X0_ofTurns⟩ ⟨Nat.le_of_ble_eq_true rfl, Nat.le_of_ble_eq_true rfl⟩) (g_preV hG hSa hP (va_recv hG.K (sy_o (hP.of_mem hm)) (ci := 0) (q0 := 0) rfl rfl)) rfl rfl hl.1 rfl (lv_room (Nat.le_of_ble_eq_true rfl)) dX0_speakerOf_133 ⟨Nat.le_of_ble_eq_true rfl, Nat.le_of_ble_eq_true rfl⟩) hSa (fun v9 w9 H locs hp hP hD2 hSa => ?_)
        obtain ⟨rfl, e9⟩ := hp
        rw [e9] at hP
        refine lv_i2f hx hb dX0_speakerOf_136 ?_
        refine lv_ldcf hx hb hown (hts _ q876) dX0_speakerOf_137 ?_
        obtain ⟨g27, h⟩ := pg_some h
        refine lv_fmul hx hb dX0_speakerOf_139 g27 ?_
        refine lv_iload_n hx hb dX0_speakerOf_140 rfl (lv_at hl 0 rfl) ?_
        refine lv_i2f hx hb dX0_speakerOf_141 ?_
        obtain ⟨g28, h⟩ := pg_some h
        refine lv_fdiv hx hb dX0_speakerOf_142 g28 ?_
        obtain ⟨r30, e29, h⟩ := pb_some h
        refine m_callR (W.runS (As := [.float (FP.fdiv (FP.fmul (FP.i2f r26) (1114636288 : UInt32)) (FP.i2f r8))]) (rest := []) ⟨hx, hb, hml, hown, hts⟩ (met_J18_floatToIntBits e29) (va_cwS 1 hts (lw_S q877 q878 q93 q879) rfl rfl rfl hd_J18_floatToIntBits ⟨Nat.le_of_ble_eq_true rfl, Nat.le_of_ble_eq_true rfl⟩) m_preS rfl rfl hl.1 rfl (lv_room (Nat.le_of_ble_eq_true rfl)) dX0_speakerOf_143 ⟨Nat.le_of_ble_eq_true rfl, Nat.le_of_ble_eq_true rfl⟩) ?_
        cases h
        refine W.widen (k := 42) (n := 168) (Nat.le_of_ble_eq_true rfl) (Nat.le_of_ble_eq_true rfl) ?_
        exact W.iret hx hb hr (fun t ht hW => c_retM (w := w) ⟨rfl, rfl⟩ hP hD hSa ht) hSa.2.2 dX0_speakerOf_146
      · have h := pi_t c24 h
        refine lv_ldc hx hb hown (hts _ q783) dX0_speakerOf_124 ?_
        refine lv_goto (tgt := 146) hx hb dX0_speakerOf_126 (by decide) ?_
        cases h
        refine W.widen (k := 42) (n := 168) (Nat.le_of_ble_eq_true rfl) (Nat.le_of_ble_eq_true rfl) ?_
        exact W.iret hx hb hr (fun t ht hW => c_retM (w := w) ⟨rfl, rfl⟩ hP hD hSa ht) hSa.2.2 dX0_speakerOf_146
    · have h := pi_t c6 h
      refine lv_ldc hx hb hown (hts _ q758) dX0_speakerOf_23 ?_
      cases h
      refine W.widen (k := 42) (n := 168) (Nat.le_of_ble_eq_true rfl) (Nat.le_of_ble_eq_true rfl) ?_
      exact W.iret hx hb hr (fun t ht hW => c_retM (w := w) ⟨rfl, rfl⟩ hP hD hSa ht) hSa.2.2 dX0_speakerOf_25
