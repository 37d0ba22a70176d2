/-! LectureTurns.done, by sign (printed by wip/gen/gen_done.py) -/
theorem lw_VW {own : String} {idx : Nat} {C : String} {y : MethodName} {b : ByteArray} {L : Nat} {r : Option FieldType} {hh : List (Nat × Nat × Nat × Nat)} (h1 : Cond.methodLink own idx y ∈ lw_all) (h2 : Cond.instanceMethod y ∈ lw_all) (h3 : Cond.selects C y y ∈ lw_all) (h4 : Cond.initialized C ∈ lw_all) (h5 : Cond.codeWith y b L r hh ∈ lw_all) : GoodIn lw_all (wsV own idx C y (wsH y b L r hh)) := by
  refine lw_app ?_ (lw_methW h5)
  intro w hw
  simp only [List.mem_cons, List.not_mem_nil, or_false] at hw
  rcases hw with e | e | e | e
  · rw [e]; exact h1
  · rw [e]; exact h2
  · rw [e]; exact h3
  · rw [e]; exact h4
theorem hd_X0_done : yX0_done.cls ≠ "java/lang/invoke/MethodHandle" ∧ yX0_done.cls ≠ "java/lang/invoke/VarHandle" ∧ (parseMethodDescriptor yX0_done.desc).map (fun d => d.parameters.length) = some 3 := by decide +kernel
set_option maxHeartbeats 4000000 in
set_option maxRecDepth 100000 in
theorem met_done_t {l : Launch} (htr : l.stackTraces = false) {k : Cx} {a : LA} {T : List TT} {vs : List TV} {pit cor : Nat → Int32} {tol : Int32} {fr : va_W} {nb nn : Nat} {num : Nat → Int32} {out : OR} (hvs : T.map Prod.snd = vs) (hO : leOk k a T) (h1k : vs.length ≤ 1000) (hnn : 3 ≤ nn) (hnb : nn < 2 ^ 31) (h20 : vs.length ≤ 20) (h : o_comes (vs, pit, cor, tol) (num 0) (num 1) (num 2) = some out) (hD : va_D (Ab k) ((leW k a T pit cor tol) ++ ((nb, .inl (kA k, nn, .inl num)) :: fr))) : vy_Met l yX0_done (ws_ yX0_done cX0_done 3 (some .int)) ({ frames := 8, cells := 5, slots := 52, locals := 197 } : Room) (gPc [.ref (lL a), .int (116 : Int32), .ref nb] k ((leW k a T pit cor tol) ++ ((nb, .inl (kA k, nn, .inl num)) :: fr))) (QcM k (oP k (lL a) ((nb, .inl (kA k, nn, .inl num)) :: fr) out)) (QxM k (oX k ((nb, .inl (kA k, nn, .inl num)) :: fr) out)) 5 52 (Ab k) := by
  refine vy_ofW (cc := cX0_done) (maxL := 3) (ret := (some .int)) (by decide) rfl ?_
  intro p e s m args below meth c s₁ B hml hex hv
  obtain ⟨rfl, hP, hG⟩ := hv
  have hx := B.exec
  have hb := B.bytes
  have hr := B.returns
  have hts := atoms_spec (ws := ws_ yX0_done cX0_done 3 (some .int)) B.pre
  have hts : ∀ w ∈ lw_all, w.before _ s = true := fun w h => hts w (List.mem_cons_of_mem _ h)
  have hown : s.vm.findClass RX0 = some m.cls := findClass_of_methodNamed B.named
  have hlocks := B.notSynchronized
  have hl := lv_entry ([.ref (lL a), .int (116 : Int32), .ref nb]) (n := 3) (Nat.le_of_ble_eq_true rfl)
  rw [lg_entry_eq]
  generalize (lg_sl ([.ref (lL a), .int (116 : Int32), .ref nb]) ++ List.replicate (3 - (lg_sl ([.ref (lL a), .int (116 : Int32), .ref nb])).length) Slot.unset).toArray = ls at hl ⊢
  have hl : lv_has ls 3 [(0, .ref (lL a)), (1, .int (116 : Int32)), (2, .ref nb)] := hl
  have hS : va_S (Ab k) s.heap s.heap [] := va_S.rf
  refine lv_iload_n hx hb dX0_done_0 rfl (lv_at hl 1 rfl) ?_
  refine lv_tableIn (off := 99) (tgt := 100) hx hb dX0_done_1 (by decide) (by decide) (by decide) (by decide) ?_
  refine lv_aload_n hx hb dX0_done_100 rfl (lv_at hl 0 rfl) ?_
  refine lv_aload_n hx hb dX0_done_101 rfl (lv_at hl 2 rfl) ?_
  refine lv_iconst (v := 0) hx hb dX0_done_102 (by decide) ?_
  have hPn : va_P (kD k) gCl [(nb, .inl (kA k, nn, .inl num))] _ := hP.one (List.mem_append_right _ List.mem_cons_self)
  refine va_iald hx hb hG.K hPn 0 0 rfl rfl (vp_in_nI (n := 0) (N := nn) (by omega) hnb) dX0_done_103 ?_
  refine lv_aload_n hx hb dX0_done_104 rfl (lv_at hl 2 rfl) ?_
  refine lv_iconst (v := 1) hx hb dX0_done_105 (by decide) ?_
  have hPn : va_P (kD k) gCl [(nb, .inl (kA k, nn, .inl num))] _ := hP.one (List.mem_append_right _ List.mem_cons_self)
  refine va_iald hx hb hG.K hPn 0 0 rfl rfl (vp_in_nI (n := 1) (N := nn) (by omega) hnb) dX0_done_106 ?_
  refine lv_aload_n hx hb dX0_done_107 rfl (lv_at hl 2 rfl) ?_
  refine lv_iconst (v := 2) hx hb dX0_done_108 (by decide) ?_
  have hPn : va_P (kD k) gCl [(nb, .inl (kA k, nn, .inl num))] _ := hP.one (List.mem_append_right _ List.mem_cons_self)
  refine va_iald hx hb hG.K hPn 0 0 rfl rfl (vp_in_nI (n := 2) (N := nn) (by omega) hnb) dX0_done_109 ?_
  refine d_callM (vy_runV (As := [.int (num 0), .int (num 1), .int (num 2)]) (rest := []) ⟨hx, hb, hml, hown, hts⟩ (met_X1_comes htr hvs hO h1k h20 h hD) (cwV 3 hts (lw_V q440 q441 q442 q67 q443) rfl rfl rfl ⟨rfl, hd_X1_comes⟩ ⟨Nat.le_of_ble_eq_true rfl, Nat.le_of_ble_eq_true rfl⟩) (g_preV hG hS hP (va_recv hG.K (le_o hP.left) (ci := 1) (q0 := 0) rfl rfl)) rfl rfl hl.1 rfl (lv_room (Nat.le_of_ble_eq_true rfl)) dX0_done_110 ⟨Nat.le_of_ble_eq_true rfl, Nat.le_of_ble_eq_true rfl⟩) hS (fun E ce q9 w H locs hp hM hP hD hS h1 h2 h3 => ?_) (fun v w H locs hp hP hD hS => ?_)
  · exact d_out (fun x h9 => (hex x h9).elim) hlocks h1 h2 h3 hp hM hP hD hS (Nat.le_of_ble_eq_true rfl) (Nat.le_of_ble_eq_true rfl)
  obtain ⟨r, L9, a9, T9, e1, rfl, e2, e3, e4, rfl⟩ := hp
  refine vy_ret ?_
  refine W.widen (k := 5) (n := 52) (Nat.le_of_ble_eq_true rfl) (Nat.le_of_ble_eq_true rfl) ?_
  exact W.iret hx hb hr (fun t9 ht9 hW9 => c_retM (w := (leW k a9 T9 L9.2.1 L9.2.2.1 L9.2.2.2) ++ ((nb, .inl (kA k, nn, .inl num)) :: fr)) ⟨r, L9, a9, T9, e1, rfl, e2, e3, e4, rfl⟩ hP hD hS ht9) hS.2.2 dX0_done_113
set_option maxHeartbeats 4000000 in
set_option maxRecDepth 100000 in
theorem met_done_w {l : Launch} (htr : l.stackTraces = false) {k : Cx} {a : LA} {T : List TT} {vs : List TV} {pit cor : Nat → Int32} {tol : Int32} {fr : va_W} {nb nn : Nat} {num : Nat → Int32} {out : OR} (hvs : T.map Prod.snd = vs) (hO : leOk k a T) (h1k : vs.length ≤ 1000) (hnn : 2 ≤ nn) (hnb : nn < 2 ^ 31) (h8 : ∀ t ∈ T, (vT t.2).length ≤ 8) (h : o_says (vs, pit, cor, tol) (num 0) (num 1) = some out) (hD : va_D (Ab k) ((leW k a T pit cor tol) ++ ((nb, .inl (kA k, nn, .inl num)) :: fr))) : vy_Met l yX0_done (ws_ yX0_done cX0_done 3 (some .int)) ({ frames := 9, cells := 4, slots := 51, locals := 194 } : Room) (gPc [.ref (lL a), .int (119 : Int32), .ref nb] k ((leW k a T pit cor tol) ++ ((nb, .inl (kA k, nn, .inl num)) :: fr))) (QcM k (oP k (lL a) ((nb, .inl (kA k, nn, .inl num)) :: fr) out)) (QxM k (oX k ((nb, .inl (kA k, nn, .inl num)) :: fr) out)) 4 51 (Ab k) := by
  refine vy_ofW (cc := cX0_done) (maxL := 3) (ret := (some .int)) (by decide) rfl ?_
  intro p e s m args below meth c s₁ B hml hex hv
  obtain ⟨rfl, hP, hG⟩ := hv
  have hx := B.exec
  have hb := B.bytes
  have hr := B.returns
  have hts := atoms_spec (ws := ws_ yX0_done cX0_done 3 (some .int)) B.pre
  have hts : ∀ w ∈ lw_all, w.before _ s = true := fun w h => hts w (List.mem_cons_of_mem _ h)
  have hown : s.vm.findClass RX0 = some m.cls := findClass_of_methodNamed B.named
  have hlocks := B.notSynchronized
  have hl := lv_entry ([.ref (lL a), .int (119 : Int32), .ref nb]) (n := 3) (Nat.le_of_ble_eq_true rfl)
  rw [lg_entry_eq]
  generalize (lg_sl ([.ref (lL a), .int (119 : Int32), .ref nb]) ++ List.replicate (3 - (lg_sl ([.ref (lL a), .int (119 : Int32), .ref nb])).length) Slot.unset).toArray = ls at hl ⊢
  have hl : lv_has ls 3 [(0, .ref (lL a)), (1, .int (119 : Int32)), (2, .ref nb)] := hl
  have hS : va_S (Ab k) s.heap s.heap [] := va_S.rf
  refine lv_iload_n hx hb dX0_done_0 rfl (lv_at hl 1 rfl) ?_
  refine lv_tableIn (off := 113) (tgt := 114) hx hb dX0_done_1 (by decide) (by decide) (by decide) (by decide) ?_
  refine lv_aload_n hx hb dX0_done_114 rfl (lv_at hl 0 rfl) ?_
  refine lv_aload_n hx hb dX0_done_115 rfl (lv_at hl 2 rfl) ?_
  refine lv_iconst (v := 0) hx hb dX0_done_116 (by decide) ?_
  have hPn : va_P (kD k) gCl [(nb, .inl (kA k, nn, .inl num))] _ := hP.one (List.mem_append_right _ List.mem_cons_self)
  refine va_iald hx hb hG.K hPn 0 0 rfl rfl (vp_in_nI (n := 0) (N := nn) (by omega) hnb) dX0_done_117 ?_
  refine lv_aload_n hx hb dX0_done_118 rfl (lv_at hl 2 rfl) ?_
  refine lv_iconst (v := 1) hx hb dX0_done_119 (by decide) ?_
  have hPn : va_P (kD k) gCl [(nb, .inl (kA k, nn, .inl num))] _ := hP.one (List.mem_append_right _ List.mem_cons_self)
  refine va_iald hx hb hG.K hPn 0 0 rfl rfl (vp_in_nI (n := 1) (N := nn) (by omega) hnb) dX0_done_120 ?_
  refine d_callM (vy_runV (As := [.int (num 0), .int (num 1)]) (rest := []) ⟨hx, hb, hml, hown, hts⟩ (met_X1_says htr hvs hO h1k h8 h hD) (cwV 2 hts (lw_V q534 q535 q536 q67 q537) rfl rfl rfl ⟨rfl, hd_X1_says⟩ ⟨Nat.le_of_ble_eq_true rfl, Nat.le_of_ble_eq_true rfl⟩) (g_preV hG hS hP (va_recv hG.K (le_o hP.left) (ci := 1) (q0 := 0) rfl rfl)) rfl rfl hl.1 rfl (lv_room (Nat.le_of_ble_eq_true rfl)) dX0_done_121 ⟨Nat.le_of_ble_eq_true rfl, Nat.le_of_ble_eq_true rfl⟩) hS (fun E ce q9 w H locs hp hM hP hD hS h1 h2 h3 => ?_) (fun v w H locs hp hP hD hS => ?_)
  · exact d_out (fun x h9 => (hex x h9).elim) hlocks h1 h2 h3 hp hM hP hD hS (Nat.le_of_ble_eq_true rfl) (Nat.le_of_ble_eq_true rfl)
  obtain ⟨r, L9, a9, T9, e1, rfl, e2, e3, e4, rfl⟩ := hp
  refine vy_ret ?_
  refine W.widen (k := 4) (n := 51) (Nat.le_of_ble_eq_true rfl) (Nat.le_of_ble_eq_true rfl) ?_
  exact W.iret hx hb hr (fun t9 ht9 hW9 => c_retM (w := (leW k a9 T9 L9.2.1 L9.2.2.1 L9.2.2.2) ++ ((nb, .inl (kA k, nn, .inl num)) :: fr)) ⟨r, L9, a9, T9, e1, rfl, e2, e3, e4, rfl⟩ hP hD hS ht9) hS.2.2 dX0_done_124
set_option maxHeartbeats 4000000 in
set_option maxRecDepth 100000 in
theorem met_done_p {l : Launch} (htr : l.stackTraces = false) {k : Cx} {a : LA} {T : List TT} {vs : List TV} {pit cor : Nat → Int32} {tol : Int32} {fr : va_W} {nb nn : Nat} {num : Nat → Int32} {out : OR} (hvs : T.map Prod.snd = vs) (hO : leOk k a T) (h1k : vs.length ≤ 1000) (hnn : 3 ≤ nn) (hnb : nn < 2 ^ 31) (h20 : vs.length ≤ 20) (h8 : ∀ t ∈ T, (vT t.2).length ≤ 8) (h : o_parts (vs, pit, cor, tol) (num 0) (num 1) (num 2) = some out) (hD : va_D (Ab k) ((leW k a T pit cor tol) ++ ((nb, .inl (kA k, nn, .inl num)) :: fr))) : vy_Met l yX0_done (ws_ yX0_done cX0_done 3 (some .int)) ({ frames := 9, cells := 26, slots := 330, locals := 198 } : Room) (gPc [.ref (lL a), .int (112 : Int32), .ref nb] k ((leW k a T pit cor tol) ++ ((nb, .inl (kA k, nn, .inl num)) :: fr))) (QcM k (oP k (lL a) ((nb, .inl (kA k, nn, .inl num)) :: fr) out)) (QxM k (oX k ((nb, .inl (kA k, nn, .inl num)) :: fr) out)) 26 330 (Ab k) := by
  refine vy_ofW (cc := cX0_done) (maxL := 3) (ret := (some .int)) (by decide) rfl ?_
  intro p e s m args below meth c s₁ B hml hex hv
  obtain ⟨rfl, hP, hG⟩ := hv
  have hx := B.exec
  have hb := B.bytes
  have hr := B.returns
  have hts := atoms_spec (ws := ws_ yX0_done cX0_done 3 (some .int)) B.pre
  have hts : ∀ w ∈ lw_all, w.before _ s = true := fun w h => hts w (List.mem_cons_of_mem _ h)
  have hown : s.vm.findClass RX0 = some m.cls := findClass_of_methodNamed B.named
  have hlocks := B.notSynchronized
  have hl := lv_entry ([.ref (lL a), .int (112 : Int32), .ref nb]) (n := 3) (Nat.le_of_ble_eq_true rfl)
  rw [lg_entry_eq]
  generalize (lg_sl ([.ref (lL a), .int (112 : Int32), .ref nb]) ++ List.replicate (3 - (lg_sl ([.ref (lL a), .int (112 : Int32), .ref nb])).length) Slot.unset).toArray = ls at hl ⊢
  have hl : lv_has ls 3 [(0, .ref (lL a)), (1, .int (112 : Int32)), (2, .ref nb)] := hl
  have hS : va_S (Ab k) s.heap s.heap [] := va_S.rf
  refine lv_iload_n hx hb dX0_done_0 rfl (lv_at hl 1 rfl) ?_
  refine lv_tableIn (off := 124) (tgt := 125) hx hb dX0_done_1 (by decide) (by decide) (by decide) (by decide) ?_
  refine lv_aload_n hx hb dX0_done_125 rfl (lv_at hl 0 rfl) ?_
  refine lv_aload_n hx hb dX0_done_126 rfl (lv_at hl 2 rfl) ?_
  refine lv_iconst (v := 0) hx hb dX0_done_127 (by decide) ?_
  have hPn : va_P (kD k) gCl [(nb, .inl (kA k, nn, .inl num))] _ := hP.one (List.mem_append_right _ List.mem_cons_self)
  refine va_iald hx hb hG.K hPn 0 0 rfl rfl (vp_in_nI (n := 0) (N := nn) (by omega) hnb) dX0_done_128 ?_
  refine lv_aload_n hx hb dX0_done_129 rfl (lv_at hl 2 rfl) ?_
  refine lv_iconst (v := 1) hx hb dX0_done_130 (by decide) ?_
  have hPn : va_P (kD k) gCl [(nb, .inl (kA k, nn, .inl num))] _ := hP.one (List.mem_append_right _ List.mem_cons_self)
  refine va_iald hx hb hG.K hPn 0 0 rfl rfl (vp_in_nI (n := 1) (N := nn) (by omega) hnb) dX0_done_131 ?_
  refine lv_aload_n hx hb dX0_done_132 rfl (lv_at hl 2 rfl) ?_
  refine lv_iconst (v := 2) hx hb dX0_done_133 (by decide) ?_
  have hPn : va_P (kD k) gCl [(nb, .inl (kA k, nn, .inl num))] _ := hP.one (List.mem_append_right _ List.mem_cons_self)
  refine va_iald hx hb hG.K hPn 0 0 rfl rfl (vp_in_nI (n := 2) (N := nn) (by omega) hnb) dX0_done_134 ?_
  refine d_callM (vy_runV (As := [.int (num 0), .int (num 1), .int (num 2)]) (rest := []) ⟨hx, hb, hml, hown, hts⟩ (met_X1_parts htr hvs hO h1k h20 h8 h hD) (cwV 3 hts (lw_V q572 q573 q574 q67 q575) rfl rfl rfl ⟨rfl, hd_X1_parts⟩ ⟨Nat.le_of_ble_eq_true rfl, Nat.le_of_ble_eq_true rfl⟩) (g_preV hG hS hP (va_recv hG.K (le_o hP.left) (ci := 1) (q0 := 0) rfl rfl)) rfl rfl hl.1 rfl (lv_room (Nat.le_of_ble_eq_true rfl)) dX0_done_135 ⟨Nat.le_of_ble_eq_true rfl, Nat.le_of_ble_eq_true rfl⟩) hS (fun E ce q9 w H locs hp hM hP hD hS h1 h2 h3 => ?_) (fun v w H locs hp hP hD hS => ?_)
  · exact d_out (fun x h9 => (hex x h9).elim) hlocks h1 h2 h3 hp hM hP hD hS (Nat.le_of_ble_eq_true rfl) (Nat.le_of_ble_eq_true rfl)
  obtain ⟨r, L9, a9, T9, e1, rfl, e2, e3, e4, rfl⟩ := hp
  refine vy_ret ?_
  refine W.widen (k := 26) (n := 330) (Nat.le_of_ble_eq_true rfl) (Nat.le_of_ble_eq_true rfl) ?_
  exact W.iret hx hb hr (fun t9 ht9 hW9 => c_retM (w := (leW k a9 T9 L9.2.1 L9.2.2.1 L9.2.2.2) ++ ((nb, .inl (kA k, nn, .inl num)) :: fr)) ⟨r, L9, a9, T9, e1, rfl, e2, e3, e4, rfl⟩ hP hD hS ht9) hS.2.2 dX0_done_138
set_option maxHeartbeats 4000000 in
set_option maxRecDepth 100000 in
theorem met_done_r {l : Launch} (htr : l.stackTraces = false) {k : Cx} {a : LA} {T : List TT} {vs : List TV} {pit cor : Nat → Int32} {tol : Int32} {fr : va_W} {nb nn : Nat} {num : Nat → Int32} {out : OR} (hvs : T.map Prod.snd = vs) (hO : leOk k a T) (h1k : vs.length ≤ 1000) (hnn : 1 ≤ nn) (hnb : nn < 2 ^ 31) (h : o_removes (vs, pit, cor, tol) (num 0) = some out) (hD : va_D (Ab k) ((leW k a T pit cor tol) ++ ((nb, .inl (kA k, nn, .inl num)) :: fr))) : vy_Met l yX0_done (ws_ yX0_done cX0_done 3 (some .int)) ({ frames := 9, cells := 1, slots := 7, locals := 190 } : Room) (gPc [.ref (lL a), .int (114 : Int32), .ref nb] k ((leW k a T pit cor tol) ++ ((nb, .inl (kA k, nn, .inl num)) :: fr))) (QcM k (oP k (lL a) ((nb, .inl (kA k, nn, .inl num)) :: fr) out)) (QxM k (oX k ((nb, .inl (kA k, nn, .inl num)) :: fr) out)) 1 7 (Ab k) := by
  refine vy_ofW (cc := cX0_done) (maxL := 3) (ret := (some .int)) (by decide) rfl ?_
  intro p e s m args below meth c s₁ B hml hex hv
  obtain ⟨rfl, hP, hG⟩ := hv
  have hx := B.exec
  have hb := B.bytes
  have hr := B.returns
  have hts := atoms_spec (ws := ws_ yX0_done cX0_done 3 (some .int)) B.pre
  have hts : ∀ w ∈ lw_all, w.before _ s = true := fun w h => hts w (List.mem_cons_of_mem _ h)
  have hown : s.vm.findClass RX0 = some m.cls := findClass_of_methodNamed B.named
  have hlocks := B.notSynchronized
  have hl := lv_entry ([.ref (lL a), .int (114 : Int32), .ref nb]) (n := 3) (Nat.le_of_ble_eq_true rfl)
  rw [lg_entry_eq]
  generalize (lg_sl ([.ref (lL a), .int (114 : Int32), .ref nb]) ++ List.replicate (3 - (lg_sl ([.ref (lL a), .int (114 : Int32), .ref nb])).length) Slot.unset).toArray = ls at hl ⊢
  have hl : lv_has ls 3 [(0, .ref (lL a)), (1, .int (114 : Int32)), (2, .ref nb)] := hl
  have hS : va_S (Ab k) s.heap s.heap [] := va_S.rf
  refine lv_iload_n hx hb dX0_done_0 rfl (lv_at hl 1 rfl) ?_
  refine lv_tableIn (off := 138) (tgt := 139) hx hb dX0_done_1 (by decide) (by decide) (by decide) (by decide) ?_
  refine lv_aload_n hx hb dX0_done_139 rfl (lv_at hl 0 rfl) ?_
  refine lv_aload_n hx hb dX0_done_140 rfl (lv_at hl 2 rfl) ?_
  refine lv_iconst (v := 0) hx hb dX0_done_141 (by decide) ?_
  have hPn : va_P (kD k) gCl [(nb, .inl (kA k, nn, .inl num))] _ := hP.one (List.mem_append_right _ List.mem_cons_self)
  refine va_iald hx hb hG.K hPn 0 0 rfl rfl (vp_in_nI (n := 0) (N := nn) (by omega) hnb) dX0_done_142 ?_
  refine d_callM (vy_runV (As := [.int (num 0)]) (rest := []) ⟨hx, hb, hml, hown, hts⟩ (met_X1_removes htr hvs hO h1k  h hD) (cwV 1 hts (lw_V q585 q586 q587 q67 q588) rfl rfl rfl ⟨rfl, hd_X1_removes⟩ ⟨Nat.le_of_ble_eq_true rfl, Nat.le_of_ble_eq_true rfl⟩) (g_preV hG hS hP (va_recv hG.K (le_o hP.left) (ci := 1) (q0 := 0) rfl rfl)) rfl rfl hl.1 rfl (lv_room (Nat.le_of_ble_eq_true rfl)) dX0_done_143 ⟨Nat.le_of_ble_eq_true rfl, Nat.le_of_ble_eq_true rfl⟩) hS (fun E ce q9 w H locs hp hM hP hD hS h1 h2 h3 => ?_) (fun v w H locs hp hP hD hS => ?_)
  · exact d_out (fun x h9 => (hex x h9).elim) hlocks h1 h2 h3 hp hM hP hD hS (Nat.le_of_ble_eq_true rfl) (Nat.le_of_ble_eq_true rfl)
  obtain ⟨r, L9, a9, T9, e1, rfl, e2, e3, e4, rfl⟩ := hp
  refine vy_ret ?_
  refine W.widen (k := 1) (n := 7) (Nat.le_of_ble_eq_true rfl) (Nat.le_of_ble_eq_true rfl) ?_
  exact W.iret hx hb hr (fun t9 ht9 hW9 => c_retM (w := (leW k a9 T9 L9.2.1 L9.2.2.1 L9.2.2.2) ++ ((nb, .inl (kA k, nn, .inl num)) :: fr)) ⟨r, L9, a9, T9, e1, rfl, e2, e3, e4, rfl⟩ hP hD hS ht9) hS.2.2 dX0_done_146
set_option maxHeartbeats 4000000 in
set_option maxRecDepth 100000 in
theorem met_done_u {l : Launch} (htr : l.stackTraces = false) {k : Cx} {a : LA} {T : List TT} {vs : List TV} {pit cor : Nat → Int32} {tol : Int32} {fr : va_W} {nb nn : Nat} {num : Nat → Int32} {out : OR} (hvs : T.map Prod.snd = vs) (hO : leOk k a T) (h1k : vs.length ≤ 1000) (hnn : 1 ≤ nn) (hnb : nn < 2 ^ 31) (hs1 : shOk cor) (hs2 : shOk (upd cor (num 0).toNatClampNeg (-1))) (h : o_uncor (vs, pit, cor, tol) (num 0) = some out) (hD : va_D (Ab k) ((leW k a T pit cor tol) ++ ((nb, .inl (kA k, nn, .inl num)) :: fr))) : vy_Met l yX0_done (ws_ yX0_done cX0_done 3 (some .int)) ({ frames := 21, cells := 24, slots := 114, locals := 436 } : Room) (gPc [.ref (lL a), .int (117 : Int32), .ref nb] k ((leW k a T pit cor tol) ++ ((nb, .inl (kA k, nn, .inl num)) :: fr))) (QcM k (oP k (lL a) ((nb, .inl (kA k, nn, .inl num)) :: fr) out)) (QxM k (oX k ((nb, .inl (kA k, nn, .inl num)) :: fr) out)) 24 114 (Ab k) := by
  refine vy_ofW (cc := cX0_done) (maxL := 3) (ret := (some .int)) (by decide) rfl ?_
  intro p e s m args below meth c s₁ B hml hex hv
  obtain ⟨rfl, hP, hG⟩ := hv
  have hx := B.exec
  have hb := B.bytes
  have hr := B.returns
  have hts := atoms_spec (ws := ws_ yX0_done cX0_done 3 (some .int)) B.pre
  have hts : ∀ w ∈ lw_all, w.before _ s = true := fun w h => hts w (List.mem_cons_of_mem _ h)
  have hown : s.vm.findClass RX0 = some m.cls := findClass_of_methodNamed B.named
  have hlocks := B.notSynchronized
  have hl := lv_entry ([.ref (lL a), .int (117 : Int32), .ref nb]) (n := 3) (Nat.le_of_ble_eq_true rfl)
  rw [lg_entry_eq]
  generalize (lg_sl ([.ref (lL a), .int (117 : Int32), .ref nb]) ++ List.replicate (3 - (lg_sl ([.ref (lL a), .int (117 : Int32), .ref nb])).length) Slot.unset).toArray = ls at hl ⊢
  have hl : lv_has ls 3 [(0, .ref (lL a)), (1, .int (117 : Int32)), (2, .ref nb)] := hl
  have hS : va_S (Ab k) s.heap s.heap [] := va_S.rf
  refine lv_iload_n hx hb dX0_done_0 rfl (lv_at hl 1 rfl) ?_
  refine lv_tableIn (off := 157) (tgt := 158) hx hb dX0_done_1 (by decide) (by decide) (by decide) (by decide) ?_
  refine lv_aload_n hx hb dX0_done_158 rfl (lv_at hl 0 rfl) ?_
  refine lv_aload_n hx hb dX0_done_159 rfl (lv_at hl 2 rfl) ?_
  refine lv_iconst (v := 0) hx hb dX0_done_160 (by decide) ?_
  have hPn : va_P (kD k) gCl [(nb, .inl (kA k, nn, .inl num))] _ := hP.one (List.mem_append_right _ List.mem_cons_self)
  refine va_iald hx hb hG.K hPn 0 0 rfl rfl (vp_in_nI (n := 0) (N := nn) (by omega) hnb) dX0_done_161 ?_
  refine d_callM (vy_runV (As := [.int (num 0)]) (rest := []) ⟨hx, hb, hml, hown, hts⟩ (met_X1_uncorrects htr hvs hO h1k hs1 hs2 h hD) (cwV 1 hts (lw_V q647 q648 q649 q67 q650) rfl rfl rfl ⟨rfl, hd_X1_uncorrects⟩ ⟨Nat.le_of_ble_eq_true rfl, Nat.le_of_ble_eq_true rfl⟩) (g_preV hG hS hP (va_recv hG.K (le_o hP.left) (ci := 1) (q0 := 0) rfl rfl)) rfl rfl hl.1 rfl (lv_room (Nat.le_of_ble_eq_true rfl)) dX0_done_162 ⟨Nat.le_of_ble_eq_true rfl, Nat.le_of_ble_eq_true rfl⟩) hS (fun E ce q9 w H locs hp hM hP hD hS h1 h2 h3 => ?_) (fun v w H locs hp hP hD hS => ?_)
  · exact d_out (fun x h9 => (hex x h9).elim) hlocks h1 h2 h3 hp hM hP hD hS (Nat.le_of_ble_eq_true rfl) (Nat.le_of_ble_eq_true rfl)
  obtain ⟨r, L9, a9, T9, e1, rfl, e2, e3, e4, rfl⟩ := hp
  refine vy_ret ?_
  refine W.widen (k := 24) (n := 114) (Nat.le_of_ble_eq_true rfl) (Nat.le_of_ble_eq_true rfl) ?_
  exact W.iret hx hb hr (fun t9 ht9 hW9 => c_retM (w := (leW k a9 T9 L9.2.1 L9.2.2.1 L9.2.2.2) ++ ((nb, .inl (kA k, nn, .inl num)) :: fr)) ⟨r, L9, a9, T9, e1, rfl, e2, e3, e4, rfl⟩ hP hD hS ht9) hS.2.2 dX0_done_165
set_option maxHeartbeats 4000000 in
set_option maxRecDepth 100000 in
theorem met_done_s {l : Launch} (htr : l.stackTraces = false) {k : Cx} {a : LA} {T : List TT} {vs : List TV} {pit cor : Nat → Int32} {tol : Int32} {fr : va_W} {nb nn : Nat} {num : Nat → Int32} {out : OR} (hvs : T.map Prod.snd = vs) (hO : leOk k a T) (h1k : vs.length ≤ 1000) (hnn : 1 ≤ nn) (hnb : nn < 2 ^ 31) (h : o_comesS (vs, pit, cor, tol) (num 0) = some out) (hD : va_D (Ab k) ((leW k a T pit cor tol) ++ ((nb, .inl (kA k, nn, .inl num)) :: fr))) : vy_Met l yX0_done (ws_ yX0_done cX0_done 3 (some .int)) ({ frames := 8, cells := 2, slots := 14, locals := 169 } : Room) (gPc [.ref (lL a), .int (115 : Int32), .ref nb] k ((leW k a T pit cor tol) ++ ((nb, .inl (kA k, nn, .inl num)) :: fr))) (QcM k (oP k (lL a) ((nb, .inl (kA k, nn, .inl num)) :: fr) out)) (QxM k (oX k ((nb, .inl (kA k, nn, .inl num)) :: fr) out)) 2 14 (Ab k) := by
  refine vy_ofW (cc := cX0_done) (maxL := 3) (ret := (some .int)) (by decide) rfl ?_
  intro p e s m args below meth c s₁ B hml hex hv
  obtain ⟨rfl, hP, hG⟩ := hv
  have hx := B.exec
  have hb := B.bytes
  have hr := B.returns
  have hts := atoms_spec (ws := ws_ yX0_done cX0_done 3 (some .int)) B.pre
  have hts : ∀ w ∈ lw_all, w.before _ s = true := fun w h => hts w (List.mem_cons_of_mem _ h)
  have hown : s.vm.findClass RX0 = some m.cls := findClass_of_methodNamed B.named
  have hlocks := B.notSynchronized
  have hl := lv_entry ([.ref (lL a), .int (115 : Int32), .ref nb]) (n := 3) (Nat.le_of_ble_eq_true rfl)
  rw [lg_entry_eq]
  generalize (lg_sl ([.ref (lL a), .int (115 : Int32), .ref nb]) ++ List.replicate (3 - (lg_sl ([.ref (lL a), .int (115 : Int32), .ref nb])).length) Slot.unset).toArray = ls at hl ⊢
  have hl : lv_has ls 3 [(0, .ref (lL a)), (1, .int (115 : Int32)), (2, .ref nb)] := hl
  have hS : va_S (Ab k) s.heap s.heap [] := va_S.rf
  refine lv_iload_n hx hb dX0_done_0 rfl (lv_at hl 1 rfl) ?_
  refine lv_tableIn (off := 165) (tgt := 166) hx hb dX0_done_1 (by decide) (by decide) (by decide) (by decide) ?_
  refine lv_aload_n hx hb dX0_done_166 rfl (lv_at hl 0 rfl) ?_
  refine lv_aload_n hx hb dX0_done_167 rfl (lv_at hl 2 rfl) ?_
  refine lv_iconst (v := 0) hx hb dX0_done_168 (by decide) ?_
  have hPn : va_P (kD k) gCl [(nb, .inl (kA k, nn, .inl num))] _ := hP.one (List.mem_append_right _ List.mem_cons_self)
  refine va_iald hx hb hG.K hPn 0 0 rfl rfl (vp_in_nI (n := 0) (N := nn) (by omega) hnb) dX0_done_169 ?_
  refine d_callM (vy_runV (As := [.int (num 0)]) (rest := []) ⟨hx, hb, hml, hown, hts⟩ (met_X1_comesSpeaker htr hvs hO h1k  h hD) (cwV 1 hts (lw_V q651 q652 q653 q67 q654) rfl rfl rfl ⟨rfl, hd_X1_comesSpeaker⟩ ⟨Nat.le_of_ble_eq_true rfl, Nat.le_of_ble_eq_true rfl⟩) (g_preV hG hS hP (va_recv hG.K (le_o hP.left) (ci := 1) (q0 := 0) rfl rfl)) rfl rfl hl.1 rfl (lv_room (Nat.le_of_ble_eq_true rfl)) dX0_done_170 ⟨Nat.le_of_ble_eq_true rfl, Nat.le_of_ble_eq_true rfl⟩) hS (fun E ce q9 w H locs hp hM hP hD hS h1 h2 h3 => ?_) (fun v w H locs hp hP hD hS => ?_)
  · exact d_out (fun x h9 => (hex x h9).elim) hlocks h1 h2 h3 hp hM hP hD hS (Nat.le_of_ble_eq_true rfl) (Nat.le_of_ble_eq_true rfl)
  obtain ⟨r, L9, a9, T9, e1, rfl, e2, e3, e4, rfl⟩ := hp
  refine vy_ret ?_
  refine W.widen (k := 2) (n := 14) (Nat.le_of_ble_eq_true rfl) (Nat.le_of_ble_eq_true rfl) ?_
  exact W.iret hx hb hr (fun t9 ht9 hW9 => c_retM (w := (leW k a9 T9 L9.2.1 L9.2.2.1 L9.2.2.2) ++ ((nb, .inl (kA k, nn, .inl num)) :: fr)) ⟨r, L9, a9, T9, e1, rfl, e2, e3, e4, rfl⟩ hP hD hS ht9) hS.2.2 dX0_done_173
set_option maxHeartbeats 4000000 in
set_option maxRecDepth 100000 in
theorem met_done_g {l : Launch} (htr : l.stackTraces = false) {k : Cx} {a : LA} {T : List TT} {vs : List TV} {pit cor : Nat → Int32} {tol : Int32} {fr : va_W} {nb nn : Nat} {num : Nat → Int32} {out : OR} (hvs : T.map Prod.snd = vs) (hO : leOk k a T) (h1k : vs.length ≤ 1000) (hnn : 2 ≤ nn) (hnb : nn < 2 ^ 31) (h20 : vs.length ≤ 20) (h : o_gives (vs, pit, cor, tol) (num 0) (num 1) = some out) (hD : va_D (Ab k) ((leW k a T pit cor tol) ++ ((nb, .inl (kA k, nn, .inl num)) :: fr))) : vy_Met l yX0_done (ws_ yX0_done cX0_done 3 (some .int)) ({ frames := 9, cells := 3, slots := 21, locals := 191 } : Room) (gPc [.ref (lL a), .int (103 : Int32), .ref nb] k ((leW k a T pit cor tol) ++ ((nb, .inl (kA k, nn, .inl num)) :: fr))) (QcM k (oP k (lL a) ((nb, .inl (kA k, nn, .inl num)) :: fr) out)) (QxM k (oX k ((nb, .inl (kA k, nn, .inl num)) :: fr) out)) 3 21 (Ab k) := by
  refine vy_ofW (cc := cX0_done) (maxL := 3) (ret := (some .int)) (by decide) rfl ?_
  intro p e s m args below meth c s₁ B hml hex hv
  obtain ⟨rfl, hP, hG⟩ := hv
  have hx := B.exec
  have hb := B.bytes
  have hr := B.returns
  have hts := atoms_spec (ws := ws_ yX0_done cX0_done 3 (some .int)) B.pre
  have hts : ∀ w ∈ lw_all, w.before _ s = true := fun w h => hts w (List.mem_cons_of_mem _ h)
  have hown : s.vm.findClass RX0 = some m.cls := findClass_of_methodNamed B.named
  have hlocks := B.notSynchronized
  have hl := lv_entry ([.ref (lL a), .int (103 : Int32), .ref nb]) (n := 3) (Nat.le_of_ble_eq_true rfl)
  rw [lg_entry_eq]
  generalize (lg_sl ([.ref (lL a), .int (103 : Int32), .ref nb]) ++ List.replicate (3 - (lg_sl ([.ref (lL a), .int (103 : Int32), .ref nb])).length) Slot.unset).toArray = ls at hl ⊢
  have hl : lv_has ls 3 [(0, .ref (lL a)), (1, .int (103 : Int32)), (2, .ref nb)] := hl
  have hS : va_S (Ab k) s.heap s.heap [] := va_S.rf
  refine lv_iload_n hx hb dX0_done_0 rfl (lv_at hl 1 rfl) ?_
  refine lv_tableIn (off := 173) (tgt := 174) hx hb dX0_done_1 (by decide) (by decide) (by decide) (by decide) ?_
  refine lv_aload_n hx hb dX0_done_174 rfl (lv_at hl 0 rfl) ?_
  refine lv_aload_n hx hb dX0_done_175 rfl (lv_at hl 2 rfl) ?_
  refine lv_iconst (v := 0) hx hb dX0_done_176 (by decide) ?_
  have hPn : va_P (kD k) gCl [(nb, .inl (kA k, nn, .inl num))] _ := hP.one (List.mem_append_right _ List.mem_cons_self)
  refine va_iald hx hb hG.K hPn 0 0 rfl rfl (vp_in_nI (n := 0) (N := nn) (by omega) hnb) dX0_done_177 ?_
  refine lv_aload_n hx hb dX0_done_178 rfl (lv_at hl 2 rfl) ?_
  refine lv_iconst (v := 1) hx hb dX0_done_179 (by decide) ?_
  have hPn : va_P (kD k) gCl [(nb, .inl (kA k, nn, .inl num))] _ := hP.one (List.mem_append_right _ List.mem_cons_self)
  refine va_iald hx hb hG.K hPn 0 0 rfl rfl (vp_in_nI (n := 1) (N := nn) (by omega) hnb) dX0_done_180 ?_
  refine d_callM (vy_runV (As := [.int (num 0), .int (num 1)]) (rest := []) ⟨hx, hb, hml, hown, hts⟩ (met_X1_gives htr hvs hO h1k h20 h hD) (cwV 2 hts (lw_V q655 q656 q657 q67 q658) rfl rfl rfl ⟨rfl, hd_X1_gives⟩ ⟨Nat.le_of_ble_eq_true rfl, Nat.le_of_ble_eq_true rfl⟩) (g_preV hG hS hP (va_recv hG.K (le_o hP.left) (ci := 1) (q0 := 0) rfl rfl)) rfl rfl hl.1 rfl (lv_room (Nat.le_of_ble_eq_true rfl)) dX0_done_181 ⟨Nat.le_of_ble_eq_true rfl, Nat.le_of_ble_eq_true rfl⟩) hS (fun E ce q9 w H locs hp hM hP hD hS h1 h2 h3 => ?_) (fun v w H locs hp hP hD hS => ?_)
  · exact d_out (fun x h9 => (hex x h9).elim) hlocks h1 h2 h3 hp hM hP hD hS (Nat.le_of_ble_eq_true rfl) (Nat.le_of_ble_eq_true rfl)
  obtain ⟨r, L9, a9, T9, e1, rfl, e2, e3, e4, rfl⟩ := hp
  refine vy_ret ?_
  refine W.widen (k := 3) (n := 21) (Nat.le_of_ble_eq_true rfl) (Nat.le_of_ble_eq_true rfl) ?_
  exact W.iret hx hb hr (fun t9 ht9 hW9 => c_retM (w := (leW k a9 T9 L9.2.1 L9.2.2.1 L9.2.2.2) ++ ((nb, .inl (kA k, nn, .inl num)) :: fr)) ⟨r, L9, a9, T9, e1, rfl, e2, e3, e4, rfl⟩ hP hD hS ht9) hS.2.2 dX0_done_184
set_option maxHeartbeats 4000000 in
set_option maxRecDepth 100000 in
theorem met_done_j {l : Launch} (htr : l.stackTraces = false) {k : Cx} {a : LA} {T : List TT} {vs : List TV} {pit cor : Nat → Int32} {tol : Int32} {fr : va_W} {nb nn : Nat} {num : Nat → Int32} {out : OR} (hvs : T.map Prod.snd = vs) (hO : leOk k a T) (h1k : vs.length ≤ 1000) (hnn : 2 ≤ nn) (hnb : nn < 2 ^ 31) (h20 : vs.length ≤ 20) (h : o_joins (vs, pit, cor, tol) (num 0) (num 1) = some out) (hD : va_D (Ab k) ((leW k a T pit cor tol) ++ ((nb, .inl (kA k, nn, .inl num)) :: fr))) : vy_Met l yX0_done (ws_ yX0_done cX0_done 3 (some .int)) ({ frames := 8, cells := 1, slots := 7, locals := 171 } : Room) (gPc [.ref (lL a), .int (106 : Int32), .ref nb] k ((leW k a T pit cor tol) ++ ((nb, .inl (kA k, nn, .inl num)) :: fr))) (QcM k (oP k (lL a) ((nb, .inl (kA k, nn, .inl num)) :: fr) out)) (QxM k (oX k ((nb, .inl (kA k, nn, .inl num)) :: fr) out)) 1 7 (Ab k) := by
  refine vy_ofW (cc := cX0_done) (maxL := 3) (ret := (some .int)) (by decide) rfl ?_
  intro p e s m args below meth c s₁ B hml hex hv
  obtain ⟨rfl, hP, hG⟩ := hv
  have hx := B.exec
  have hb := B.bytes
  have hr := B.returns
  have hts := atoms_spec (ws := ws_ yX0_done cX0_done 3 (some .int)) B.pre
  have hts : ∀ w ∈ lw_all, w.before _ s = true := fun w h => hts w (List.mem_cons_of_mem _ h)
  have hown : s.vm.findClass RX0 = some m.cls := findClass_of_methodNamed B.named
  have hlocks := B.notSynchronized
  have hl := lv_entry ([.ref (lL a), .int (106 : Int32), .ref nb]) (n := 3) (Nat.le_of_ble_eq_true rfl)
  rw [lg_entry_eq]
  generalize (lg_sl ([.ref (lL a), .int (106 : Int32), .ref nb]) ++ List.replicate (3 - (lg_sl ([.ref (lL a), .int (106 : Int32), .ref nb])).length) Slot.unset).toArray = ls at hl ⊢
  have hl : lv_has ls 3 [(0, .ref (lL a)), (1, .int (106 : Int32)), (2, .ref nb)] := hl
  have hS : va_S (Ab k) s.heap s.heap [] := va_S.rf
  refine lv_iload_n hx hb dX0_done_0 rfl (lv_at hl 1 rfl) ?_
  refine lv_tableIn (off := 184) (tgt := 185) hx hb dX0_done_1 (by decide) (by decide) (by decide) (by decide) ?_
  refine lv_aload_n hx hb dX0_done_185 rfl (lv_at hl 0 rfl) ?_
  refine lv_aload_n hx hb dX0_done_186 rfl (lv_at hl 2 rfl) ?_
  refine lv_iconst (v := 0) hx hb dX0_done_187 (by decide) ?_
  have hPn : va_P (kD k) gCl [(nb, .inl (kA k, nn, .inl num))] _ := hP.one (List.mem_append_right _ List.mem_cons_self)
  refine va_iald hx hb hG.K hPn 0 0 rfl rfl (vp_in_nI (n := 0) (N := nn) (by omega) hnb) dX0_done_188 ?_
  refine lv_aload_n hx hb dX0_done_189 rfl (lv_at hl 2 rfl) ?_
  refine lv_iconst (v := 1) hx hb dX0_done_190 (by decide) ?_
  have hPn : va_P (kD k) gCl [(nb, .inl (kA k, nn, .inl num))] _ := hP.one (List.mem_append_right _ List.mem_cons_self)
  refine va_iald hx hb hG.K hPn 0 0 rfl rfl (vp_in_nI (n := 1) (N := nn) (by omega) hnb) dX0_done_191 ?_
  refine d_callM (vy_runV (As := [.int (num 0), .int (num 1)]) (rest := []) ⟨hx, hb, hml, hown, hts⟩ (met_X1_joins htr hvs hO h1k h20 h hD) (cwV 2 hts (lw_V q672 q673 q674 q67 q675) rfl rfl rfl ⟨rfl, hd_X1_joins⟩ ⟨Nat.le_of_ble_eq_true rfl, Nat.le_of_ble_eq_true rfl⟩) (g_preV hG hS hP (va_recv hG.K (le_o hP.left) (ci := 1) (q0 := 0) rfl rfl)) rfl rfl hl.1 rfl (lv_room (Nat.le_of_ble_eq_true rfl)) dX0_done_192 ⟨Nat.le_of_ble_eq_true rfl, Nat.le_of_ble_eq_true rfl⟩) hS (fun E ce q9 w H locs hp hM hP hD hS h1 h2 h3 => ?_) (fun v w H locs hp hP hD hS => ?_)
  · exact d_out (fun x h9 => (hex x h9).elim) hlocks h1 h2 h3 hp hM hP hD hS (Nat.le_of_ble_eq_true rfl) (Nat.le_of_ble_eq_true rfl)
  obtain ⟨r, L9, a9, T9, e1, rfl, e2, e3, e4, rfl⟩ := hp
  refine vy_ret ?_
  refine W.widen (k := 1) (n := 7) (Nat.le_of_ble_eq_true rfl) (Nat.le_of_ble_eq_true rfl) ?_
  exact W.iret hx hb hr (fun t9 ht9 hW9 => c_retM (w := (leW k a9 T9 L9.2.1 L9.2.2.1 L9.2.2.2) ++ ((nb, .inl (kA k, nn, .inl num)) :: fr)) ⟨r, L9, a9, T9, e1, rfl, e2, e3, e4, rfl⟩ hP hD hS ht9) hS.2.2 dX0_done_195
set_option maxHeartbeats 4000000 in
set_option maxRecDepth 100000 in
theorem met_done_n {l : Launch} (htr : l.stackTraces = false) {k : Cx} {a : LA} {T : List TT} {vs : List TV} {pit cor : Nat → Int32} {tol : Int32} {fr : va_W} {nb nn : Nat} {num : Nat → Int32} {out : OR} (hvs : T.map Prod.snd = vs) (hO : leOk k a T) (h1k : vs.length ≤ 1000) (hnn : 1 ≤ nn) (hnb : nn < 2 ^ 31) (h : o_tol (vs, pit, cor, tol) (num 0) = some out) (hD : va_D (Ab k) ((leW k a T pit cor tol) ++ ((nb, .inl (kA k, nn, .inl num)) :: fr))) : vy_Met l yX0_done (ws_ yX0_done cX0_done 3 (some .int)) ({ frames := 8, cells := 1, slots := 7, locals := 169 } : Room) (gPc [.ref (lL a), .int (110 : Int32), .ref nb] k ((leW k a T pit cor tol) ++ ((nb, .inl (kA k, nn, .inl num)) :: fr))) (QcM k (oP k (lL a) ((nb, .inl (kA k, nn, .inl num)) :: fr) out)) (QxM k (oX k ((nb, .inl (kA k, nn, .inl num)) :: fr) out)) 1 7 (Ab k) := by
  refine vy_ofW (cc := cX0_done) (maxL := 3) (ret := (some .int)) (by decide) rfl ?_
  intro p e s m args below meth c s₁ B hml hex hv
  obtain ⟨rfl, hP, hG⟩ := hv
  have hx := B.exec
  have hb := B.bytes
  have hr := B.returns
  have hts := atoms_spec (ws := ws_ yX0_done cX0_done 3 (some .int)) B.pre
  have hts : ∀ w ∈ lw_all, w.before _ s = true := fun w h => hts w (List.mem_cons_of_mem _ h)
  have hown : s.vm.findClass RX0 = some m.cls := findClass_of_methodNamed B.named
  have hlocks := B.notSynchronized
  have hl := lv_entry ([.ref (lL a), .int (110 : Int32), .ref nb]) (n := 3) (Nat.le_of_ble_eq_true rfl)
  rw [lg_entry_eq]
  generalize (lg_sl ([.ref (lL a), .int (110 : Int32), .ref nb]) ++ List.replicate (3 - (lg_sl ([.ref (lL a), .int (110 : Int32), .ref nb])).length) Slot.unset).toArray = ls at hl ⊢
  have hl : lv_has ls 3 [(0, .ref (lL a)), (1, .int (110 : Int32)), (2, .ref nb)] := hl
  have hS : va_S (Ab k) s.heap s.heap [] := va_S.rf
  refine lv_iload_n hx hb dX0_done_0 rfl (lv_at hl 1 rfl) ?_
  refine lv_tableIn (off := 195) (tgt := 196) hx hb dX0_done_1 (by decide) (by decide) (by decide) (by decide) ?_
  refine lv_aload_n hx hb dX0_done_196 rfl (lv_at hl 0 rfl) ?_
  refine lv_aload_n hx hb dX0_done_197 rfl (lv_at hl 2 rfl) ?_
  refine lv_iconst (v := 0) hx hb dX0_done_198 (by decide) ?_
  have hPn : va_P (kD k) gCl [(nb, .inl (kA k, nn, .inl num))] _ := hP.one (List.mem_append_right _ List.mem_cons_self)
  refine va_iald hx hb hG.K hPn 0 0 rfl rfl (vp_in_nI (n := 0) (N := nn) (by omega) hnb) dX0_done_199 ?_
  refine d_callM (vy_runV (As := [.int (num 0)]) (rest := []) ⟨hx, hb, hml, hown, hts⟩ (met_X1_toleranceTo htr hvs hO h1k  h hD) (cwV 1 hts (lw_V q676 q677 q678 q67 q679) rfl rfl rfl ⟨rfl, hd_X1_toleranceTo⟩ ⟨Nat.le_of_ble_eq_true rfl, Nat.le_of_ble_eq_true rfl⟩) (g_preV hG hS hP (va_recv hG.K (le_o hP.left) (ci := 1) (q0 := 0) rfl rfl)) rfl rfl hl.1 rfl (lv_room (Nat.le_of_ble_eq_true rfl)) dX0_done_200 ⟨Nat.le_of_ble_eq_true rfl, Nat.le_of_ble_eq_true rfl⟩) hS (fun E ce q9 w H locs hp hM hP hD hS h1 h2 h3 => ?_) (fun v w H locs hp hP hD hS => ?_)
  · exact d_out (fun x h9 => (hex x h9).elim) hlocks h1 h2 h3 hp hM hP hD hS (Nat.le_of_ble_eq_true rfl) (Nat.le_of_ble_eq_true rfl)
  obtain ⟨r, L9, a9, T9, e1, rfl, e2, e3, e4, rfl⟩ := hp
  refine vy_ret ?_
  refine W.widen (k := 1) (n := 7) (Nat.le_of_ble_eq_true rfl) (Nat.le_of_ble_eq_true rfl) ?_
  exact W.iret hx hb hr (fun t9 ht9 hW9 => c_retM (w := (leW k a9 T9 L9.2.1 L9.2.2.1 L9.2.2.2) ++ ((nb, .inl (kA k, nn, .inl num)) :: fr)) ⟨r, L9, a9, T9, e1, rfl, e2, e3, e4, rfl⟩ hP hD hS ht9) hS.2.2 dX0_done_203
set_option maxHeartbeats 4000000 in
set_option maxRecDepth 100000 in
theorem met_done_c {l : Launch} (htr : l.stackTraces = false) {k : Cx} {a : LA} {T : List TT} {vs : List TV} {pit cor : Nat → Int32} {tol : Int32} {fr : va_W} {nb nn : Nat} {num : Nat → Int32} {out : OR} (hvs : T.map Prod.snd = vs) (hO : leOk k a T) (h1k : vs.length ≤ 1000) (hnn : 2 ≤ nn) (hnb : nn < 2 ^ 31) (hs1 : shOk cor) (hs2 : m_follow 17 cor (num 1) (num 0) = some false → shOk (upd cor (num 0).toNatClampNeg (num 1))) (h : o_cor (vs, pit, cor, tol) (num 0) (num 1) = some out) (hD : va_D (Ab k) ((leW k a T pit cor tol) ++ ((nb, .inl (kA k, nn, .inl num)) :: fr))) : vy_Met l yX0_done (ws_ yX0_done cX0_done 3 (some .int)) ({ frames := 25, cells := 24, slots := 113, locals := 541 } : Room) (gPc [.ref (lL a), .int (99 : Int32), .ref nb] k ((leW k a T pit cor tol) ++ ((nb, .inl (kA k, nn, .inl num)) :: fr))) (QcM k (oP k (lL a) ((nb, .inl (kA k, nn, .inl num)) :: fr) out)) (QxM k (oX k ((nb, .inl (kA k, nn, .inl num)) :: fr) out)) 24 113 (Ab k) := by
  refine vy_ofW (cc := cX0_done) (maxL := 3) (ret := (some .int)) (by decide) rfl ?_
  intro p e s m args below meth c s₁ B hml hex hv
  obtain ⟨rfl, hP, hG⟩ := hv
  have hx := B.exec
  have hb := B.bytes
  have hr := B.returns
  have hts := atoms_spec (ws := ws_ yX0_done cX0_done 3 (some .int)) B.pre
  have hts : ∀ w ∈ lw_all, w.before _ s = true := fun w h => hts w (List.mem_cons_of_mem _ h)
  have hown : s.vm.findClass RX0 = some m.cls := findClass_of_methodNamed B.named
  have hlocks := B.notSynchronized
  have hl := lv_entry ([.ref (lL a), .int (99 : Int32), .ref nb]) (n := 3) (Nat.le_of_ble_eq_true rfl)
  rw [lg_entry_eq]
  generalize (lg_sl ([.ref (lL a), .int (99 : Int32), .ref nb]) ++ List.replicate (3 - (lg_sl ([.ref (lL a), .int (99 : Int32), .ref nb])).length) Slot.unset).toArray = ls at hl ⊢
  have hl : lv_has ls 3 [(0, .ref (lL a)), (1, .int (99 : Int32)), (2, .ref nb)] := hl
  have hS : va_S (Ab k) s.heap s.heap [] := va_S.rf
  refine lv_iload_n hx hb dX0_done_0 rfl (lv_at hl 1 rfl) ?_
  refine lv_tableIn (off := 146) (tgt := 147) hx hb dX0_done_1 (by decide) (by decide) (by decide) (by decide) ?_
  refine lv_aload_n hx hb dX0_done_147 rfl (lv_at hl 0 rfl) ?_
  refine lv_aload_n hx hb dX0_done_148 rfl (lv_at hl 2 rfl) ?_
  refine lv_iconst (v := 0) hx hb dX0_done_149 (by decide) ?_
  have hPn : va_P (kD k) gCl [(nb, .inl (kA k, nn, .inl num))] _ := hP.one (List.mem_append_right _ List.mem_cons_self)
  refine va_iald hx hb hG.K hPn 0 0 rfl rfl (vp_in_nI (n := 0) (N := nn) (by omega) hnb) dX0_done_150 ?_
  refine lv_aload_n hx hb dX0_done_151 rfl (lv_at hl 2 rfl) ?_
  refine lv_iconst (v := 1) hx hb dX0_done_152 (by decide) ?_
  have hPn : va_P (kD k) gCl [(nb, .inl (kA k, nn, .inl num))] _ := hP.one (List.mem_append_right _ List.mem_cons_self)
  refine va_iald hx hb hG.K hPn 0 0 rfl rfl (vp_in_nI (n := 1) (N := nn) (by omega) hnb) dX0_done_153 ?_
  refine d_callM (vy_runVX (As := [.int (num 0), .int (num 1)]) (rest := []) ⟨hx, hb, hml, hown, hts⟩ (met_X1_corrects htr hvs hO h1k hs1 hs2 h hD) (vx_cwVW 2 hts (lw_VW q594 q595 q596 q67 q597) rfl rfl rfl ⟨rfl, hd_X1_corrects⟩ ⟨Nat.le_of_ble_eq_true rfl, Nat.le_of_ble_eq_true rfl⟩) (g_preV hG hS hP (va_recv hG.K (le_o hP.left) (ci := 1) (q0 := 0) rfl rfl)) rfl rfl hl.1 rfl (lv_room (Nat.le_of_ble_eq_true rfl)) dX0_done_154 ⟨Nat.le_of_ble_eq_true rfl, Nat.le_of_ble_eq_true rfl⟩) hS (fun E ce q9 w H locs hp hM hP hD hS h1 h2 h3 => ?_) (fun v w H locs hp hP hD hS => ?_)
  · exact d_out (fun x h9 => (hex x h9).elim) hlocks h1 h2 h3 hp hM hP hD hS (Nat.le_of_ble_eq_true rfl) (Nat.le_of_ble_eq_true rfl)
  obtain ⟨r, L9, a9, T9, e1, rfl, e2, e3, e4, rfl⟩ := hp
  refine vy_ret ?_
  refine W.widen (k := 24) (n := 113) (Nat.le_of_ble_eq_true rfl) (Nat.le_of_ble_eq_true rfl) ?_
  exact W.iret hx hb hr (fun t9 ht9 hW9 => c_retM (w := (leW k a9 T9 L9.2.1 L9.2.2.1 L9.2.2.2) ++ ((nb, .inl (kA k, nn, .inl num)) :: fr)) ⟨r, L9, a9, T9, e1, rfl, e2, e3, e4, rfl⟩ hP hD hS ht9) hS.2.2 dX0_done_157
