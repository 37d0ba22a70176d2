/-! what is thrown, by name; free monitors; fillInStackTrace with traces off -/
def Mf (H : Heap) (q : Nat) : Prop := ∃ cell : Cell, H[q]? = some cell ∧ cell.monitor.owner = none ∧ cell.monitor.count = 0
/-- the end by a throw of q, of the class E: its world, its monitor free -/
def QxM (k : Cx) (PX : String → Nat → va_W → Prop) : String → Addr → State → State → Prop := fun E q st t => ∃ w : va_W, PX E q w ∧ Mf t.heap q ∧ va_P (kD k) gCl w t.heap ∧ va_D (Ab k) w ∧ va_F (Ab k) st t
/-- a constructor's end: q's monitor is free -/
def QcX (k : Cx) (q : Nat) (P : Option Value → va_W → Prop) : Array Value → State → Outcome → State → Prop := fun a st o t => QcM k P a st o t ∧ Mf t.heap q
section XB
variable {p : Program} {l : Launch} {e : Env} {R : Room} {s : State} {m : MethodId} {args : Array Value} {below : List Frame} {meth : Method} {c : Code} {H : Heap} {locs : List Loc} {cells slots : Nat} {Q : State → Prop}
variable {pc : Nat} {ls : Array Slot} {rest st0 : List Value} {a : Array Value} {mc ms : Nat} {k : Cx} {P : Option Value → va_W → Prop} {PX : String → Nat → va_W → Prop} {H0 : Heap}
theorem W.mon {g : JFrame} {q : Nat} (hM : Mf s.heap q) (kk : Mf H q → W p l e R s m args below meth c H locs cells slots Q g) : W p l e R s m args below meth c H locs cells slots Q g := by
  intro T hT X
  refine kk ?_ T hT X
  obtain ⟨cell, h1, h2, h3⟩ := hM
  obtain ⟨c', e1, e2, -, -⟩ := X.same.2.2.2.2.2 q cell h1
  exact ⟨c', by rw [← hT]; exact e1, by rw [e2]; exact h2, by rw [e2]; exact h3⟩
theorem d_callM (hr : vy_Run p l e R s m args below meth c H locs cells slots mc ms (F0 m pc ls st0) rest (QcM k P a) (QxM k PX) (Ab k)) (hS : va_S (Ab k) H0 H locs)
    (kx : ∀ (E : String) (ce : Cell) (q : Nat) (w : va_W) (H1 : Heap) (locs1 : List Loc), PX E q w → Mf H1 q → va_P (kD k) gCl w H1 → va_D (Ab k) w → va_S (Ab k) H0 H1 locs1 → H1[q]? = some ce → ce.vm = .none → s.vm.findClass E = some ce.cls → vx_W p l e R s m args below meth c H1 locs1 (cells + mc) (slots + ms) Q (F0 m pc ls rest) q)
    (kk : ∀ (v : Option Value) (w : va_W) (H1 : Heap) (locs1 : List Loc), P v w → va_P (kD k) gCl w H1 → va_D (Ab k) w → va_S (Ab k) H0 H1 locs1 → W p l e R s m args below meth c H1 locs1 (cells + mc) (slots + ms) Q (F0 m (pc + 3) ls (v.toList ++ rest))) : W p l e R s m args below meth c H locs cells slots Q (F0 m pc ls st0) := by
  intro T hT X
  rcases hr T hT X with ⟨v, st₀, t, T', L, h0, X', hL, e1, e2, ⟨v', w, hv, hp, hP, hD, hz, hk⟩, st⟩ | ⟨q, st₀, t, T', L, E, ce, h0, X', hL, e1, e2, ⟨w, hp, hM, hP, hD, hz, hk⟩, hce, hcv, hcl, st⟩
  · cases hv
    rw [h0] at hz hk
    obtain ⟨t2, a1, b1⟩ := kk v w t.heap (locs ++ L) hp hP hD ⟨Nat.le_trans hS.1 hz, fun q h1 h2 => (hk q (Nat.lt_of_lt_of_le h1 hS.1) h2).trans (hS.2.1 q h1 h2), fun x hx => by
      rcases List.mem_append.mp hx with h | h
      · exact hS.2.2 x h
      · exact hL x h⟩ T' e1 X'
    exact ⟨t2, st t2 a1, b1⟩
  · rw [h0] at hz hk
    obtain ⟨t2, a1, b1⟩ := kx E ce q w t.heap (locs ++ L) hp hM hP hD ⟨Nat.le_trans hS.1 hz, fun q h1 h2 => (hk q (Nat.lt_of_lt_of_le h1 hS.1) h2).trans (hS.2.1 q h1 h2), fun x hx => by
      rcases List.mem_append.mp hx with h | h
      · exact hS.2.2 x h
      · exact hL x h⟩ hce hcv hcl T' e1 X'
    exact ⟨t2, st.trans a1, b1⟩
/-- a constructor of something that is to be thrown -/
theorem d_callX {q : Nat} (hr : va_Run p l e R s m args below meth c H locs cells slots mc ms (F0 m pc ls st0) rest (QcX k q P a) (Ab k)) (hS : va_S (Ab k) H0 H locs)
    (kk : ∀ (v : Option Value) (w : va_W) (H1 : Heap) (locs1 : List Loc), P v w → Mf H1 q → va_P (kD k) gCl w H1 → va_D (Ab k) w → va_S (Ab k) H0 H1 locs1 → W p l e R s m args below meth c H1 locs1 (cells + mc) (slots + ms) Q (F0 m (pc + 3) ls (v.toList ++ rest))) : W p l e R s m args below meth c H locs cells slots Q (F0 m pc ls st0) := by
  intro T hT X
  obtain ⟨v, st₀, t, T', L, h0, X', hL, e1, e2, ⟨⟨v', w, hv, hp, hP, hD, hz, hk⟩, hM⟩, st⟩ := hr T hT X
  cases hv
  rw [h0] at hz hk
  obtain ⟨t2, a1, b1⟩ := kk v w t.heap (locs ++ L) hp hM hP hD ⟨Nat.le_trans hS.1 hz, fun q h1 h2 => (hk q (Nat.lt_of_lt_of_le h1 hS.1) h2).trans (hS.2.1 q h1 h2), fun x hx => by
    rcases List.mem_append.mp hx with h | h
    · exact hS.2.2 x h
    · exact hL x h⟩ T' e1 X'
  exact ⟨t2, st t2 a1, b1⟩
theorem d_retX {q : Nat} {v : Option Value} {w : va_W} {t : State} (hp : P v w) (hM : Mf H q) (hP : va_P (kD k) gCl w H) (hD : va_D (Ab k) w) (hS : va_S (Ab k) s.heap H locs) (ht : t.heap = H) : QcX k q P args s (.returned v) t :=
  ⟨c_retM hp hP hD hS ht, by rw [ht]; exact hM⟩
/-- a cell of the world is thrown -/
theorem d_obj {q q0 ci : Nat} {r : vw_C} {fs : List Value} {w : va_W} (hG : GU k s) (hP : va_P (kD k) gCl w H) (hc : gCl[ci]? = some r) (he : w[q0]? = some (q, .inr (ci, fs))) : ∃ ce : Cell, H[q]? = some ce ∧ ce.vm = .none ∧ s.vm.findClass r.1 = some ce.cls := by
  obtain ⟨r', h1, cell, q1, q2, q3, q4⟩ := hP q0 _ he
  have hr : r' = r := Option.some.inj (h1.symm.trans hc)
  subst hr
  exact ⟨cell, q1, q3, by rw [q2]; exact (hG.K.1 ci _ hc).2.1⟩
/-- not caught here -/
theorem d_out {Qc : Array Value → State → Outcome → State → Prop} {E : String} {ce : Cell} {q : Nat} {w : va_W} (hout : ∀ x ∈ c.exceptionTable.toList, covers x pc = false) (hlocks : meth.locks = false) (hcell : H[q]? = some ce) (hv : ce.vm = .none) (hcl : s.vm.findClass E = some ce.cls)
    (hp : PX E q w) (hM : Mf H q) (hP : va_P (kD k) gCl w H) (hD : va_D (Ab k) w) (hS : va_S (Ab k) s.heap H locs) (hc : cells ≤ mc) (hs : slots ≤ ms) :
    vx_W p l e R s m args below meth c H locs cells slots (vy_MQ below Qc (QxM k PX) args s mc ms (Ab k)) (F0 m pc ls rest) q :=
  vy_out hout hlocks hcell hv hcl (fun t ht _ => ⟨w, hp, by rw [ht]; exact hM, by rw [ht]; exact hP, hD, hS.F ht⟩) hS.2.2 hc hs
/-- 'new', with its free monitor -/
theorem d_new {cc : ByteArray} {c0 : Code} {D : va_G} {cl : List vw_C} {ws : va_W} {A : Nat → Prop} {tys : List (ClassId × FieldType)} (hexec : p.tables.exec = Jvm.exec) (hb : c0.code = cc) {own C : String} {T : u_T} {N ci index : Nat} {Ts : List Cond} (hts : ∀ w ∈ Ts, w.before args s = true) (hin : ∀ w ∈ u_ws C T N, w ∈ Ts) (ty : Nat → FieldType) (hty : ∀ k, k < N → parseFieldDescriptor (T k).2.2.1 = some (ty k)) (hown : s.vm.findClass own = some m.cls) (hcl : (Cond.classLink own index C).before args s = true) (hinst : (Cond.instantiable C N).before args s = true) (hini : (Cond.initialized C).before args s = true)
    (hK : va_K D cl tys s) (hP : va_P D cl ws H) (hD : va_D A ws) (hS : va_S A H0 H locs) (hA : ∀ q, H0.size ≤ q → A q) (hc : cl[ci]? = some (C, T, N)) {fs : List Value} (hfs : ∀ j, j < N → defaultValue (ty j) = vp_V fs j) (hcells : cells + 1 ≤ R.cells) (hslots : slots + N ≤ R.slots) (hdg : decode cc pc = .ok (.new index, 3))
    (kk : ∀ (q : Nat) (H1 : Heap), Mf H1 q → va_P D cl (ws ++ [(q, .inr (ci, fs))]) H1 → va_D A (ws ++ [(q, .inr (ci, fs))]) → va_S A H0 H1 locs →
      W p l e R s m args below meth c0 H1 locs (cells + 1) (slots + N) Q (F0 m (pc + 3) ls (.ref q :: rest))) : W p l e R s m args below meth c0 H locs cells slots Q (F0 m pc ls rest) := by
  have hKn := hK.1 ci _ hc
  refine W.newcK hexec hb hown hcl hinst hini rfl hdg hcells hslots hKn.2.1 rfl fun H1 kC hkC e1 z1 o1 => ?_
  have hk : ∀ (k : Nat) (x : Nat × va_E), ws[k]? = some x → H1[x.1]? = H[x.1]? := fun k x hx => o1 x.1 ((hP k x hx).lt)
  refine kk H.size H1 ⟨_, e1, rfl, rfl⟩ ((hP.kept hk).app (fun k x hx => ?_)) (hD.push hP rfl (hA _ hS.1)) ⟨Nat.le_trans hS.1 (by omega), fun x h1 h2 => (o1 x (Nat.lt_of_lt_of_le h1 hS.1)).trans (hS.2.1 x h1 h2), hS.2.2⟩
  have hz : k < 1 := (List.getElem?_eq_some_iff.mp hx).1
  rw [show k = 0 by omega] at hx
  cases hx
  exact ⟨_, hc, (u_born ty hts hin hKn hkC e1 hty).to hfs⟩
end XB
theorem d_rooms {e : Env} {V : State} {g : JFrame} {mf : MethodId} {self : Addr} {cell : Cell} (htop : V.topJava?.isSome) {lim : Nat × Nat} (hlim : e.platform.stackLimits V.me = lim) (hframes : V.frames.length + 1 < lim.1) (hwords : (stackUse (.java g :: V.frames.tail)).2 + 41 ≤ lim.2) :
    e.platform.stackFull (((V.setTop g).threads[(V.setTop g).cur]?).getD { frames := [] }) (V.setTop g).frames (1 + 2) = false ∧
    e.platform.stackFull ((((fillInside V g mf self cell).setTop (fillJ mf self 16 [])).threads[((fillInside V g mf self cell).setTop (fillJ mf self 16 [])).cur]?).getD { frames := [] }) ((fillInside V g mf self cell).setTop (fillJ mf self 16 [])).frames (nativeFrameWords "java/lang/Throwable" "fillInStackTrace" 2) = false := by
  obtain ⟨g₀, hg⟩ := Option.isSome_iff_exists.mp htop
  obtain ⟨tl, htl⟩ := State.topJava?_eq_some.mp hg
  have hlen : V.frames.length = (Frame.java g :: V.frames.tail).length := by rw [htl]; rfl
  have hfg : (V.setTop g).frames = .java g :: V.frames.tail := by rw [State.frames_setTop _ htl, htl]; rfl
  have hlimg : e.platform.stackLimits (V.setTop g).me = lim := by rw [State.stackLimits_setTop _ htop]; exact hlim
  have hroom : e.platform.stackFull (((V.setTop g).threads[(V.setTop g).cur]?).getD { frames := [] }) (V.setTop g).frames (1 + 2) = false :=
    roomAbove (pushed := []) (base := .java g :: V.frames.tail) (free := 41) (lim := lim) hfg hlimg (by rw [← hlen]; simp only [List.length_nil]; omega) hwords (by simp only [stackUse_nil]; omega)
  have htopE : (V.setCell self (cell.withEntry V.cur)).topJava?.isSome := htop
  have hfF : (fillInside V g mf self cell).frames = .java (entryFrameSync mf #[.ref self] 1 self) :: .java g :: V.frames.tail := frames_entered (g := g) htopE _
  have htopF : (fillInside V g mf self cell).topJava?.isSome := by rw [State.topJava?_of_frames hfF]; rfl
  have hlimF : e.platform.stackLimits (fillInside V g mf self cell).me = lim := by
    rw [State.stackLimits_pushFrame, State.stackLimits_setTop _ htopE]; exact hlim
  have hw : (stackUse [Frame.java (fillJ mf self 16 [])]).2 = 14 := by
    rw [stackUse_java, stackUse_nil]
    simp [operandWords]
  exact ⟨hroom, roomAbove (pl := e.platform) (u := (fillInside V g mf self cell).setTop (fillJ mf self 16 [])) (vars := (nativeFrameWords "java/lang/Throwable" "fillInStackTrace" 2))
      (pushed := [.java (fillJ mf self 16 [])]) (base := .java g :: V.frames.tail) (free := 41) (lim := lim) (State.frames_setTop _ hfF) (by rw [State.stackLimits_setTop _ htopF]; exact hlimF)
      (by rw [← hlen]; simp only [List.length_cons, List.length_nil]; omega) hwords (by rw [hw]; decide)⟩
section XF
variable {p : Program} {l : Launch} {e : Env} {R : Room} {s : State} {m : MethodId} {args : Array Value} {below : List Frame} {meth : Method} {c : Code} {H : Heap} {locs : List Loc} {cells slots : Nat} {Q : State → Prop}
variable {pc : Nat} {ls : Array Slot} {rest : List Value} {A : Nat → Prop}
theorem d_fill {cc : ByteArray} {q : Nat} {C : String} {cell : Cell} {u0 : RefV} (hx : p.tables.exec = Jvm.exec) (hb : c.code = cc) (hl : l.stackTraces = false) (hsz : ls.size = c.maxLocals) (hat : ∀ w ∈ Bundle.throwableAtoms, w.before args s = true) (hown : s.vm.findClass Bundle.tN = some m.cls)
    (hf198 : (Cond.fieldLink Bundle.tN 198 Bundle.tN "backtrace" "Ljava/lang/Object;").before args s = true) (hl198 : (Cond.lays Bundle.tN Bundle.tN "backtrace" "Ljava/lang/Object;").before args s = true) (hlst : (Cond.lays C Bundle.tN "stackTrace" Bundle.steD).before args s = true)
    (hsel : (Cond.selects C Bundle.tFill Bundle.tFill).before args s = true) (hsel0 : (Cond.selects C Bundle.tFill0 Bundle.tFill0).before args s = true) (hord : ∃ kX : Class, s.vm.classes[cell.cls]? = some kX ∧ kX.kind = .ordinary)
    (hcls : s.vm.findClass C = some cell.cls) (hcell : H[q]? = some cell) (hvm : cell.vm = .none) (hmo : cell.monitor.owner = none) (hmc : cell.monitor.count = 0)
    (hst : ∀ x, s.fieldFound? Bundle.tN "stackTrace" Bundle.steD = some x → cell.slots[x.2.2.2.slot]? = some u0.v) (hbt : ∀ x, s.fieldFound? Bundle.tN "backtrace" "Ljava/lang/Object;" = some x → cell.slots[x.2.2.2.slot]? = some .null)
    (hZ : va_Z Bundle.tN "UNASSIGNED_STACK" Bundle.steD u0.v A s H) (hA : A q) (hfr : 1 < R.frames) (hlo : (rest.map fun v => v.category).sum + 41 ≤ R.locals)
    (hdg : decode cc pc = .ok (.invokevirtual 27, 3)) (kk : W p l e R s m args below meth c H locs cells slots Q (F0 m (pc + 3) ls (.ref q :: rest))) : W p l e R s m args below meth c H locs cells slots Q (F0 m pc ls (.ref q :: rest)) := by
  intro T' hT X
  subst hb
  have htr : e.platform.stackTraces = false := (show e.platform.stackTraces = l.stackTraces by rw [X.admits.platform]).trans hl
  have howns : e.platform.frameOwnsMonitors = true := by rw [X.admits.platform]
  have hfin : e.platform.finalization = false := by rw [X.admits.platform]
  have hpl : e.platform.magicAccessors = ({} : Platform).magicAccessors := by rw [X.admits.platform]
  obtain ⟨T, Z0, L, -, Y⟩ := ThrowableC.of_atoms (args := args) howns hfin hpl hat
  obtain ⟨mk, methM, hnamed, hmethM, hstM, habM⟩ := Cond.instanceMethod_spec (hat (.instanceMethod Bundle.tFill) (by simp [Bundle.throwableAtoms]))
  cases Option.some.inj (hnamed.symm.trans Y.fill)
  have hs0 : selectMethod e.platform s.vm cell.cls T.fill0 = .method T.fill0 := by
    obtain ⟨c2, r2, m2, q1, q2, q3, q4, -⟩ := Cond.selects_spec hsel0
    cases Option.some.inj (q1.symm.trans hcls)
    cases Option.some.inj (q2.symm.trans (State.methodFound?_of_named Y.fill0 (by decide)))
    cases Option.some.inj (q3.symm.trans Y.fill0)
    rw [Launch.admits_selectMethod X.admits]; exact q4
  obtain ⟨c2, r2, m2, q1, q2, q3, q4, kP, hkP, hkPi⟩ := Cond.selects_spec hsel
  cases Option.some.inj (q1.symm.trans hcls)
  cases Option.some.inj (q2.symm.trans (State.methodFound?_of_named Y.fill (by decide)))
  cases Option.some.inj (q3.symm.trans Y.fill)
  have hsF : selectMethod e.platform s.vm cell.cls T.fill = .method T.fill := by rw [Launch.admits_selectMethod X.admits]; exact q4
  have hmF := L.method L.fillAt
  have hsigM : methM = T.methFill := Option.some.inj (hmethM.symm.trans hmF)
  obtain ⟨vm₁, X₁, hstep₁⟩ := X.invokevirtual hx hown (hat (.methodLink Bundle.tN 27 Bundle.tFill) (by simp [Bundle.throwableAtoms])) hnamed hmethM hstM hkP hkPi (by decide) (a := q) (cell := cell) (by rw [hT]; exact hcell)
    (fun z h => by rw [hvm] at h; cases h) hsF hmethM habM hkP hkPi (g := F0 m pc ls (.ref q :: rest)) rfl (argsL := []) (rest := rest) (by rw [hsigM, L.fillParams]; rfl) rfl hdg
  obtain ⟨cf, kf, fi, f, a, cellS, z1, z2, z3, z4, z5, z6, z7, z8⟩ := hZ
  have ez := Option.some.inj (z1.symm.trans Y.unassigned)
  simp only [Prod.mk.injEq] at ez
  obtain ⟨rfl, rfl, rfl, rfl⟩ := ez
  have ea : a = T.aS := Option.some.inj (z4.symm.trans L.statics)
  subst ea
  obtain ⟨ci198, i198, fB, hk198, hg198, ha198, hsB, -, hnB, htB, hffB⟩ := Cond.ownField (t := .object "java/lang/Object") Y.found L.cls (by decide +kernel) hf198 hl198 e.platform hpl
  have hlt : q < T'.heap.size := by rw [hT]; exact (Array.getElem?_eq_some_iff.mp hcell).1
  obtain ⟨kX, hkX, hkord⟩ := hord
  obtain ⟨tyS, -, -⟩ := Cond.laysAt hcls hkX Y.stack hlst
  have hsS : cell.slots[T.fStack.slot]? = some u0.v := hst _ Y.stack
  have htS : Takes s cell T.fStack u0.v := ⟨(Array.getElem?_eq_some_iff.mp hsS).1, by
    have hv9 : fits T.fStack.type u0.v = true := by rw [Y.stackType]; exact fits_refV_array _ u0
    simp [State.fitsSlot, State.slotType?, hvm, hkX, hkord, tyS, hv9]⟩
  have hskip : SkipFacts T e.platform s (fun u => u) u0 (cell.withEntry (T'.setVm vm₁).cur) :=
    ⟨{ ci198 := ci198, i198 := i198, fBack := fB }, ⟨hk198, hg198, ha198, hsB⟩, hbt _ hffB, fun _ _ => rfl⟩
  have hfr' := X₁.framesAbove (n := 1) hfr
  have hwd' := X₁.stackAbove (g := F0 m pc ls rest) hsz (K := 41) (by show 2 * 0 + (rest.map fun v => v.category).sum + 41 ≤ _; omega)
  have hro : ∀ vm1 : Vm, e.platform.stackLimits ((T'.setVm vm₁).setVm vm1).me = e.platform.stackLimits (T'.setVm vm₁).me := fun _ => rfl
  obtain ⟨vm2, hW2, st⟩ := Steps.fillColdAnyV p (V := T'.setVm vm₁) (g := F0 m pc ls rest) (c := c) (self := q) X₁.here hx T L X₁.warmed (Nn := fun u => u) heapOnly_id (fun _ _ => rfl) (fun _ => rfl) (fun u x y => setCell_twice _ _ _ _) (cell := cell) (cellS := cellS) (cN := cell.withEntry (T'.setVm vm₁).cur)
    (u0 := u0) (ig := .invokevirtual 27) (len := 3) [] (by show T'.heap[q]? = _; rw [hT]; exact hcell) (fun k h => by rw [hvm] at h; cases h) (by rw [hvm]; intro h; cases h) (Or.inl hmo) hsS hs0 (by show T'.heap[T.aS]? = _; rw [hT]; exact z5) (fun h => z8 (by rw [h]; exact hA)) (by intro hu; rw [hu] at z6; cases z6) z7
    (fun _ h => h) (fun _ h => h) rfl rfl rfl rfl htS hdg
    (fun _ vm1 hW1 hAt t' hs => L.nativeOff p htr hAt hW1 (d_rooms (V := (T'.setVm vm₁).setVm vm1) (g := F0 m pc ls rest) X₁.here.top rfl hfr' hwd').2 hs)
    (d_rooms (mf := T.fill) (self := q) (cell := cell) (V := T'.setVm vm₁) (g := F0 m pc ls rest) X₁.here.top rfl hfr' hwd').1 hskip
  have hce : ((cell.withEntry (T'.setVm vm₁).cur).setSlot T.fStack.slot u0.v).left = cell := by
    rw [Cell.left_setSlot, Cell.left_withEntry _ hmo hmc]
    exact Cell.setSlot_same hsS
  rw [hce] at st
  have has : (((T'.setVm vm₁).setVm vm2).setCell q cell) = (T'.setVm vm₁).setVm vm2 := State.setCell_asItLies (by show T'.heap[q]? = _; rw [hT]; exact hcell)
  have X2 := X₁.noted hW2
  obtain ⟨t, a1, b1⟩ := kk ((T'.setVm vm₁).setVm vm2) hT X2
  refine ⟨t, hstep₁ _ (fun acts => ?_), b1⟩
  rw [doInvoke_state]
  refine st t ?_
  show Steps p.tables e below ((((T'.setVm vm₁).setVm vm2).setCell q cell).setTop _) t
  rw [has]
  exact a1
end XF
