/-! contracts by membership: the world w is any that holds the cells -/
theorem Met.conseq {l : Launch} {y : MethodName} {ws : List Cond} {rm : Room} {Pc Pc' : Array Value → State → Prop} {Qc Qc' : Array Value → State → Outcome → State → Prop} {mc ms : Nat} {free : Addr → Prop} (h : Met l y ws rm Pc Qc mc ms free) (h1 : ∀ a s, Pc' a s → Pc a s) (h2 : ∀ a s o t, Pc' a s → Qc a s o t → Qc' a s o t) : Met l y ws rm Pc' Qc' mc ms free := by
  intro p e ha hc hk s m args below hf happ hP hK
  obtain ⟨n, o, a1, a2, a3, a4, a5⟩ := h p e ha hc hk s m args below hf happ (h1 _ _ hP) hK
  exact ⟨n, o, a1, a2, a3, h2 _ _ _ _ hP a4, a5⟩
theorem gPc_perm {av : List Value} {k : Cx} {w w' : va_W} (hp : w.Perm w') : ∀ a s, gPc av k w a s → gPc av k w' a s := fun _ _ h => ⟨h.1, h.2.1.perm hp, h.2.2⟩
theorem gPc_mem {av : List Value} {k : Cx} {w w' : va_W} (hp : ∀ q ∈ w', q ∈ w) : ∀ a s, gPc av k w a s → gPc av k w' a s := fun _ _ h => ⟨h.1, h.2.1.of_mem hp, h.2.2⟩
theorem QcM_perm {k : Cx} {P P' : Option Value → va_W → Prop} (h : ∀ v w, P v w → ∃ w', w.Perm w' ∧ P' v w') {a : Array Value} {s : State} {o : Outcome} {t : State} (q : QcM k P a s o t) : QcM k P' a s o t := by
  obtain ⟨v, w, e, hp, hP, hD, hF⟩ := q
  obtain ⟨w', hw, hp'⟩ := h v w hp
  exact ⟨v, w', e, hp', hP.perm hw, hD.perm hw, hF⟩
theorem mem_perm {α : Type} {x : α} {w : List α} (h : x ∈ w) : ∃ r, w.Perm (x :: r) := by
  obtain ⟨s, t, rfl⟩ := List.append_of_mem h
  exact ⟨s ++ t, List.perm_middle⟩
theorem mem_perm2 {w : va_W} {x y : Nat × va_E} (hx : x ∈ w) (hy : y ∈ w) (hne : x.1 ≠ y.1) : ∃ r, w.Perm (x :: y :: r) := by
  obtain ⟨r, hr⟩ := mem_perm hx
  have h2 : y ∈ r := by
    rcases List.mem_cons.mp (hr.mem_iff.mp hy) with e | e
    · exact absurd (by rw [e]) hne
    · exact e
  obtain ⟨r2, hr2⟩ := mem_perm h2
  exact ⟨r2, hr.trans (hr2.cons x)⟩
section MI
variable {l : Launch} {k : Cx} {al ar cap i y q : Nat} {las md cur : Int32} {xs : List Nat} {w : va_W}
theorem met_iterator (hm : lsO al ar md xs ∈ w) (hD : va_D (Ab k) w) : Met l yJ2_iterator (ws_ yJ2_iterator cJ2_iterator 1 (Option.some (Jvm.ClassFile.FieldType.object "java/util/Iterator"))) ({ frames := 2, cells := 1, slots := 4, locals := 45 } : Room) (gPc [.ref al] k w) (QcM k (fun v w' => ∃ q, v = some (.ref q) ∧ w' = itO q 0 (-1) md al :: w)) 1 4 (Ab k) := by
  obtain ⟨r, hr⟩ := mem_perm hm
  refine (met_J2_iterator (hD.perm hr)).conseq (gPc_perm hr) (fun a s o t _ h => QcM_perm (fun v w' h => ?_) h)
  obtain ⟨q, h1, rfl⟩ := h
  exact ⟨_, (hr.symm).cons _, q, h1, rfl⟩
theorem met_hasNextT (h : ¬ cur = nI xs.length) (hm : lsO al ar md xs ∈ w) : Met l yJ10_hasNext (ws_ yJ10_hasNext cJ10_hasNext 1 (some .boolean)) ({ frames := 1, cells := 0, slots := 0, locals := 12 } : Room) (gPc [.ref q] k (itO q cur las md al :: w)) (QcV (some (.int 1))) 0 0 (fun _ => False) :=
  (met_J10_hasNextT h).conseq (gPc_mem (fun x hx => by
    rcases List.mem_cons.mp hx with e | e
    · rw [e]; exact List.mem_cons_self
    · rw [List.mem_singleton.mp e]; exact List.mem_cons_of_mem _ hm)) (fun _ _ _ _ _ h => h)
theorem met_hasNextF (h : cur = nI xs.length) (hm : lsO al ar md xs ∈ w) : Met l yJ10_hasNext (ws_ yJ10_hasNext cJ10_hasNext 1 (some .boolean)) ({ frames := 1, cells := 0, slots := 0, locals := 12 } : Room) (gPc [.ref q] k (itO q cur las md al :: w)) (QcV (some (.int 0))) 0 0 (fun _ => False) :=
  (met_J10_hasNextF h).conseq (gPc_mem (fun x hx => by
    rcases List.mem_cons.mp hx with e | e
    · rw [e]; exact List.mem_cons_self
    · rw [List.mem_singleton.mp e]; exact List.mem_cons_of_mem _ hm)) (fun _ _ _ _ _ h => h)
theorem ls_mem (hO : lsOk k ar cap xs) (hy : xs[i]? = some y) (hm : ∀ x ∈ lsW k al ar cap md xs, x ∈ w) : lsO al ar md xs ∈ w ∧ rA k ar cap xs ∈ w := by
  refine ⟨hm _ List.mem_cons_self, hm _ (List.mem_cons_of_mem _ ?_)⟩
  have h1 := (List.getElem?_eq_some_iff.mp hy).1
  have h2 := hO.1
  unfold lsA
  rw [if_neg (by omega)]
  exact List.mem_singleton.mpr rfl
theorem ls_ne (hD : va_D (Ab k) w) (h1 : lsO al ar md xs ∈ w) (h2 : rA k ar cap xs ∈ w) : al ≠ ar := by
  intro e
  obtain ⟨i, hi⟩ := List.getElem?_of_mem h1
  obtain ⟨j, hj⟩ := List.getElem?_of_mem h2
  have := hD.1 i j _ _ hi hj e
  subst this
  rw [hi] at hj
  cases hj
theorem met_next (hO : lsOk k ar cap xs) (hy : xs[i]? = some y) (hm : ∀ x ∈ lsW k al ar cap md xs, x ∈ w) (hD : va_D (Ab k) (itO q (nI i) las md al :: w)) : Met l yJ10_next (ws_ yJ10_next cJ10_next 3 (Option.some (Jvm.ClassFile.FieldType.object "java/lang/Object"))) ({ frames := 2, cells := 0, slots := 0, locals := 32 } : Room) (gPc [.ref q] k (itO q (nI i) las md al :: w)) (QcM k (fun v w' => v = some (.ref y) ∧ w' = itO q (nI (i + 1)) (nI i) md al :: w)) 0 0 (Ab k) := by
  obtain ⟨m1, m2⟩ := ls_mem hO hy hm
  have hDw : va_D (Ab k) w := hD.subl (List.sublist_cons_self _ _)
  obtain ⟨r, hr⟩ := mem_perm2 m1 m2 (ls_ne hDw m1 m2)
  have hc : cap < 2 ^ 31 := Nat.lt_of_le_of_lt hO.2.1 (by decide)
  refine (met_J10_next (List.getElem?_eq_some_iff.mp hy).1 (Nat.lt_of_le_of_lt hO.1 hc) hO.1 hc hy (hD.perm (hr.cons _))).conseq (gPc_perm (hr.cons _)) (fun a s o t _ h => QcM_perm (fun v w' h => ?_) h)
  obtain ⟨h1, rfl⟩ := h
  exact ⟨_, (hr.symm).cons _, h1, rfl⟩
end MI
theorem lw_F {own : String} {idx : Nat} {C : String} {x y : MethodName} {b : ByteArray} {L : Nat} {r : Option FieldType} (h1 : Cond.methodLink own idx x ∈ lw_all) (h2 : Cond.selects C x y ∈ lw_all) (h3 : Cond.instanceMethod y ∈ lw_all) (h4 : Cond.initialized y.cls ∈ lw_all) (h5 : Cond.code y b L r ∈ lw_all) : GoodIn lw_all (va_wsF own idx C x y (ws_ y b L r)) := by
  refine lw_app ?_ (lw_meth h5)
  intro w hw
  simp only [List.mem_cons, List.not_mem_nil, or_false] at hw
  rcases hw with e | e | e | e
  · rw [e]; exact h1
  · rw [e]; exact h2
  · rw [e]; exact h3
  · rw [e]; exact h4
abbrev xHasNext : MethodName := ⟨"java/util/Iterator", "hasNext", "()Z"⟩
abbrev xNext : MethodName := ⟨"java/util/Iterator", "next", "()Ljava/lang/Object;"⟩
theorem hd_xHasNext : xHasNext.cls ≠ "java/lang/invoke/MethodHandle" ∧ xHasNext.cls ≠ "java/lang/invoke/VarHandle" ∧ (parseMethodDescriptor xHasNext.desc).map (fun d => d.parameters.length) = some 0 := by decide +kernel
theorem hd_xNext : xNext.cls ≠ "java/lang/invoke/MethodHandle" ∧ xNext.cls ≠ "java/lang/invoke/VarHandle" ∧ (parseMethodDescriptor xNext.desc).map (fun d => d.parameters.length) = some 0 := by decide +kernel
/-- the terms of a turn that an iterator still has before it -/
theorem it_end {k : Cx} {vs : List Int32} {c : Nat} (h : vs.drop c = []) (hc : c ≤ vs.length) : nI c = nI (bxs k vs).length := by
  have := List.drop_eq_nil_iff.mp h
  rw [List.length_map, Nat.le_antisymm hc this]
theorem it_go {k : Cx} {vs bs : List Int32} {b : Int32} {c : Nat} (h : vs.drop c = b :: bs) (hl : vs.length < 2 ^ 31) : ¬ nI c = nI (bxs k vs).length ∧ (bxs k vs)[c]? = some (bxA k b) ∧ vs.drop (c + 1) = bs ∧ c + 1 ≤ vs.length ∧ b ∈ vs := by
  have h1 : vs[c]? = some b := by rw [← List.head?_drop, h]; rfl
  have h2 : c < vs.length := (List.getElem?_eq_some_iff.mp h1).1
  refine ⟨?_, by rw [List.getElem?_map, h1]; rfl, by rw [← List.tail_drop, h]; rfl, h2, List.mem_of_getElem? h1⟩
  rw [List.length_map, nI_eq (by omega) hl]
  omega
theorem ls_small {k : Cx} {ar cap : Nat} {vs : List Int32} (hO : lsOk k ar cap (bxs k vs)) : vs.length < 2 ^ 31 := by
  have h1 := hO.1
  have h2 := hO.2.1
  rw [List.length_map] at h1
  exact Nat.lt_of_le_of_lt (Nat.le_trans h1 h2) (by decide)
theorem le_mt {k : Cx} {a : LA} {T : List TT} {pit cor : Nat → Int32} {tol : Int32} {j : Nat} {t : TT} {q : Nat × va_E} (ht : T[j]? = some t) (hq : q ∈ lsW k (aL t.1) (aE t.1) (aC t.1) (aM t.1) (bxs k (vT t.2))) : q ∈ leW k a T pit cor tol := by
  unfold leW
  exact List.mem_append_right _ (List.mem_flatMap.mpr ⟨t, List.mem_of_getElem? ht, List.mem_cons_of_mem _ hq⟩)
