/-! contracts of readers: silent (the heap is the same), growing (no old cell changes) -/
def QcV (v : Option Value) : Array Value → State → Outcome → State → Prop := fun _ st o t => o = .returned v ∧ t.heap = st.heap
def QcG (v : Option Value) : Array Value → State → Outcome → State → Prop := fun _ st o t => o = .returned v ∧ va_F (fun _ => False) st t
/-- what is newer than the method's own start -/
def Nw (s : State) : Nat → Prop := fun q => s.heap.size ≤ q
section CB
variable {p : Program} {l : Launch} {e : Env} {R : Room} {s : State} {m : MethodId} {args : Array Value} {below : List Frame} {meth : Method} {c : Code} {H : Heap} {locs : List Loc} {cells slots : Nat} {Q : State → Prop}
variable {pc : Nat} {ls : Array Slot} {rest st0 : List Value} {a : Array Value} {mc ms : Nat}
theorem c_call {v : Option Value} (hr : va_Run p l e R s m args below meth c H locs cells slots 0 0 (F0 m pc ls st0) rest (QcV v a) (fun _ => False)) (kk : W p l e R s m args below meth c H locs cells slots Q (F0 m (pc + 3) ls (v.toList ++ rest))) : W p l e R s m args below meth c H locs cells slots Q (F0 m pc ls st0) := by
  intro T hT X
  obtain ⟨v, st₀, t, T', L, h0, X', hL, e1, e2, ⟨hv, hh⟩, st⟩ := hr T hT X
  cases hv
  obtain ⟨t2, a1, b1⟩ := kk T' (by rw [e1, hh, h0]) (Stand.forget X' (fun q h => (hL q h).elim))
  exact ⟨t2, st t2 a1, b1⟩
theorem c_call5 {v : Option Value} (hr : va_Run5 p l e R s m args below meth c H locs cells slots 0 0 (F0 m pc ls st0) rest (QcV v a) (fun _ => False)) (kk : W p l e R s m args below meth c H locs cells slots Q (F0 m (pc + 5) ls (v.toList ++ rest))) : W p l e R s m args below meth c H locs cells slots Q (F0 m pc ls st0) := by
  intro T hT X
  obtain ⟨v, st₀, t, T', L, h0, X', hL, e1, e2, ⟨hv, hh⟩, st⟩ := hr T hT X
  cases hv
  obtain ⟨t2, a1, b1⟩ := kk T' (by rw [e1, hh, h0]) (Stand.forget X' (fun q h => (hL q h).elim))
  exact ⟨t2, st t2 a1, b1⟩
theorem c_callG {A0 : Nat → Prop} {H0 : Heap} {v : Option Value} (hr : va_Run p l e R s m args below meth c H locs cells slots mc ms (F0 m pc ls st0) rest (QcG v a) (fun _ => False)) (hS : va_S A0 H0 H locs) (kk : ∀ (H1 : Heap) (locs1 : List Loc), H.size ≤ H1.size → (∀ q : Nat, q < H.size → H1[q]? = H[q]?) → va_S A0 H0 H1 locs1 → W p l e R s m args below meth c H1 locs1 (cells + mc) (slots + ms) Q (F0 m (pc + 3) ls (v.toList ++ rest))) : W p l e R s m args below meth c H locs cells slots Q (F0 m pc ls st0) := by
  intro T hT X
  obtain ⟨v, st₀, t, T', L, h0, X', hL, e1, e2, ⟨hv, hz, hk⟩, st⟩ := hr T hT X
  cases hv
  rw [h0] at hz hk
  have h1 : H.size ≤ t.heap.size := hz
  have h2 : ∀ q : Nat, q < H.size → t.heap[q]? = H[q]? := fun q hq => hk q hq (fun h => h)
  have hL2 : L = [] := by
    cases L with
    | nil => rfl
    | cons x L => exact (hL x List.mem_cons_self).elim
  subst hL2
  obtain ⟨t2, a1, b1⟩ := kk t.heap (locs ++ []) h1 h2 ⟨Nat.le_trans hS.1 h1, fun q hq hn => (h2 q (Nat.lt_of_lt_of_le hq hS.1)).trans (hS.2.1 q hq hn), fun x hx => hS.2.2 x (by simpa using hx)⟩ T' e1 X'
  exact ⟨t2, st t2 a1, b1⟩
/-- a silent method's end -/
theorem c_ret {v : Option Value} {t : State} (ht : t.heap = s.heap) : QcV v args s (.returned v) t := ⟨rfl, ht⟩
/-- a growing method's end -/
theorem c_retG {v : Option Value} {t : State} (hS : va_S (Nw s) s.heap H locs) (ht : t.heap = H) : QcG v args s (.returned v) t :=
  ⟨rfl, by rw [ht]; exact hS.1, fun q hq _ => by rw [ht]; exact hS.2.1 q hq (fun h => absurd hq (Nat.not_lt.mpr h))⟩
theorem c_forget {g : JFrame} (hS : va_S (Nw s) s.heap H locs) (kk : W p l e R s m args below meth c H [] cells slots Q g) : W p l e R s m args below meth c H locs cells slots Q g := va_forget hS.2.2 kk
theorem va_P.up {D : va_G} {cl : List vw_C} {ws : va_W} (h : va_P D cl ws s.heap) (hS : va_S (Nw s) s.heap H locs) : va_P D cl ws H := h.grow (fun q hq => hS.2.1 q hq (fun z => absurd hq (Nat.not_lt.mpr z)))
theorem va_S.ab {k : Cx} (hG : GU k s) (hS : va_S (Nw s) s.heap H locs) : va_S (Ab k) s.heap H locs := ⟨hS.1, fun q h1 h2 => hS.2.1 q h1 (fun z => h2 (Nat.le_trans hG.b z)), fun x hx => Nat.le_trans hG.b (hS.2.2 x hx)⟩
theorem Nw_all : ∀ q : Nat, s.heap.size ≤ q → Nw s q := fun _ h => h
end CB
/-- the place x of a list -/
def pAt {α : Type} (xs : List α) (x : Int32) : Option α := if x < 0 then none else xs[x.toNatClampNeg]?
theorem pAt_some {α : Type} {xs : List α} {x : Int32} {v : α} (h : pAt xs x = some v) : ¬ x < 0 ∧ xs[x.toNatClampNeg]? = some v := by
  unfold pAt at h
  by_cases c : x < 0
  · rw [if_pos c] at h; cases h
  · rw [if_neg c] at h; exact ⟨c, h⟩
theorem pAt_of {α : Type} {xs : List α} {x : Int32} {v : α} (h0 : ¬ x < 0) (h : xs[x.toNatClampNeg]? = some v) : pAt xs x = some v := by
  unfold pAt; rw [if_neg h0]; exact h
theorem pAt_map {α β : Type} {f : α → β} {xs : List α} {x : Int32} {v : α} (h : pAt xs x = some v) : pAt (xs.map f) x = some (f v) := by
  obtain ⟨h0, h1⟩ := pAt_some h
  exact pAt_of h0 (by rw [List.getElem?_map, h1]; rfl)
theorem pAt_T {T : List TT} {vs : List TV} {x : Int32} {v : TV} (hv : T.map Prod.snd = vs) (h : pAt vs x = some v) : ∃ a : TA, T[x.toNatClampNeg]? = some (a, v) ∧ pAt (tads T) x = some (aT a) := by
  subst hv
  obtain ⟨h0, h1⟩ := pAt_some h
  obtain ⟨a, ha⟩ := vs_at h1
  exact ⟨a, ha, pAt_map (f := fun t : TT => aT t.1) (pAt_of h0 ha)⟩
theorem pAt_in {α : Type} {xs : List α} {x : Int32} {v : α} {n : Nat} (h : pAt xs x = some v) (hn : xs.length ≤ n) : vp_in x n := by
  obtain ⟨h0, h1⟩ := pAt_some h
  have := (List.getElem?_eq_some_iff.mp h1).1
  rintro (z | z)
  · exact h0 z
  · omega
