/-! contracts that change the world: the whole list of cells is given, the part that isn't touched among it -/
def QcM (k : Cx) (P : Option Value → va_W → Prop) : Array Value → State → Outcome → State → Prop := fun _ st o t => ∃ (v : Option Value) (w : va_W), o = .returned v ∧ P v w ∧ va_P (kD k) gCl w t.heap ∧ va_D (Ab k) w ∧ va_F (Ab k) st t
theorem va_P.rot {D : va_G} {cl : List vw_C} {ws : va_W} {q : Nat × va_E} {H : Heap} (h : va_P D cl (ws ++ [q]) H) : va_P D cl (q :: ws) H := h.perm (List.perm_append_singleton q ws)
theorem va_D.rot {A : Nat → Prop} {ws : va_W} {q : Nat × va_E} (h : va_D A (ws ++ [q])) : va_D A (q :: ws) := h.perm (List.perm_append_singleton q ws)
theorem va_P.left {D : va_G} {cl : List vw_C} {w1 w2 : va_W} {H : Heap} (h : va_P D cl (w1 ++ w2) H) : va_P D cl w1 H := h.of_mem (fun _ hx => List.mem_append_left _ hx)
theorem va_P.right {D : va_G} {cl : List vw_C} {w1 w2 : va_W} {H : Heap} (h : va_P D cl (w1 ++ w2) H) : va_P D cl w2 H := h.of_mem (fun _ hx => List.mem_append_right _ hx)
theorem GU.A {k : Cx} {s : State} (hG : GU k s) : ∀ q : Nat, s.heap.size ≤ q → Ab k q := fun _ h => Nat.le_trans hG.b h
section MB2
variable {p : Program} {l : Launch} {e : Env} {R : Room} {s : State} {m : MethodId} {args : Array Value} {below : List Frame} {meth : Method} {c : Code} {H : Heap} {locs : List Loc} {cells slots : Nat} {Q : State → Prop}
variable {pc : Nat} {ls : Array Slot} {rest st0 : List Value} {a : Array Value} {mc ms : Nat} {k : Cx} {P : Option Value → va_W → Prop} {H0 : Heap}
theorem c_callM (hr : va_Run p l e R s m args below meth c H locs cells slots mc ms (F0 m pc ls st0) rest (QcM k P a) (Ab k)) (hS : va_S (Ab k) H0 H locs)
    (kk : ∀ (v : Option Value) (w : va_W) (H1 : Heap) (locs1 : List Loc), P v w → va_P (kD k) gCl w H1 → va_D (Ab k) w → va_S (Ab k) H0 H1 locs1 → W p l e R s m args below meth c H1 locs1 (cells + mc) (slots + ms) Q (F0 m (pc + 3) ls (v.toList ++ rest))) : W p l e R s m args below meth c H locs cells slots Q (F0 m pc ls st0) := by
  intro T hT X
  obtain ⟨v, st₀, t, T', L, h0, X', hL, e1, e2, ⟨v', w, hv, hp, hP, hD, hz, hk⟩, st⟩ := hr T hT X
  cases hv
  rw [h0] at hz hk
  obtain ⟨t2, a1, b1⟩ := kk v w t.heap (locs ++ L) hp hP hD ⟨Nat.le_trans hS.1 hz, fun q h1 h2 => (hk q (Nat.lt_of_lt_of_le h1 hS.1) h2).trans (hS.2.1 q h1 h2), fun x hx => by
    rcases List.mem_append.mp hx with h | h
    · exact hS.2.2 x h
    · exact hL x h⟩ T' e1 X'
  exact ⟨t2, st t2 a1, b1⟩
theorem c_callM5 (hr : va_Run5 p l e R s m args below meth c H locs cells slots mc ms (F0 m pc ls st0) rest (QcM k P a) (Ab k)) (hS : va_S (Ab k) H0 H locs)
    (kk : ∀ (v : Option Value) (w : va_W) (H1 : Heap) (locs1 : List Loc), P v w → va_P (kD k) gCl w H1 → va_D (Ab k) w → va_S (Ab k) H0 H1 locs1 → W p l e R s m args below meth c H1 locs1 (cells + mc) (slots + ms) Q (F0 m (pc + 5) ls (v.toList ++ rest))) : W p l e R s m args below meth c H locs cells slots Q (F0 m pc ls st0) := by
  intro T hT X
  obtain ⟨v, st₀, t, T', L, h0, X', hL, e1, e2, ⟨v', w, hv, hp, hP, hD, hz, hk⟩, st⟩ := hr T hT X
  cases hv
  rw [h0] at hz hk
  obtain ⟨t2, a1, b1⟩ := kk v w t.heap (locs ++ L) hp hP hD ⟨Nat.le_trans hS.1 hz, fun q h1 h2 => (hk q (Nat.lt_of_lt_of_le h1 hS.1) h2).trans (hS.2.1 q h1 h2), fun x hx => by
    rcases List.mem_append.mp hx with h | h
    · exact hS.2.2 x h
    · exact hL x h⟩ T' e1 X'
  exact ⟨t2, st t2 a1, b1⟩
theorem c_retM {v : Option Value} {w : va_W} {t : State} (hp : P v w) (hP : va_P (kD k) gCl w H) (hD : va_D (Ab k) w) (hS : va_S (Ab k) s.heap H locs) (ht : t.heap = H) : QcM k P args s (.returned v) t :=
  ⟨v, w, rfl, hp, by rw [ht]; exact hP, hD, hS.F ht⟩
theorem W.cutM {g : JFrame} {cells' slots' : Nat} {G : Heap → List Loc → Array Slot → Prop} {pc' : Nat} {st' : List Value} (k : ∀ H locs ls, G H locs ls → W p l e R s m args below meth c H locs cells' slots' Q (F0 m pc' ls st')) (f : (∀ H locs ls, G H locs ls → W p l e R s m args below meth c H locs cells' slots' Q (F0 m pc' ls st')) → W p l e R s m args below meth c H locs cells slots Q g) : W p l e R s m args below meth c H locs cells slots Q g := f k
end MB2
/-- an ArrayList's iterator: cursor, last, expected count -/
abbrev itO (q : Nat) (cur las md : Int32) (al : Nat) : Nat × va_E := (q, .inr (12, [.int cur, .int las, .int md, .ref al]))
