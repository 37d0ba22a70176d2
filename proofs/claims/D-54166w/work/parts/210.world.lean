/-! the system's world: lists of references, turns, a lecture -/
theorem va_P.of_mem {D : va_G} {cl : List vw_C} {ws ws' : va_W} {H : Heap} (h : va_P D cl ws H) (hs : ∀ q ∈ ws', q ∈ ws) : va_P D cl ws' H := by
  intro k q hk
  obtain ⟨i, hi⟩ := List.getElem?_of_mem (hs q (List.mem_of_getElem? hk))
  exact h i q hi
theorem va_P.one {D : va_G} {cl : List vw_C} {ws : va_W} {H : Heap} {q : Nat × va_E} (h : va_P D cl ws H) (hq : q ∈ ws) : va_P D cl [q] H := h.of_mem (fun x hx => by rw [List.mem_singleton.mp hx]; exact hq)
theorem va_P.cons {D : va_G} {cl : List vw_C} {ws : va_W} {H : Heap} {q : Nat × va_E} (h1 : va_P D cl [q] H) (h : va_P D cl ws H) : va_P D cl (q :: ws) H := by
  intro k x hk
  cases k with
  | zero => exact h1 0 x hk
  | succ k => exact h k x hk
theorem va_P.both {D : va_G} {cl : List vw_C} {w1 w2 : va_W} {H : Heap} (h1 : va_P D cl w1 H) (h2 : va_P D cl w2 H) : va_P D cl (w1 ++ w2) H := by
  intro k x hk
  rcases List.mem_append.mp (List.mem_of_getElem? hk) with h | h
  · obtain ⟨i, hi⟩ := List.getElem?_of_mem h; exact h1 i x hi
  · obtain ⟨i, hi⟩ := List.getElem?_of_mem h; exact h2 i x hi
/-- the heap has grown -/
theorem va_P.grow {D : va_G} {cl : List vw_C} {ws : va_W} {H H1 : Heap} (h : va_P D cl ws H) (hq : ∀ q : Nat, q < H.size → H1[q]? = H[q]?) : va_P D cl ws H1 :=
  h.kept (fun k q hk => hq q.1 (va_at.lt (h k q hk)))
theorem va_P.perm {D : va_G} {cl : List vw_C} {ws ws' : va_W} {H : Heap} (h : va_P D cl ws H) (hp : ws.Perm ws') : va_P D cl ws' H := h.of_mem (fun _ hx => hp.mem_iff.mpr hx)
theorem va_D.of_nodup {A : Nat → Prop} {ws : va_W} (h1 : (ws.map (fun q => q.1)).Nodup) (h2 : ∀ q ∈ ws, A q.1) : va_D A ws := by
  refine ⟨fun i j p q hi hj e => ?_, fun k q hk => h2 q (List.mem_of_getElem? hk)⟩
  have a1 : (ws.map (fun q => q.1))[i]? = some p.1 := by rw [List.getElem?_map, hi]; rfl
  have a2 : (ws.map (fun q => q.1))[j]? = some p.1 := by rw [List.getElem?_map, hj, e]; rfl
  exact (List.getElem?_inj (List.getElem?_eq_some_iff.mp a1).1 h1).mp (a1.trans a2.symm)
theorem va_D.nodup {A : Nat → Prop} {ws : va_W} (h : va_D A ws) : (ws.map (fun q => q.1)).Nodup := by
  show List.Pairwise _ _
  rw [List.pairwise_iff_getElem]
  intro i j hi hj hij e
  rw [List.length_map] at hi hj
  rw [List.getElem_map, List.getElem_map] at e
  exact absurd (h.1 i j _ _ (List.getElem?_eq_getElem hi) (List.getElem?_eq_getElem hj) e) (by omega)
theorem va_D.all {A : Nat → Prop} {ws : va_W} (h : va_D A ws) : ∀ q ∈ ws, A q.1 := fun q hq => by
  obtain ⟨i, hi⟩ := List.getElem?_of_mem hq
  exact h.2 i q hi
theorem va_D.perm {A : Nat → Prop} {ws ws' : va_W} (h : va_D A ws) (hp : ws.Perm ws') : va_D A ws' :=
  va_D.of_nodup ((hp.map _).nodup_iff.mp h.nodup) (fun q hq => h.all q (hp.mem_iff.mpr hq))
theorem va_D.subl {A : Nat → Prop} {ws ws' : va_W} (h : va_D A ws) (hp : ws'.Sublist ws) : va_D A ws' :=
  va_D.of_nodup ((hp.map _).nodup h.nodup) (fun q hq => h.all q (hp.subset hq))
/-- what is apart depends on the addresses alone -/
theorem va_D.addr {A : Nat → Prop} {ws ws' : va_W} (h : va_D A ws) (e : ws'.map (fun q => q.1) = ws.map (fun q => q.1)) : va_D A ws' := by
  refine va_D.of_nodup (by rw [e]; exact h.nodup) (fun q hq => ?_)
  have : q.1 ∈ ws.map (fun q => q.1) := by rw [← e]; exact List.mem_map.mpr ⟨q, hq, rfl⟩
  obtain ⟨x, hx, ex⟩ := List.mem_map.mp this
  rw [← ex]; exact h.all x hx
/-- a turn: begin, end, pitch, speaker, terms; its places: the turn, its list, the list's array, that array's room, the list's modCount -/
abbrev TV : Type := Int32 × Int32 × Int32 × Int32 × List Int32
abbrev TA : Type := Nat × Nat × Nat × Nat × Int32
abbrev TT : Type := TA × TV
abbrev vB (v : TV) : Int32 := v.1
abbrev vE (v : TV) : Int32 := v.2.1
abbrev vP (v : TV) : Int32 := v.2.2.1
abbrev vS (v : TV) : Int32 := v.2.2.2.1
abbrev vT (v : TV) : List Int32 := v.2.2.2.2
abbrev aT (a : TA) : Nat := a.1
abbrev aL (a : TA) : Nat := a.2.1
abbrev aE (a : TA) : Nat := a.2.2.1
abbrev aC (a : TA) : Nat := a.2.2.2.1
abbrev aM (a : TA) : Int32 := a.2.2.2.2
/-- an array's cell of references -/
abbrev rA (k : Cx) (ar cap : Nat) (xs : List Nat) : Nat × va_E := (ar, .inl (kO k, cap, .inr (.inr (.inr (.inr (fun i => xs[i]?))))))
/-- an ArrayList of the references xs: itself, and its array if it has one of its own -/
def lsA (k : Cx) (ar cap : Nat) (xs : List Nat) : va_W := if cap = 0 then [] else [rA k ar cap xs]
abbrev lsO (al ar : Nat) (md : Int32) (xs : List Nat) : Nat × va_E := (al, .inr (9, [.int md, .ref ar, .int (nI xs.length)]))
abbrev lsW (k : Cx) (al ar cap : Nat) (md : Int32) (xs : List Nat) : va_W := lsO al ar md xs :: lsA k ar cap xs
/-- what an ArrayList's room must be: all fit; none: the shared empty array -/
def lsOk (k : Cx) (ar cap : Nat) (xs : List Nat) : Prop := xs.length ≤ cap ∧ cap ≤ 1000 ∧ (cap = 0 → ar = ke k) ∧ (cap ≠ 0 → ar ≠ ke k)
/-- where the cached Integer of v stands -/
abbrev bxA (k : Cx) (v : Int32) : Nat := kI k (v.toNatClampNeg + 128)
abbrev bxs (k : Cx) (vs : List Int32) : List Nat := vs.map (bxA k)
abbrev tuO (t : TT) : Nat × va_E := (aT t.1, .inr (4, [.int (vB t.2), .int (vE t.2), .int (vP t.2), .int (vS t.2), .ref (aL t.1)]))
abbrev tuW (k : Cx) (t : TT) : va_W := tuO t :: lsW k (aL t.1) (aE t.1) (aC t.1) (aM t.1) (bxs k (vT t.2))
def tuOk (k : Cx) (t : TT) : Prop := lsOk k (aE t.1) (aC t.1) (bxs k (vT t.2)) ∧ ∀ v ∈ vT t.2, ∃ n : Nat, n < 16 ∧ v = nI n
def tusW (k : Cx) (T : List TT) : va_W := T.flatMap (tuW k)
/-- a lecture's places: itself, the store, the list, its array, that array's room, the pitches, the corrections; the list's modCount -/
abbrev LA : Type := Nat × Nat × Nat × Nat × Nat × Nat × Nat × Int32
abbrev lL (a : LA) : Nat := a.1
abbrev lS (a : LA) : Nat := a.2.1
abbrev lR (a : LA) : Nat := a.2.2.1
abbrev lE (a : LA) : Nat := a.2.2.2.1
abbrev lC (a : LA) : Nat := a.2.2.2.2.1
abbrev lP (a : LA) : Nat := a.2.2.2.2.2.1
abbrev lK (a : LA) : Nat := a.2.2.2.2.2.2.1
abbrev lM (a : LA) : Int32 := a.2.2.2.2.2.2.2
abbrev leO (a : LA) (tol : Int32) : Nat × va_E := (lL a, .inr (1, [.ref (lS a), .ref (lP a), .ref (lK a), .int tol]))
abbrev stO (a : LA) : Nat × va_E := (lS a, .inr (2, [.ref (lR a)]))
abbrev tads (T : List TT) : List Nat := T.map (fun t => aT t.1)
abbrev leH (k : Cx) (a : LA) (T : List TT) (pit cor : Nat → Int32) (tol : Int32) : va_W := leO a tol :: stO a :: (lP a, .inl (kA k, 6, .inl pit)) :: (lK a, .inl (kA k, 16, .inl cor)) :: lsW k (lR a) (lE a) (lC a) (lM a) (tads T)
/-- a lecture: the turns T, the pitches, the corrections, the tolerance -/
def leW (k : Cx) (a : LA) (T : List TT) (pit cor : Nat → Int32) (tol : Int32) : va_W := leH k a T pit cor tol ++ tusW k T
def leOk (k : Cx) (a : LA) (T : List TT) : Prop := lsOk k (lE a) (lC a) (tads T) ∧ ∀ t ∈ T, tuOk k t
section RD
variable {D : va_G} {k : Cx} {a : LA} {T : List TT} {pit cor : Nat → Int32} {tol : Int32} {H : Heap} {t : TT} {i : Nat}
theorem le_o (h : va_P D gCl (leW k a T pit cor tol) H) : va_P D gCl [leO a tol] H := h.one (by simp [leW])
theorem le_s (h : va_P D gCl (leW k a T pit cor tol) H) : va_P D gCl [stO a] H := h.one (by simp [leW])
theorem le_p (h : va_P D gCl (leW k a T pit cor tol) H) : va_P D gCl [(lP a, .inl (kA k, 6, .inl pit))] H := h.one (by simp [leW])
theorem le_c (h : va_P D gCl (leW k a T pit cor tol) H) : va_P D gCl [(lK a, .inl (kA k, 16, .inl cor))] H := h.one (by simp [leW])
theorem le_r (h : va_P D gCl (leW k a T pit cor tol) H) : va_P D gCl (lsW k (lR a) (lE a) (lC a) (lM a) (tads T)) H := h.of_mem (fun q hq => by
  unfold leW
  exact List.mem_append_left _ (List.mem_cons_of_mem _ (List.mem_cons_of_mem _ (List.mem_cons_of_mem _ (List.mem_cons_of_mem _ hq)))))
theorem le_tw (h : va_P D gCl (leW k a T pit cor tol) H) (e : T[i]? = some t) : va_P D gCl (tuW k t) H := h.of_mem (fun q hq => by
  unfold leW
  exact List.mem_append_right _ (List.mem_flatMap.mpr ⟨t, List.mem_of_getElem? e, hq⟩))
theorem tu_o (h : va_P D gCl (tuW k t) H) : va_P D gCl [tuO t] H := h.one List.mem_cons_self
theorem tu_l (h : va_P D gCl (tuW k t) H) : va_P D gCl (lsW k (aL t.1) (aE t.1) (aC t.1) (aM t.1) (bxs k (vT t.2))) H := h.of_mem (fun q hq => List.mem_cons_of_mem _ hq)
theorem le_t (h : va_P D gCl (leW k a T pit cor tol) H) (e : T[i]? = some t) : va_P D gCl [tuO t] H := tu_o (le_tw h e)
end RD
/-- a place in a list by an int, and its value -/
theorem vs_at {T : List TT} {j : Nat} {v : TV} (h : (T.map Prod.snd)[j]? = some v) : ∃ a : TA, T[j]? = some (a, v) := by
  rw [List.getElem?_map] at h
  cases e : T[j]? with
  | none => rw [e] at h; cases h
  | some t => rw [e] at h; cases h; exact ⟨t.1, rfl⟩
