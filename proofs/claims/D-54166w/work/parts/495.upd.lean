/-! a turn changes, a turn goes -/
theorem clamp_nI {x : Int32} (h : ¬ x < 0) : ∃ i : Nat, i < 2 ^ 31 ∧ x = nI i := by
  have hc := clamp_int h
  have hb : x.toInt < 2 ^ 31 := by have := x.toInt_lt; omega
  refine ⟨x.toNatClampNeg, by omega, ?_⟩
  apply Int32.toInt_inj.mp
  rw [nI_toInt (by omega)]
  exact hc.symm
theorem term_nI {x : Int32} (h : ¬ bi (ib x.toInt64 0 15) = 0) : ∃ j : Nat, j < 16 ∧ x = nI j := by
  have h1 : ib x.toInt64 0 15 = true := by
    cases c : ib x.toInt64 0 15
    · exact absurd ((bi_0 _).mpr c) h
    · rfl
  rw [ib_iff] at h1
  have h1 : (0 : Int) ≤ x.toInt ∧ x.toInt ≤ 15 := h1
  have h0 : ¬ x < 0 := by
    rw [Int32.lt_iff_toInt_lt]
    show ¬ x.toInt < 0
    omega
  obtain ⟨i, hi, rfl⟩ := clamp_nI h0
  rw [nI_toInt hi] at h1
  exact ⟨i, by omega, rfl⟩
theorem tusW_upd {k : Cx} {t : TT} : ∀ {T : List TT} {i : Nat}, T[i]? = some t → ∃ R, (tusW k T).Perm (tuW k t ++ R) ∧ ∀ t2 : TT, (tuW k t2 ++ R).Perm (tusW k (T.set i t2)) := by
  intro T
  induction T with
  | nil => intro i h; simp at h
  | cons u T ih =>
    intro i h
    cases i with
    | zero =>
      have e : u = t := by simpa using h
      subst e
      exact ⟨tusW k T, List.Perm.refl _, fun t2 => List.Perm.refl _⟩
    | succ i =>
      obtain ⟨R, h1, h2⟩ := ih (i := i) (by simpa using h)
      refine ⟨tuW k u ++ R, ?_, fun t2 => ?_⟩
      · show (tuW k u ++ tusW k T).Perm _
        exact (h1.append_left _).trans (psw _ _ _)
      · show (tuW k t2 ++ (tuW k u ++ R)).Perm (tuW k u ++ tusW k (T.set i t2))
        exact (psw _ _ _).trans ((h2 t2).append_left _)
theorem tusW_del {k : Cx} : ∀ {T : List TT} {i : Nat}, (tusW k (T.eraseIdx i)).Sublist (tusW k T) := by
  intro T
  induction T with
  | nil => intro i; exact List.Sublist.refl _
  | cons u T ih =>
    intro i
    cases i with
    | zero => exact List.sublist_append_right _ _
    | succ i =>
      show (tuW k u ++ tusW k (T.eraseIdx i)).Sublist (tuW k u ++ tusW k T)
      exact (ih (i := i)).append_left _
theorem map_del {α β : Type} (f : α → β) : ∀ (T : List α) (i : Nat), (T.eraseIdx i).map f = (T.map f).eraseIdx i := by
  intro T
  induction T with
  | nil => intro i; rfl
  | cons u T ih =>
    intro i
    cases i with
    | zero => rfl
    | succ i => show f u :: (T.eraseIdx i).map f = f u :: (T.map f).eraseIdx i; rw [ih]
theorem map_set' {α β : Type} (f : α → β) (t : α) : ∀ (T : List α) (i : Nat), (T.set i t).map f = (T.map f).set i (f t) := by
  intro T
  induction T with
  | nil => intro i; rfl
  | cons u T ih =>
    intro i
    cases i with
    | zero => rfl
    | succ i => show f u :: (T.set i t).map f = f u :: (T.map f).set i (f t); rw [ih]
theorem tads_set {T : List TT} {i : Nat} {t t2 : TT} (h : T[i]? = some t) (e : aT t2.1 = aT t.1) : tads (T.set i t2) = tads T := by
  show (T.set i t2).map _ = T.map _
  rw [map_set', e]
  apply List.ext_getElem?
  intro j
  rw [List.getElem?_set]
  by_cases c : i = j
  · subst c
    rw [if_pos rfl, List.getElem?_map, h, List.length_map, if_pos (List.getElem?_eq_some_iff.mp h).1]; rfl
  · rw [if_neg c]
theorem lsA_own {k : Cx} {ar cap : Nat} {xs : List Nat} (h : cap ≠ 0) : lsA k ar cap xs = [rA k ar cap xs] := by
  unfold lsA; rw [if_neg h]
theorem lsOk_del {k : Cx} {ar cap i : Nat} {xs : List Nat} (h : lsOk k ar cap xs) : lsOk k ar cap (xs.eraseIdx i) :=
  ⟨Nat.le_trans (List.length_eraseIdx_le _ _) h.1, h.2⟩
theorem ls_cap {k : Cx} {ar cap i y : Nat} {xs : List Nat} (h : lsOk k ar cap xs) (e : xs[i]? = some y) : cap ≠ 0 := by
  have h1 := (List.getElem?_eq_some_iff.mp e).1
  have h2 := h.1
  omega
theorem mem_set' {T : List TT} {i : Nat} {t2 u : TT} (h : u ∈ T.set i t2) : u = t2 ∨ u ∈ T := by
  rcases List.mem_or_eq_of_mem_set h with h | h
  · exact Or.inr h
  · exact Or.inl h
