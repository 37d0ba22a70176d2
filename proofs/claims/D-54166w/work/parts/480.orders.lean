/-! what an order makes of a lecture -/
abbrev LV : Type := List TV × (Nat → Int32) × (Nat → Int32) × Int32
abbrev OR : Type := Except Int32 (Int32 × LV)
/-- an order's end: its answer, the lecture then -/
def oP (k : Cx) (q : Nat) (fr : va_W) (out : OR) : Option Value → va_W → Prop := fun v w => ∃ (r : Int32) (L : LV) (a2 : LA) (T2 : List TT), out = .ok (r, L) ∧ v = some (.int r) ∧ lL a2 = q ∧ T2.map Prod.snd = L.1 ∧ leOk k a2 T2 ∧ w = leW k a2 T2 L.2.1 L.2.2.1 L.2.2.2 ++ fr
/-- .. or it's refused -/
def oX (k : Cx) (fr : va_W) (out : OR) : String → Nat → va_W → Prop := fun E q w => ∃ (cd : Int32) (ca u sen : Value) (gar : va_W), out = .error cd ∧ E = RX5 ∧ w = rfO k q ca u sen cd :: (gar ++ fr)
theorem leW_fold {k : Cx} {a : LA} {T2 : List TT} {pit cor : Nat → Int32} {tol : Int32} {X fr : va_W} (hX : X.Perm (tusW k T2)) : (leO a tol :: (stO a :: ((lP a, .inl (kA k, 6, .inl pit)) :: ((lK a, .inl (kA k, 16, .inl cor)) :: (lsO (lR a) (lE a) (lM a) (tads T2) :: (lsA k (lE a) (lC a) (tads T2) ++ (X ++ fr))))))).Perm (leW k a T2 pit cor tol ++ fr) := by
  rw [leW_flat]
  exact ((((((hX.append_right fr).append_left _).cons _).cons _).cons _).cons _).cons _
theorem lay_le (vs : List TV) (b : Int32) : ∀ n : Nat, layP vs b n ≤ n := by
  intro n
  induction n with
  | zero => exact Nat.le_refl 0
  | succ n ih =>
    unfold layP
    split
    · split
      · exact Nat.le_refl _
      · exact Nat.le_succ_of_le ih
    · exact Nat.le_refl _
theorem map_ins {α β : Type} (f : α → β) (t : α) : ∀ (T : List α) (p : Nat), (T.insertIdx p t).map f = (T.map f).insertIdx p (f t) := by
  intro T
  induction T with
  | nil => intro p; cases p <;> rfl
  | cons u T ih =>
    intro p
    cases p with
    | zero => rfl
    | succ p => rw [List.insertIdx_succ_cons, List.map_cons, List.map_cons, List.insertIdx_succ_cons, ih]
theorem tads_ins (T : List TT) (p : Nat) (t : TT) : (tads T).insertIdx p (aT t.1) = tads (T.insertIdx p t) := by
  exact (map_ins (fun t : TT => aT t.1) t T p).symm
theorem snd_ins (T : List TT) (p : Nat) (t : TT) : (T.insertIdx p t).map Prod.snd = (T.map Prod.snd).insertIdx p t.2 := by
  exact map_ins Prod.snd t T p
theorem tusW_ins {k : Cx} {T : List TT} {t : TT} : ∀ {p : Nat}, p ≤ T.length → (tuW k t ++ tusW k T).Perm (tusW k (T.insertIdx p t)) := by
  induction T with
  | nil =>
    intro p hp
    have : p = 0 := by simpa using hp
    subst this
    exact List.Perm.refl _
  | cons u T ih =>
    intro p hp
    cases p with
    | zero => exact List.Perm.refl _
    | succ p =>
      rw [List.insertIdx_succ_cons]
      show (tuW k t ++ (tuW k u ++ tusW k T)).Perm (tuW k u ++ tusW k (T.insertIdx p t))
      exact (psw _ _ _).trans ((ih (by simpa using hp)).append_left _)
theorem mem_ins {T : List TT} {t u : TT} {p : Nat} (hp : p ≤ T.length) (h : u ∈ T.insertIdx p t) : u = t ∨ u ∈ T := by
  rcases (List.mem_insertIdx hp).mp h with h | h
  · exact Or.inl h
  · exact Or.inr h
/-- turn.end's .. of nearestTo, in full -/
def near (pit : Nat → Int32) (tol p : Int32) : Option Int32 := m_X1_nearestTo 7 pit tol p
def o_tol (L : LV) (x : Int32) : Option OR := if bi (ib x.toInt64 0 200) = 0 then some (.error (-1000001)) else some (.ok (L.2.2.2, (L.1, L.2.1, L.2.2.1, x)))
def o_comes (L : LV) (b e1 p : Int32) : Option OR :=
  if bi (ib b.toInt64 0 1998) = 0 then some (.error (-1000001)) else
  if bi (ib e1.toInt64 (b.toInt64 + 1) 1999) = 0 then some (.error (-1000001)) else
  if bi (ib p.toInt64 50 500) = 0 then some (.error (-1000001)) else
  if (20 : Int32) ≤ nI L.1.length then some (.error (-1000003)) else
  (near L.2.1 L.2.2.2 p).bind fun s => some (.ok (nI (layP L.1 b L.1.length), (L.1.insertIdx (layP L.1 b L.1.length) (b, e1, p, s, []), L.2)))
def o_says (L : LV) (x y : Int32) : Option OR :=
  if bi (ib y.toInt64 0 15) = 0 then some (.error (-1000001)) else
  match pAt L.1 x with
  | none => some (.error (-1000001))
  | some v => if (8 : Int32) ≤ nI (vT v).length then some (.error (-1000003)) else
    some (.ok (nI ((vT v).length + 1), (L.1.set x.toNatClampNeg (vB v, vE v, vP v, vS v, vT v ++ [y]), L.2)))
def o_removes (L : LV) (x : Int32) : Option OR :=
  match pAt L.1 x with
  | none => some (.error (-1000001))
  | some _ => some (.ok (nI (L.1.length - 1), (L.1.eraseIdx x.toNatClampNeg, L.2)))
