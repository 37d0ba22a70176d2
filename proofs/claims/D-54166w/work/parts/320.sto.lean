/-! what may be stored in a list: an object of ours that lies aside, or a cached Integer -/
def Sto (k : Cx) (fr : va_W) (y : Nat) : Prop := (∃ (ci : Nat) (fs : List Value) (r : vw_C), (y, .inr (ci, fs)) ∈ fr ∧ gCl[ci]? = some r ∧ (r.1, "java/lang/Object") ∈ gNC) ∨ ∃ n : Nat, n < 16 ∧ y = bxA k (nI n)
theorem Sto.mono {k : Cx} {fr fr' : va_W} {y : Nat} (h : Sto k fr y) (hs : ∀ q ∈ fr, q ∈ fr') : Sto k fr' y := by
  rcases h with ⟨ci, fs, r, h1, h2, h3⟩ | h
  · exact Or.inl ⟨ci, fs, r, hs _ h1, h2, h3⟩
  · exact Or.inr h
theorem sto_any {k : Cx} {fr w : va_W} {y : Nat} {s : State} {H : Heap} {locs : List Loc} (h : Sto k fr y) (hG : GU k s) (hS : va_S (Ab k) s.heap H locs) (hP : va_P (kD k) gCl w H) (hs : ∀ q ∈ fr, q ∈ w) : va_Any "java/lang/Object" s H y := by
  rcases h with ⟨ci, fs, r, h1, h2, h3⟩ | ⟨n, hn, rfl⟩
  · exact va_rAny (q0 := 0) hG.K (hP.one (hs _ h1)) rfl h2 (vb_asgC (hG.nc _ h3))
  · obtain ⟨cell, a1, a2, a3⟩ := bx_recv (v := nI n) hG hS ⟨n, hn, rfl⟩
    obtain ⟨b1, kC, b2, -⟩ := (hG.K.1 13 _ rfl).2
    refine ⟨cell, a1, a2, ⟨kC, ?_⟩, fun comp hc => vb_asgC (nc_java_lang_Integer__java_lang_Object hG) comp cell.cls hc a3⟩
    have : cell.cls = (kD k).1 13 := Option.some.inj (a3.symm.trans b1)
    rw [this]; exact b2
/-- the class of a new array is the known one -/
theorem kA_eq {k : Cx} {s : State} {cA : ClassId} {D : va_G} {cl : List vw_C} (hG : GU k s) (hK1 : va_K D cl (kT k ++ [(cA, .int)]) s) : cA = kA k :=
  Option.some.inj ((hK1.2 3 _ rfl).2.symm.trans (hG.K.2 0 _ rfl).2)
theorem kO_eq {k : Cx} {s : State} {cA : ClassId} {D : va_G} {cl : List vw_C} (hG : GU k s) (hK1 : va_K D cl (kT k ++ [(cA, .object "java/lang/Object")]) s) : cA = kO k := by
  obtain ⟨-, -, -, -, -, h1⟩ := (hK1.2 3 _ rfl).2
  obtain ⟨-, -, -, -, -, h2⟩ := (hG.K.2 1 _ rfl).2
  exact Option.some.inj (h1.symm.trans h2)
theorem kO_recv {k : Cx} {s : State} {ws : va_W} {H : Heap} {q0 ar : Nat} {x : vp_A} (hG : GU k s) (hP : va_P (kD k) gCl ws H) (he : ws[q0]? = some (ar, .inl (kO k, x))) (hx : (vp_cell (kO k) x).vm.isStatics = false := by rfl) (hc : (vp_cell (kO k) x).cls = kO k := by rfl) : ∃ cell : Cell, H[ar]? = some cell ∧ cell.vm.isStatics = false ∧ s.vm.findClass "[Ljava/lang/Object;" = some cell.cls := by
  have h := hP q0 _ he
  obtain ⟨-, -, -, -, -, h2⟩ := (hG.K.2 1 _ rfl).2
  exact ⟨_, h, hx, by rw [hc]; exact h2⟩
theorem ke_old {k : Cx} {s : State} (hG : GU k s) {q : Nat} (hq : Ab k q) : q ≠ ke k := by
  obtain ⟨cell, -, -, -, -, -, -, h⟩ := hG.eT
  intro e
  exact h (e ▸ hq)
theorem cpy_all {xs : List Nat} {n : Nat} (h : xs.length ≤ n) : va_cpy (fun i => xs[i]?) (fun _ => none) 0 0 n = fun i => xs[i]? := by
  funext j
  unfold va_cpy
  by_cases c : 0 ≤ j ∧ j < 0 + n
  · rw [if_pos c]; simp
  · rw [if_neg c]; exact (List.getElem?_eq_none (by omega)).symm
theorem up_app {xs : List Nat} {x : Nat} : va_up (fun i => xs[i]?) xs.length (some x) = fun i => (xs ++ [x])[i]? := by
  funext j
  unfold va_up
  by_cases c : j = xs.length
  · subst c; rw [if_pos rfl]; simp
  · rw [if_neg c]
    by_cases d : j < xs.length
    · exact (List.getElem?_append_left d).symm
    · exact (List.getElem?_eq_none (by omega)).trans (List.getElem?_eq_none (by rw [List.length_append]; simp; omega)).symm
theorem up_ins {xs : List Nat} {x i : Nat} (hi : i ≤ xs.length) : va_up (va_cpy (fun j => xs[j]?) (fun j => xs[j]?) i (i + 1) (xs.length - i)) i (some x) = fun j => (xs.insertIdx i x)[j]? := by
  funext j
  unfold va_up va_cpy
  rw [List.getElem?_insertIdx]
  by_cases c : j = i
  · subst c; simp [hi]
  · rw [if_neg c]
    by_cases d : j < i
    · rw [if_pos d, if_neg (by omega)]
    · rw [if_neg d, if_neg c]
      by_cases g : j < xs.length + 1
      · rw [if_pos (by omega), show i + (j - (i + 1)) = j - 1 by omega]
      · rw [if_neg (by omega)]; exact (List.getElem?_eq_none (by omega)).trans (List.getElem?_eq_none (by omega)).symm
theorem up_del {xs : List Nat} {i : Nat} (hi : i < xs.length) : va_up (va_cpy (fun j => xs[j]?) (fun j => xs[j]?) (i + 1) i (xs.length - 1 - i)) (xs.length - 1) none = fun j => (xs.eraseIdx i)[j]? := by
  funext j
  unfold va_up va_cpy
  rw [List.getElem?_eraseIdx]
  by_cases c : j = xs.length - 1
  · rw [if_pos c]
    by_cases d : j < i
    · omega
    · rw [if_neg d]; exact (List.getElem?_eq_none (by omega)).symm
  · rw [if_neg c]
    by_cases d : j < i
    · rw [if_pos d, if_neg (by omega)]
    · rw [if_neg d]
      by_cases g : j < xs.length - 1
      · rw [if_pos (by omega), show i + 1 + (j - i) = j + 1 by omega]
      · rw [if_neg (by omega)]; exact (List.getElem?_eq_none (by omega)).trans (List.getElem?_eq_none (by omega)).symm
