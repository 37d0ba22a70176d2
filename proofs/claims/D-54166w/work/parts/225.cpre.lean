/-! a reader's start, and what it reads -/
abbrev gPc (av : List Value) (k : Cx) (w : va_W) : Array Value → State → Prop := va_Pc av (fun U => va_P (kD k) gCl w U.heap ∧ GU k U)
/-- the system's own object: the lecture, the history, the text -/
abbrev syO (sy : Nat) (a : LA) (hi tx : Nat) : Nat × va_E := (sy, .inr (0, [.ref (lL a), .ref hi, .ref tx]))
section CP
variable {s : State} {H : Heap} {locs : List Loc} {As av : List Value} {k : Cx} {w : va_W} {C : String} {b : Nat}
theorem g_blind : FrameBlind (gPc av k w) := fun _ _ _ _ q => ⟨q.1, q.2.1, q.2.2.blind⟩
theorem g_preV (hG : GU k s) (hS : va_S (Ab k) s.heap H locs) (hP : va_P (kD k) gCl w H) (hr : ∃ cell : Cell, H[b]? = some cell ∧ cell.vm.isStatics = false ∧ s.vm.findClass C = some cell.cls) : PreV s H C b (gPc (.ref b :: As) k w) As :=
  ⟨g_blind, hr, fun _ hU hW => ⟨rfl, by rw [hU]; exact hP, hG.call hS hU hW⟩⟩
theorem g_preS (hG : GU k s) (hS : va_S (Ab k) s.heap H locs) (hP : va_P (kD k) gCl w H) : PreS s H (gPc As k w) As :=
  ⟨g_blind, fun _ hU hW => ⟨rfl, by rw [hU]; exact hP, hG.call hS hU hW⟩⟩
theorem va_P.nil {D : va_G} {cl : List vw_C} {H : Heap} : va_P D cl [] H := fun k q h => by simp at h
end CP
section CP2
variable {D : va_G} {k : Cx} {sy hi tx : Nat} {a : LA} {T : List TT} {pit cor : Nat → Int32} {tol : Int32} {H : Heap} {s : State} {locs : List Loc}
theorem sy_o (h : va_P D gCl (syO sy a hi tx :: leW k a T pit cor tol) H) : va_P D gCl [syO sy a hi tx] H := h.one List.mem_cons_self
theorem sy_l (h : va_P D gCl (syO sy a hi tx :: leW k a T pit cor tol) H) : va_P D gCl (leW k a T pit cor tol) H := h.of_mem (fun _ hq => List.mem_cons_of_mem _ hq)
theorem le_st (h : va_P D gCl (leW k a T pit cor tol) H) : va_P D gCl (stO a :: lsW k (lR a) (lE a) (lC a) (lM a) (tads T)) H := va_P.cons (le_s h) (le_r h)
theorem tads_at {i : Nat} {t : TA} {v : TV} (e : T[i]? = some (t, v)) : (tads T)[i]? = some (aT t) := by rw [List.getElem?_map, e]; rfl
theorem tads_eq {i j : Nat} {t u : TA} {v w : TV} (hN : (tads T).Nodup) (e1 : T[i]? = some (t, v)) (e2 : T[j]? = some (u, w)) : (some (aT t) = some (aT u)) ↔ i = j := by
  constructor
  · intro h
    have h1 := tads_at e1
    have h2 := tads_at e2
    rw [h, ← h2] at h1
    exact (List.getElem?_inj (List.getElem?_eq_some_iff.mp (tads_at e1)).1 hN).mp h1
  · intro h
    subst h
    rw [e1] at e2
    cases e2; rfl
theorem tls_ok {i : Nat} {t : TT} (hO : leOk k a T) (e : T[i]? = some t) : lsOk k (aE t.1) (aC t.1) (bxs k (vT t.2)) := (hO.2 t (List.mem_of_getElem? e)).1
theorem tbx {i : Nat} {t : TT} {x v : Int32} (hO : leOk k a T) (e : T[i]? = some t) (h : pAt (vT t.2) x = some v) : ∃ n : Nat, n < 16 ∧ v = nI n := (hO.2 t (List.mem_of_getElem? e)).2 v (List.mem_of_getElem? (pAt_some h).2)
theorem bx_recv {v : Int32} (hG : GU k s) (hS : va_S (Ab k) s.heap H locs) (h : ∃ n : Nat, n < 16 ∧ v = nI n) : ∃ cell : Cell, H[bxA k v]? = some cell ∧ cell.vm.isStatics = false ∧ s.vm.findClass "java/lang/Integer" = some cell.cls := by
  obtain ⟨n, hn, rfl⟩ := h
  have e : (nI n).toNatClampNeg = n := nI_clamp (by omega)
  obtain ⟨cell, h1, h2, h3, h4⟩ := hG.I.1 (n + 128) (by omega)
  refine ⟨cell, ?_, h2, h3⟩
  show H[kI k ((nI n).toNatClampNeg + 128)]? = some cell
  rw [e, hS.2.1 _ (Array.getElem?_eq_some_iff.mp h1).1 h4]
  exact h1
end CP2
