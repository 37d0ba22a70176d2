/-! the list of the made classes, pure functions in Option, cuts of a walk -/
abbrev gCl : List vw_C := [(RX0, TX0, 3), (RX1, TX1, 4), (RX2, TX2, 1), (RX3, TX3, 16), (RX4, TX4, 5), (RX5, TX5, 7), (RX6, TX6, 6), (RX7, TX7, 5), (RX8, TX8, 8), (RJ2, TJ2, 3), (RJ3, TJ3, 3), (RJ5, TJ5, 4), (RJ10, TJ10, 4), (RJ17, TJ17, 1)]
/-- a guard -/
abbrev pg {α : Type} (c : Prop) [Decidable c] (k : Option α) : Option α := if c then k else none
/-- one after another -/
abbrev pb {α β : Type} (o : Option α) (k : α → Option β) : Option β := o.bind k
theorem pg_some {α : Type} {c : Prop} [Decidable c] {k : Option α} {r : α} (h : pg c k = some r) : c ∧ k = some r := by
  by_cases hc : c
  · exact ⟨hc, by rwa [pg, if_pos hc] at h⟩
  · rw [pg, if_neg hc] at h; cases h
theorem pb_some {α β : Type} {o : Option α} {k : α → Option β} {r : β} (h : pb o k = some r) : ∃ x, o = some x ∧ k x = some r := by
  cases o with
  | none => cases h
  | some x => exact ⟨x, rfl, h⟩
theorem pi_t {α : Type} {c : Prop} [Decidable c] {a b r : α} (hc : c) (h : (if c then a else b) = r) : a = r := by rwa [if_pos hc] at h
theorem pi_f {α : Type} {c : Prop} [Decidable c] {a b r : α} (hc : ¬ c) (h : (if c then a else b) = r) : b = r := by rwa [if_neg hc] at h
/-- a truth value as an int -/
def bi (b : Bool) : Int32 := if b then 1 else 0
theorem bi_nar (b : Bool) : narrow .boolean (.int (bi b)) = .int (bi b) := by cases b <;> rfl
theorem bi_0 (b : Bool) : bi b = 0 ↔ b = false := by cases b <;> decide
section CUT
variable {p : Program} {l : Launch} {e : Env} {R : Room} {s : State} {m : MethodId} {args : Array Value} {below : List Frame} {meth : Method} {c : Code} {H : Heap} {locs : List Loc} {cells slots : Nat} {Q : State → Prop}
theorem W.cut {g g' : JFrame} (k : W p l e R s m args below meth c H locs cells slots Q g') (f : W p l e R s m args below meth c H locs cells slots Q g' → W p l e R s m args below meth c H locs cells slots Q g) : W p l e R s m args below meth c H locs cells slots Q g := f k
theorem W.cutL {g : JFrame} {G : Array Slot → Prop} {pc' : Nat} {st' : List Value} (k : ∀ ls, G ls → W p l e R s m args below meth c H locs cells slots Q (F0 m pc' ls st')) (f : (∀ ls, G ls → W p l e R s m args below meth c H locs cells slots Q (F0 m pc' ls st')) → W p l e R s m args below meth c H locs cells slots Q g) : W p l e R s m args below meth c H locs cells slots Q g := f k
theorem W.cutG {g : JFrame} {G : Heap → List Loc → Array Slot → Prop} {pc' : Nat} {st' : List Value} (k : ∀ H locs ls, G H locs ls → W p l e R s m args below meth c H locs cells slots Q (F0 m pc' ls st')) (f : (∀ H locs ls, G H locs ls → W p l e R s m args below meth c H locs cells slots Q (F0 m pc' ls st')) → W p l e R s m args below meth c H locs cells slots Q g) : W p l e R s m args below meth c H locs cells slots Q g := f k
variable {pc : Nat} {ls : Array Slot} {rest st0 : List Value} {a : Array Value} {A : Nat → Prop} {H0 : Heap} {D : va_G} {cl : List vw_C} {ws w' : va_W} {tys : List (ClassId × FieldType)} {cc : ByteArray} {ad : Nat}
theorem m_callR {r : Int32} (hr : CallRun p l e R s m args below meth c H locs cells slots 0 0 (F0 m pc ls st0) rest (QcRead r a) (fun _ => False)) (kk : W p l e R s m args below meth c H locs cells slots Q (F0 m (pc + 3) ls (.int r :: rest))) : W p l e R s m args below meth c H locs cells slots Q (F0 m pc ls st0) := W.callR hr kk
theorem m_calli {r : Int32} (hr : va_Run p l e R s m args below meth c H locs cells slots 0 0 (F0 m pc ls st0) rest (va_Qi (fun r2 (_ : Unit) => r2 = r) (fun _ t => va_P D cl w' t.heap) A a) A) (hS : va_S A H0 H locs) (kk : ∀ H1 locs1, va_P D cl w' H1 → va_S A H0 H1 locs1 → W p l e R s m args below meth c H1 locs1 cells slots Q (F0 m (pc + 3) ls (.int r :: rest))) : W p l e R s m args below meth c H locs cells slots Q (F0 m pc ls st0) :=
  va_calli hr hS (fun _ _ h => h) (fun _ h => h) (fun _ _ _ _ _ ht _ hp hB _ _ hS1 => by subst hp; rw [ht] at hB; exact kk _ _ hB hS1)
theorem m_callv (hr : va_Run p l e R s m args below meth c H locs cells slots 0 0 (F0 m pc ls st0) rest (va_Qv (fun _ => True) (fun (_ : Unit) t => va_P D cl w' t.heap) A a) A) (hS : va_S A H0 H locs) (kk : ∀ H1 locs1, va_P D cl w' H1 → va_S A H0 H1 locs1 → W p l e R s m args below meth c H1 locs1 cells slots Q (F0 m (pc + 3) ls rest)) : W p l e R s m args below meth c H locs cells slots Q (F0 m pc ls st0) :=
  va_callv hr hS (fun _ _ h => h) (fun _ h => h) (fun _ _ _ _ ht _ _ hB _ _ hS1 => by rw [ht] at hB; exact kk _ _ hB hS1)
/-- an array's place by a written number -/
theorem m_iald {k : Nat} (hexec : p.tables.exec = Jvm.exec) (hb : c.code = cc) (hK : va_K D cl tys s) (hP : va_P D cl ws H) (q0 t0 : Nat) {cA : ClassId} {n : Nat} {f : Nat → Int32} (ha : ws[q0]? = some (ad, .inl (cA, n, .inl f))) (ht : tys[t0]? = some (cA, .int)) {i : Int32} (hin : ¬ (i < 0 ∨ n ≤ i.toNatClampNeg)) (hk : i.toNatClampNeg = k) (hdg : decode cc pc = .ok (.iaload, 1))
    (kk : W p l e R s m args below meth c H locs cells slots Q (F0 m (pc + 1) ls (.int (f k) :: rest))) : W p l e R s m args below meth c H locs cells slots Q (F0 m pc ls (.int i :: .ref ad :: rest)) := by
  subst hk
  exact va_iald hexec hb hK hP q0 t0 ha ht hin hdg kk
theorem m_iast {k : Nat} (hexec : p.tables.exec = Jvm.exec) (hb : c.code = cc) (hK : va_K D cl tys s) (hP : va_P D cl ws H) (hD : va_D A ws) (hS : va_S A H0 H locs) (q0 t0 : Nat) {cA : ClassId} {n : Nat} {f : Nat → Int32} (ha : ws[q0]? = some (ad, .inl (cA, n, .inl f))) (ht : tys[t0]? = some (cA, .int)) {i : Int32} {x : Int32} (hin : ¬ (i < 0 ∨ n ≤ i.toNatClampNeg)) (hk : i.toNatClampNeg = k) (hdg : decode cc pc = .ok (.iastore, 1))
    (kk : ∀ (H1 : Heap) (locs1 : List Loc), va_P D cl (ws.set q0 (ad, .inl (cA, n, .inl (upd f k x)))) H1 → va_D A (ws.set q0 (ad, .inl (cA, n, .inl (upd f k x)))) → va_S A H0 H1 locs1 → W p l e R s m args below meth c H1 locs1 cells slots Q (F0 m (pc + 1) ls rest)) : W p l e R s m args below meth c H locs cells slots Q (F0 m pc ls (.int x :: .int i :: .ref ad :: rest)) := by
  subst hk
  exact va_iast hexec hb hK hP hD hS q0 t0 ha ht hin hdg kk
theorem m_preS {As : List Value} : PreS s H (va_Pc As (fun _ => True)) As := ⟨fun _ _ _ _ q => q, fun _ _ _ => ⟨rfl, trivial⟩⟩
end CUT
/-- a switch's default -/
theorem sw_ne {x k32 : Int32} {k : Int} (hk : k32.toInt = k) (h : ¬ x = k32) : x.toInt ≠ k := fun e => h (Int32.toInt_inj.mp (e.trans hk.symm))
theorem sw_out {x : Int32} (lo hi : Int) (h : ∀ k : Int, lo ≤ k → k ≤ hi → x.toInt ≠ k) : x.toInt < lo ∨ hi < x.toInt := by
  by_cases h1 : x.toInt < lo
  · exact Or.inl h1
  · by_cases h2 : hi < x.toInt
    · exact Or.inr h2
    · exact absurd rfl (h x.toInt (by omega) (by omega))
