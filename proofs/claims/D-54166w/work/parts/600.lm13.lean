/-! Lecture: parts (printed by wip/gen/gen_lm13.py) -/
def o_parts (L : LV) (x tm ix : Int32) : Option OR :=
  match pAt L.1 x with
  | none => some (.error (-1000001))
  | some v =>
    if bi (ib tm.toInt64 (vB v + 1).toInt64 (vE v - 1).toInt64) = 0 then some (.error (-1000001)) else
    if bi (ib ix.toInt64 0 (nI (vT v).length).toInt64) = 0 then some (.error (-1000001)) else
    if (20 : Int32) ≤ nI L.1.length then some (.error (-1000003)) else
    some (.ok (nI (layP (L.1.set x.toNatClampNeg (vB v, tm, vP v, vS v, (vT v).take ix.toNatClampNeg)) tm L.1.length), ((L.1.set x.toNatClampNeg (vB v, tm, vP v, vS v, (vT v).take ix.toNatClampNeg)).insertIdx (layP (L.1.set x.toNatClampNeg (vB v, tm, vP v, vS v, (vT v).take ix.toNatClampNeg)) tm L.1.length) (tm, vE v, vP v, vS v, (vT v).drop ix.toNatClampNeg), L.2)))
theorem er_mid {α : Type} (A : List α) (b : α) (B : List α) : (A ++ b :: B).eraseIdx A.length = A ++ B := by
  induction A with
  | nil => rfl
  | cons a A ih => show a :: ((A ++ b :: B).eraseIdx A.length) = a :: (A ++ B); rw [ih]

