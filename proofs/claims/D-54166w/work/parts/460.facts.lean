/-! what the small readers answer, in full -/
theorem cmp_neg (a b : Int64) : lg_cmp a b < 0 ↔ ¬ b ≤ a := by
  unfold lg_cmp
  rw [Int64.le_iff_toInt_le]
  by_cases h : b < a
  · rw [if_pos h]
    rw [Int64.lt_iff_toInt_lt] at h
    constructor
    · intro c; exact absurd c (by decide)
    · intro c; omega
  · rw [if_neg h]
    rw [Int64.lt_iff_toInt_lt] at h
    by_cases g : a = b
    · rw [if_pos g]
      subst g
      constructor
      · intro c; exact absurd c (by decide)
      · intro c; omega
    · rw [if_neg g]
      have g' : a.toInt ≠ b.toInt := fun e => g (Int64.toInt_inj.mp e)
      constructor
      · intro _; omega
      · intro _; decide
theorem cmp_pos (a b : Int64) : 0 < lg_cmp a b ↔ ¬ a ≤ b := by
  unfold lg_cmp
  rw [Int64.le_iff_toInt_le]
  by_cases h : b < a
  · rw [if_pos h]
    rw [Int64.lt_iff_toInt_lt] at h
    constructor
    · intro _; omega
    · intro _; decide
  · rw [if_neg h]
    rw [Int64.lt_iff_toInt_lt] at h
    constructor
    · intro c
      by_cases g : a = b
      · rw [if_pos g] at c; exact absurd c (by decide)
      · rw [if_neg g] at c; exact absurd c (by decide)
    · intro c; omega
def ib (x lo hi : Int64) : Bool := decide (lo ≤ x ∧ x ≤ hi)
theorem isB_eq (x lo hi : Int64) : m_X0_isBetween x lo hi = some (ib x lo hi) := by
  unfold m_X0_isBetween ib
  by_cases h : lo ≤ x
  · rw [if_neg (by rw [cmp_neg]; exact fun g => g h)]
    by_cases g : x ≤ hi
    · rw [if_neg (by rw [cmp_pos]; exact fun f => f g)]; simp [h, g]
    · rw [if_pos (by rw [cmp_pos]; exact g)]; simp [g]
  · rw [if_pos (by rw [cmp_neg]; exact h)]; simp [h]
theorem ib_iff (x : Int32) (lo hi : Int64) : ib x.toInt64 lo hi = true ↔ lo.toInt ≤ x.toInt ∧ x.toInt ≤ hi.toInt := by
  unfold ib
  rw [decide_eq_true_iff, Int64.le_iff_toInt_le, Int64.le_iff_toInt_le, Int32.toInt_toInt64]
theorem isTerm_eq (x : Int32) : m_X0_isTerm x = some (ib x.toInt64 0 15) := by
  unfold m_X0_isTerm
  rw [isB_eq]; rfl
theorem isPitch_eq (x : Int32) : m_X0_isPitch x = some (ib x.toInt64 50 500) := by
  unfold m_X0_isPitch
  rw [isB_eq]; rfl
theorem clamp_int {x : Int32} (h : ¬ x < 0) : (x.toNatClampNeg : Int) = x.toInt := by
  have : ¬ x.toInt < 0 := by intro c; exact h (by rw [Int32.lt_iff_toInt_lt]; exact c)
  show (x.toInt.toNat : Int) = x.toInt
  omega
theorem isTurn_eq {vs : List TV} (hn : vs.length ≤ 1000) (x : Int32) : m_X1_isTurn vs x = some (pAt vs x).isSome := by
  unfold m_X1_isTurn
  rw [isB_eq]
  show some _ = some _
  congr 1
  have hl : ((nI vs.length - 1).toInt64).toInt = (vs.length : Int) - 1 := by
    rw [Int32.toInt_toInt64, Int32.toInt_sub]
    have e : (nI vs.length).toInt = (vs.length : Int) := nI_toInt (by omega)
    rw [e, show (1 : Int32).toInt = 1 from rfl]
    have e2 := Int.bmod_eq_of_le (n := (vs.length : Int) - 1) (m := 2 ^ 32) (by omega) (by omega)
    exact e2
  rw [Bool.eq_iff_iff, ib_iff, hl, show (0 : Int64).toInt = 0 from rfl]
  unfold pAt
  by_cases h : x < 0
  · rw [if_pos h]
    rw [Int32.lt_iff_toInt_lt, show (0 : Int32).toInt = 0 from rfl] at h
    simp; omega
  · rw [if_neg h]
    have hc := clamp_int h
    have hi : (vs[x.toNatClampNeg]?).isSome = true ↔ x.toNatClampNeg < vs.length := by simp
    rw [hi]
    rw [Int32.lt_iff_toInt_lt, show (0 : Int32).toInt = 0 from rfl] at h
    omega
theorem pAt_none {T : List TT} {vs : List TV} {x : Int32} (hv : T.map Prod.snd = vs) : pAt vs x = none ↔ pAt T x = none := by
  subst hv
  unfold pAt
  by_cases h : x < 0
  · simp [h]
  · simp [h]
