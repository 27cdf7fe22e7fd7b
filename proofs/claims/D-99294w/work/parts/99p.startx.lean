/-- the empty state -/
def s0 : SN := fun k j => if k = 3 then (if j = 1 then 271 else if 14 ≤ j ∧ j < 20 then 20 else 0) else 0
theorem s0_V : VSt s0 := by
  refine ⟨by unfold VNum; decide, ⟨by decide, by decide, by decide, fun p hp => absurd hp (Nat.not_lt_zero p), ?_, fun i hi => absurd hi (Nat.not_lt_zero i)⟩, fun f hf => absurd hf (Nat.not_lt_zero f), fun f hf => absurd hf (Nat.not_lt_zero f), fun f hf => absurd hf (Nat.not_lt_zero f), fun f hf => absurd hf (Nat.not_lt_zero f), fun f hf => absurd hf (Nat.not_lt_zero f)⟩
  intro p _ hp
  have hc : p = 0 ∨ p = 1 ∨ p = 2 ∨ p = 3 ∨ p = 4 ∨ p = 5 := by omega
  rcases hc with q | q | q | q | q | q <;> subst q <;> decide
theorem s_row_ok (j : Nat) : s_row j = nI (s0 3 j) := by
  by_cases h : j < 20
  · have : ∀ j, j < 20 → s_row j = nI (s0 3 j) := by decide +kernel
    exact this j h
  · show upd _ _ _ j = nI (if (3 : Nat) = 3 then (if j = 1 then 271 else if 14 ≤ j ∧ j < 20 then 20 else 0) else 0)
    rw [if_pos rfl, if_neg (by omega), if_neg (by omega)]
    have e14 : ((14 : Int32)).toNatClampNeg = 14 := by decide
    have e15 : ((15 : Int32)).toNatClampNeg = 15 := by decide
    have e16 : ((16 : Int32)).toNatClampNeg = 16 := by decide
    have e17 : ((17 : Int32)).toNatClampNeg = 17 := by decide
    have e18 : ((18 : Int32)).toNatClampNeg = 18 := by decide
    have e19 : ((19 : Int32)).toNatClampNeg = 19 := by decide
    have e1 : ((1 : Int32)).toNatClampNeg = 1 := by decide
    simp only [upd, e1, e14, e15, e16, e17, e18, e19]
    rw [if_neg (by omega), if_neg (by omega), if_neg (by omega), if_neg (by omega), if_neg (by omega), if_neg (by omega), if_neg (by omega)]
    rfl
