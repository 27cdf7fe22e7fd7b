/-! the start, 8: the reference at the start -/
theorem m_I0_1' (j : Nat) : m_I0 1 j = if j = 4 then -nI 1 else if j = 9 then nI 271 else nI 0 := by
  have e9 : ix (9 : Int32) = 9 := by decide
  have e4 : ix (4 : Int32) = 4 := by decide
  unfold m_I0
  rw [e9, e4]
  by_cases c4 : j = 4
  · subst c4; rfl
  · by_cases c9 : j = 9
    · subst c9; rfl
    · rw [if_neg c4, if_neg c9]
      simp (disch := omega) only [pz_row, pz_at, pz_no]
      rfl
theorem s0_MR {A : Nat → Int32} (h : ∀ j, j < 1691 → A j = if j = 4 then -nI 1 else if j = 9 then nI 271 else nI 0) : MR s0 A := by
  refine ⟨⟨?_, ?_, ?_, ?_, ?_, ?_, ?_, ?_, ?_, ?_, ?_⟩, fun p hp => absurd hp (Nat.not_lt_zero p), fun f hf => ⟨?_, ?_⟩, fun p hp => absurd hp (Nat.not_lt_zero p), fun p _ hp => absurd hp (Nat.not_lt_zero p), fun p _ hp => absurd hp (Nat.not_lt_zero p), fun p hp => absurd hp (Nat.not_lt_zero p), fun p hp => absurd hp (Nat.not_lt_zero p)⟩
  · rw [h _ (by omega)]; rfl
  · rw [h _ (by omega)]; rfl
  · rw [h _ (by omega)]; rfl
  · rw [h _ (by omega)]; rfl
  · rw [h _ (by omega)]; rfl
  · rw [h _ (by omega)]; rfl
  · rw [h _ (by omega)]; rfl
  · rw [h _ (by omega)]; rfl
  · rw [h _ (by omega)]; rfl
  · rw [h _ (by omega)]; rfl
  · rw [h _ (by omega)]; rfl
  · rw [h _ (by omega), if_neg (by omega), if_neg (by omega)]; rfl
  · rw [h _ (by omega), if_neg (by omega), if_neg (by omega)]; rfl
