/-! the start, 7: the class's planes -/
theorem px_init0 : ∃ I1, x_layAll 200 0 x_I0 = some I1 ∧ XTab 120 I1 ∧ ∀ k, k < 122 → I1 k = x_I0 k :=
  px_layAll 120 0 200 x_I0 (by omega) (by omega) (fun i d hi => absurd hi (Nat.not_lt_zero i))
theorem x_I0_XR : XR s0 x_I0 := by
  refine ⟨fun k j hk hj => ?_, by decide⟩
  by_cases h3 : k = 3
  · subst h3
    exact s_row_ok j
  · have e : s0 k j = 0 := if_neg h3
    rw [e]
    by_cases h2 : k = 2
    · subst h2
      show s_n j = nI 0
      unfold s_n
      have e4 : ((4 : Int32)).toNatClampNeg = 4 := by decide
      simp only [upd, e4]
      rw [if_neg (by omega)]
      rfl
    · unfold x_I0
      rw [if_neg (by omega), if_neg (by omega), if_neg (by omega)]
      rfl
theorem x_I0_im {k j : Nat} (h : (2 ≤ k ∧ k < 7) ∨ (11 ≤ k ∧ k < 57)) : x_I0 (56 + k) j = x_I0 k j := by
  unfold x_I0
  by_cases h2 : k = 2
  · subst h2; rfl
  · by_cases h3 : k = 3
    · subst h3; rfl
    · rw [if_neg (by omega), if_neg (by omega), if_neg (by omega), if_neg (by omega), if_neg (by omega), if_neg (by omega)]
theorem px_init : ∃ I1 T1, x_init = some (I1, T1) ∧ XR s0 I1 ∧ XR s0 (sh56 I1) ∧ XTab 120 I1 ∧ I1 0 = x_I0 0 ∧ I1 113 = x_I0 113 := by
  obtain ⟨I1, e1, h1, h2⟩ := px_init0
  obtain ⟨I8, e2, b1, b2⟩ := px_be57 I1 (fun _ _ => none)
  have hk : ∀ k j, ((2 ≤ k ∧ k < 7) ∨ (11 ≤ k ∧ k < 57)) → I8 k j = x_I0 k j := fun k j hk => by
    rw [b2 k (by omega), h2 k (by omega)]
  have hs : ∀ k j, ((2 ≤ k ∧ k < 7) ∨ (11 ≤ k ∧ k < 57)) → I8 (k + 56) j = x_I0 k j := fun k j hk => by
    rw [Nat.add_comm k 56, b1 k j hk]
    split
    · rw [Nat.zero_add, h2 k (by omega)]
    · rw [h2 (56 + k) (by omega), x_I0_im hk]
  refine ⟨I8, uc (fun _ _ => none) 10 66 0 0 4, ?_, ⟨fun k j a b => (hk k j a).trans (x_I0_XR.1 k j a b), (hk 2 4 (by omega)).trans x_I0_XR.2⟩, ⟨fun k j a b => (hs k j a).trans (x_I0_XR.1 k j a b), (hs 2 4 (by omega)).trans x_I0_XR.2⟩, fun i d hi hd => ?_, ?_, ?_⟩
  · unfold x_init
    rw [e1, pz_bs]
    exact e2
  · rw [b2 _ (by omega), b2 _ (by omega)]
    exact h1 i d hi hd
  · rw [b2 0 (by omega), h2 0 (by omega)]
  · rw [b2 113 (by omega), h2 113 (by omega)]
