/-! the lexer in numbers: blanks, the reference's side -/
def MIn (b : Nat → Nat) (n : Nat) (I : PI) : Prop := n ≤ 300 ∧ I 0 9 = nI n ∧ (∀ j, j < n → b j < 256 ∧ I 9 j = nI (b j))
theorem MIn.set {b : Nat → Nat} {n : Nat} {I : PI} (h : MIn b n I) {j : Nat} {v : Int32} (hj : j ≠ 9) : MIn b n (u2 I 0 j v) :=
  ⟨h.1, (pz_no _ _ (Or.inr (Ne.symm hj))).trans h.2.1, fun i hi => ⟨(h.2.2 i hi).1, (pz_no _ _ (Or.inl (by decide))).trans (h.2.2 i hi).2⟩⟩
theorem m_byteAt_in {b : Nat → Nat} {n : Nat} {I : PI} (h : MIn b n I) {a : Nat} (ha : a < n) : m_byteAt I (nI a) = some (nI (b a)) := by
  have h0 := h.1
  unfold m_byteAt
  rw [if_neg (by rw [h.2.1, nI_leI (by omega) (by omega)]; omega), pz_inb (by omega) (by omega), pz_ix (by omega), pz_ck, (h.2.2 a ha).2]
theorem m_byteAt_end {b : Nat → Nat} {n : Nat} {I : PI} (h : MIn b n I) : m_byteAt I (nI n) = some (-1) := by
  have h0 := h.1
  unfold m_byteAt
  rw [if_pos (by rw [h.2.1, nI_leI (by omega) (by omega)]; omega)]
theorem tm_skip {b : Nat → Nat} {n : Nat} : ∀ m a f (I : PI), a + m = n → m < f → MIn b n I → I 0 12 = nI a → m_nextToken_l0 f I = some (u2 I 0 12 (nI (wsN b m a))) := by
  intro m
  induction m with
  | zero =>
    intro a f I ha hf hI h2
    obtain ⟨f, rfl⟩ : ∃ q, f = q + 1 := ⟨f - 1, by omega⟩
    have e : a = n := by omega
    subst e
    show m_nextToken_b0 (m_nextToken_l0 f) I = _
    unfold m_nextToken_b0
    rw [h2, m_byteAt_end hI, pz_bs, if_neg (by decide), pz_bs, if_neg (by decide), wsN, u2_self h2]
  | succ m ih =>
    intro a f I ha hf hI h2
    obtain ⟨f, rfl⟩ : ∃ q, f = q + 1 := ⟨f - 1, by omega⟩
    show m_nextToken_b0 (m_nextToken_l0 f) I = _
    unfold m_nextToken_b0
    have h0 := hI.1
    obtain ⟨hb, -⟩ := hI.2.2 a (by omega)
    have step : m_nextToken_j26 (m_nextToken_l0 f) I = some (u2 I 0 12 (nI (wsN b m (a + 1)))) := by
      unfold m_nextToken_j26
      rw [pz_lt, h2, show (1 : Int32) = nI 1 from rfl, pz_add, ih (a + 1) f _ (by omega) (by omega) (hI.set (by decide)) (pz_at _ _ rfl rfl), u2_twice]
    rw [h2, m_byteAt_in hI (by omega), pz_bs, pz_bs, wsN, step, show (32 : Int32) = nI 32 from rfl, show (10 : Int32) = nI 10 from rfl]
    by_cases c1 : b a = 32
    · rw [if_pos ((nI_eq (by omega) (by omega)).mpr c1), if_pos (Or.inl c1)]
    · rw [if_neg (fun q => c1 ((nI_eq (by omega) (by omega)).mp q))]
      by_cases c2 : b a = 10
      · rw [if_pos ((nI_eq (by omega) (by omega)).mpr c2), if_pos (Or.inr c2)]
      · rw [if_neg (fun q => c2 ((nI_eq (by omega) (by omega)).mp q)), if_neg (fun q => q.elim c1 c2), u2_self h2]
