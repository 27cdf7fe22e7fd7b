/-! parts of the state that stand when others change -/
theorem xrU {s : SN} {I : PI} (h : XR s I) {a i : Nat} (n : Nat) (hne : ¬ (a = 2 ∧ i = 4)) : XR (u2 s a i n) (u2 I a i (nI n)) := by
  refine ⟨fun k j hk hj => ?_, ?_⟩
  · by_cases e : k = a ∧ j = i
    · rw [pz_at _ _ e.1 e.2, pz_at _ _ e.1 e.2]
    · rw [pz_no _ _ (by omega), pz_no _ _ (by omega)]
      exact h.1 k j hk hj
  · rw [pz_no _ _ (by omega), pz_no _ _ (by omega)]
    exact h.2
theorem xrS {s : SN} {I : PI} (h : XR s I) {a i : Nat} (v : Int32) (hn : ¬ ((2 ≤ a ∧ a < 7) ∨ (11 ≤ a ∧ a < 57))) : XR s (u2 I a i v) := by
  refine ⟨fun k j hk hj => ?_, ?_⟩
  · rw [pz_no _ _ (by omega)]
    exact h.1 k j hk hj
  · rw [pz_no _ _ (by omega)]
    exact h.2
theorem VRow.mono {r : Nat → Nat} {nF nF' nP : Nat} (h : VRow r nF nP) (hn : nF ≤ nF') : VRow r nF' nP := by
  obtain ⟨h1, h2, h3, h4, h5, h6⟩ := h
  exact ⟨h1, h2, h3, fun p hp => ⟨(h4 p hp).1, Nat.lt_of_lt_of_le (h4 p hp).2.1 (Nat.pow_le_pow_right (by decide) hn), (h4 p hp).2.2⟩, h5, h6⟩
theorem pz_row {α : Type} (f : Nat → Nat → α) {a i b : Nat} (v : α) (h : b ≠ a) : u2 f a i v b = f b := u2_row f a i v h
section FRM
variable {s s1 : SN} {A A1 : Nat → Int32}
theorem MPeo.c (h : MPeo s A) (hn : s 2 1 ≤ 6) (e1 : s1 2 1 = s 2 1) (e2 : s1 3 = s 3) (ha : ∀ i, 11 ≤ i → i < 41 → A1 i = A i) : MPeo s1 A1 := by
  intro p hp
  rw [e1] at hp
  rw [e2, ha _ (by omega) (by omega), ha _ (by omega) (by omega), ha _ (by omega) (by omega)]
  exact h p hp
theorem MFor.c (h : MFor s A) (e1 : s1 4 = s 4) (e2 : s1 5 = s 5) (ha : ∀ i, 41 ≤ i → i < 57 → A1 i = A i) : MFor s1 A1 := by
  intro f hf
  rw [e1, e2, ha _ (by omega) (by omega), ha _ (by omega) (by omega)]
  exact h f hf
theorem MSto.c (h : MSto s A) (hn : s 2 2 ≤ 4) (e1 : s1 2 2 = s 2 2) (e2 : s1 6 = s 6) (ha : ∀ i, 57 ≤ i → i < 61 → A1 i = A i) : MSto s1 A1 := by
  intro i hi
  rw [e1] at hi
  rw [e2, ha _ (by omega) (by omega)]
  exact h i hi
theorem MSai.c (h : MSai s A) (hn : s 2 6 ≤ 8) (e1 : s1 2 6 = s 2 6) (e2 : ∀ i, i < 8 → s1 (11 + i) = s (11 + i)) (ha : ∀ i, 61 ≤ i → i < 85 → A1 i = A i) : MSai s1 A1 := by
  intro i j hi hj
  rw [e1] at hi
  rw [e2 i (by omega), ha _ (by omega) (by omega)]
  exact h i j hi hj
theorem MSee.c (h : MSee s A) (hn : s 2 7 ≤ 8) (e1 : s1 2 7 = s 2 7) (e2 : ∀ i, i < 8 → s1 (19 + i) = s (19 + i)) (ha : ∀ i, 85 ≤ i → i < 101 → A1 i = A i) : MSee s1 A1 := by
  intro i j hi hj
  rw [e1] at hi
  rw [e2 i (by omega), ha _ (by omega) (by omega)]
  exact h i j hi hj
theorem MBoo.c (h : MBoo s A) (hn : s 3 20 ≤ 30) (e : s1 3 = s 3) (ha : ∀ i, 1661 ≤ i → i < 1691 → A1 i = A i) : MBoo s1 A1 := by
  intro i hi
  rw [e] at hi ⊢
  rw [ha _ (by omega) (by omega)]
  exact h i hi
theorem MStp.c {r : Nat → Nat} {nP x c : Nat} (h : MStp r nP A x c) (hn : nP ≤ 6) (hr : r 20 ≤ 30) (hA : ∀ i, x ≤ i → i < x + 52 → A1 i = A i) (hT : ∀ p w, p < nP → 3 ≤ w → w < 5 → A1 (11 + 5 * p + w) = A (11 + 5 * p + w)) : MStp r nP A1 x c := by
  obtain ⟨h1, h2, h3, h4, h5, h6, h7, h8⟩ := h
  refine ⟨h1, by rw [hA _ (by omega) (by omega)]; exact h2, by rw [hA _ (by omega) (by omega)]; exact h3, by rw [hA _ (by omega) (by omega)]; exact h4, by rw [hA _ (by omega) (by omega)]; exact h5, fun p hp => ?_, fun p hp hp2 => ?_, fun i hi => ?_⟩
  · rw [hA _ (by omega) (by omega), hA _ (by omega) (by omega), hA _ (by omega) (by omega)]
    exact h6 p hp
  · rw [hT p 3 hp2 (by omega) (by omega), hT p 4 hp2 (by omega) (by omega)]
    exact h7 p hp hp2
  · rw [hA _ (by omega) (by omega)]
    exact h8 i hi
theorem MSte.c (h : MSte s A) (hV : VSt s) (e1 : s1 2 5 = s 2 5) (e2 : s1 2 1 = s 2 1) (e3 : ∀ k, k < 30 → s1 (27 + k) = s (27 + k)) (ha : ∀ i, 101 ≤ i → i < 1661 → A1 i = A i) (hT : ∀ p w, p < 6 → 3 ≤ w → w < 5 → A1 (11 + 5 * p + w) = A (11 + 5 * p + w)) : MSte s1 A1 := by
  obtain ⟨⟨v0, v1, v2, v3, v4, v5, v6, v7⟩, -, -, -, -, -, vs⟩ := hV
  intro k hk
  rw [e1] at hk
  obtain ⟨c, hc⟩ := h k hk
  refine ⟨c, ?_⟩
  rw [e3 k (by omega), e2]
  exact hc.c v1 (vs k hk).2.2.1 (fun i h1 h2 => ha i (by omega) (by omega)) (fun p w hp h1 h2 => hT p w (by omega) h1 h2)
/-- the state's ranges, where they stand -/
theorem VSt.mk' (hn : VNum (s1 2)) (hr : VRow (s1 3) (s1 2 0) (s1 2 1)) (hf : ∀ f, f < s1 2 0 → s1 4 f ≤ 4 ∧ 1 ≤ s1 5 f ∧ s1 5 f ≤ 9) (hs : ∀ i, i < s1 2 2 → s1 6 i < 120) (ha : ∀ i, i < s1 2 6 → s1 (11 + i) 0 < 5 ∧ s1 (11 + i) 1 < 5 ∧ s1 (11 + i) 2 < 5) (he : ∀ i, i < s1 2 7 → s1 (19 + i) 0 < s1 2 1 ∧ s1 (19 + i) 1 ≤ 10) (ht : ∀ k, k < s1 2 5 → VRow (s1 (27 + k)) (s1 2 0) (s1 2 1)) : VSt s1 := ⟨hn, hr, hf, hs, ha, he, ht⟩
end FRM
