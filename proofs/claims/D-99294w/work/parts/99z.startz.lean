/-! the start, 9: both at the start -/
theorem pe_start : ∃ (Ir : PI) (Tr : PT) (Ir' : PI) (Jr' : PJ), x_init = some (Ir, Tr) ∧ m_init = some (Ir', Jr') ∧ ∀ (X : TS) (tN : XCo), X (tN 0) = some (none, none, []) → CC s0 s0 Ir Tr X tN Ir' Jr' := by
  obtain ⟨Ir, Tr, e1, x1, x2, x3, x4, x5⟩ := px_init
  obtain ⟨A, e2, a1, a2⟩ := pm_layOrders m_I0
  have ht : CTab Ir A := fun i d hi hd => ⟨(x3 i d hi hd).1, (x3 i d hi hd).2, (a1 i hi d hd).1, (a1 i hi d hd).2⟩
  obtain ⟨B, J, e3, b1, b2⟩ := pm_laySayings ht
  obtain ⟨C, e4, c1, c2⟩ := pm_copy B (a := 1) (b := 2) (by omega)
  have hm : ∀ k, k ≠ 2 → k ≠ 6 → k ≠ 4 → k ≠ 5 → C k = m_I0 k := fun k h1 h2 h3 h4 => (c2 k h1).trans ((b2 k h2).trans (a2 k h3 h4))
  have z0 := hm 0 (by decide) (by decide) (by decide) (by decide)
  have z1 := hm 1 (by decide) (by decide) (by decide) (by decide)
  refine ⟨Ir, Tr, C, J, e1, ?_, fun X tN hX => ⟨⟨s0_V, s0_V, x1, x2, s0_MR fun j _ => by rw [z1]; exact m_I0_1' j, s0_MR fun j hj => ?_, Nat.le_refl _, fun t ht => absurd ht (Nat.not_lt_zero t), fun t ht => absurd ht (Nat.not_lt_zero t)⟩, ⟨0, by omega, ?_, ?_, fun j hj => absurd hj (Nat.not_lt_zero j)⟩, ⟨?_, ?_⟩, fun i d hi hd => ?_, fun k hk => ?_, Or.inl ?_, ?_, hX⟩⟩
  · unfold m_init
    rw [e2, pz_bs, e3, pz_bs, pz_u2, e4, pz_bs]
  · rw [c1 j hj, b2 1 (by decide), a2 1 (by decide) (by decide)]
    exact m_I0_1' j
  · rw [x4]; rfl
  · rw [z0]; rfl
  · rw [x4, z0]; rfl
  · rw [x4, z0]; rfl
  · rw [c2 4 (by decide), b2 4 (by decide), c2 5 (by decide), b2 5 (by decide)]
    exact ht i d hi hd
  · rw [c2 6 (by decide)]
    exact b1.1 k hk
  · rw [z0]; rfl
  · rw [z0]; rfl
