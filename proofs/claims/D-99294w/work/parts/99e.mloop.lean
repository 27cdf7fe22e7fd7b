/-! the least group, 6: the reference's search ends, and finds the least -/
section MLP
variable {c : Nat → Nat}
theorem gd_no {cb v L M k : Nat} (hv : v ≤ 20) (hM : M ≤ 1000000) (h : ¬ gd c cb v L M k) (ha : avC c k = true) : KB * L + M ≤ KB * cb + v + wtC c k := by
  have h1 : c (sayK k) ≠ 0 := of_decide_eq_true ha
  have h3 : ¬ (KB * cb + v + (KB * c (sayK k) + 1) < KB * L + M) := fun q => h ⟨h1, (gd_iff hv hM).mpr q⟩
  exact Nat.not_lt.mp h3
theorem ml_loop (hc : ∀ k, k < 5 → c k ≤ 9) : ∀ (r j v cb L M : Nat) (U : Nat → Bool) (A : PI) (B : PJ), j + r = 20 → v ≤ j → cb ≤ 9 * v → LStat c A B → A 15 v = nI j - nI 1 → A 16 v = nI cb → MkU U (B 17 v) (B 18 v) → A 0 30 = nI L → A 0 31 = nI M → L ≤ 1000000 → M ≤ 1000000 →
    ∃ (A1 : PI) (B1 : PJ) (q L1 M1 : Nat), q + 1 ≤ 2 ^ (r + 1) ∧ (∀ f, m_layLeast_l68 (f + q) (nI v) A B = m_layLeast_l68 f (nI v + -nI 1) A1 B1) ∧ LFr v A A1 B B1 ∧ A1 0 30 = nI L1 ∧ A1 0 31 = nI M1 ∧ L1 ≤ 1000000 ∧ M1 ≤ 1000000 ∧ cvM 20 (avC c) outM (wtC c) j U (KB * cb + v) (KB * L + M) (KB * L1 + M1) := by
  intro r
  induction r using Nat.strongRecOn with
  | ind r ih =>
    intro j v cb L M U A B hjr hvj hcb hS h15 h16 hU h30 h31 hL hM
    rcases pm_nextSaying hc hS (v := v) (j := j) (by omega) (by omega) h15 h16 (by omega) h30 h31 hL hM with ⟨e, hno⟩ | ⟨k, k1, k2, k3, k4, e⟩
    · refine ⟨A, B, 1, L, M, ?_, fun f => ?_, ⟨fun _ _ => rfl, fun _ _ => ⟨rfl, rfl, rfl⟩, fun _ _ _ _ => rfl, fun _ _ _ => rfl, fun _ _ _ => rfl⟩, h30, h31, hL, hM, cvM_none fun k h1 h2 h3 => gd_no (by omega) hM (hno k h1 h2) h3⟩
      · rw [Nat.pow_succ]
        have := Nat.two_pow_pos r
        omega
      · show m_layLeast_b68 (m_layLeast_l68 f) (nI v) A B = _
        unfold m_layLeast_b68
        rw [if_neg (nI_pos (by omega)), e]
        rfl
    · have hs : ∀ k', j ≤ k' → k' < k → avC c k' = true → KB * L + M ≤ KB * cb + v + wtC c k' := fun k' a1 a2 a3 => gd_no (by omega) hM (k4 k' a1 a2) a3
      have hav : avC c k = true := decide_eq_true k3.1
      have hlt : KB * cb + v + wtC c k < KB * L + M := (gd_iff (by omega) hM).mp k3.2
      have hk5 := (say_ok k k2).1
      have c9 := hc (sayK k) hk5
      obtain ⟨s1, s2, s3⟩ := hS.1 k k2
      obtain ⟨r', er⟩ : ∃ r', k + 1 + r' = 20 := ⟨20 - (k + 1), by omega⟩
      have hpow : 2 ^ (r' + 1) ≤ 2 ^ r := Nat.pow_le_pow_right (by decide) (by omega)
      have hp1 : 2 ^ (r + 1) = 2 ^ r + 2 ^ r := by rw [Nat.pow_succ]; omega
      have hp2 := Nat.two_pow_pos r
      have ej : nI (k + 1) - nI 1 = nI k := by rw [pz_sub (by omega)]; rfl
      by_cases cA : ∀ i, i < 120 → cvL outM U k i = false
      · -- a hit
        have st : ∀ f, m_layLeast_l68 (f + 1) (nI v) A B = m_layLeast_l68 f (nI v) (u2 (u2 (u2 A 15 v (nI k)) 0 30 (nI (cb + c (sayK k)))) 0 31 (nI (v + 1))) B := fun f => by
          rcases ml_step hc hS (v := v) (cb := cb) (by omega) k2 h16 (by omega) hU e (m_layLeast_l68 f) with ⟨-, q⟩ | ⟨⟨i, q1, q2⟩, -⟩
          · exact q
          · rw [cA i q1] at q2; cases q2
        have fr : LFr v A (u2 (u2 (u2 A 15 v (nI k)) 0 30 (nI (cb + c (sayK k)))) 0 31 (nI (v + 1))) B B := ⟨fun i hi => by simp (disch := omega) only [pz_row, pz_at, pz_no], fun i hi => ⟨by simp (disch := omega) only [pz_row, pz_at, pz_no], rfl, rfl⟩, fun k h1 h2 h3 => by simp (disch := omega) only [pz_row, pz_at, pz_no], fun i h1 h2 => by simp (disch := omega) only [pz_row, pz_at, pz_no], fun _ _ _ => rfl⟩
        obtain ⟨A1, B1, q, L1, M1, q1, q2, q3, q4, q5, q6, q7, q8⟩ := ih r' (by omega) (k + 1) v cb (cb + c (sayK k)) (v + 1) U _ B er (by omega) hcb (hS.fr fr) (by simp (disch := omega) only [pz_row, pz_at, pz_no]; exact ej.symm) (by simp (disch := omega) only [pz_row, pz_at, pz_no]; exact h16) hU (by simp (disch := omega) only [pz_row, pz_at, pz_no]) (by simp (disch := omega) only [pz_row, pz_at, pz_no]) (by omega) (by omega)
        refine ⟨A1, B1, q + 1, L1, M1, by omega, fun f => ?_, fr.tr q3, q4, q5, q6, q7, ?_⟩
        · rw [← Nat.add_assoc, st, q2]
        · have ew : KB * (cb + c (sayK k)) + (v + 1) = KB * cb + v + wtC c k := by unfold wtC; rw [Nat.mul_add]; omega
          rw [ew] at q8
          exact cvM_hit hs k1 k2 hav hlt cA q8
      · -- one deeper
        have cE : ∃ i, i < 120 ∧ cvL outM U k i = true := by
          refine Classical.byContradiction fun q => cA fun i hi => ?_
          cases e : cvL outM U k i with
          | false => rfl
          | true => exact absurd ⟨i, hi, e⟩ q
        have st : ∀ f, m_layLeast_l68 (f + 1) (nI v) A B = m_layLeast_l68 f (nI (v + 1)) (u2 (u2 (u2 A 15 v (nI k)) 15 (v + 1) (nI k)) 16 (v + 1) (nI (cb + c (sayK k)))) (u2 (u2 B 17 (v + 1) (B 17 v &&& B 7 k)) 18 (v + 1) (B 18 v &&& B 8 k)) := fun f => by
          rcases ml_step hc hS (v := v) (cb := cb) (by omega) k2 h16 (by omega) hU e (m_layLeast_l68 f) with ⟨q, -⟩ | ⟨-, q⟩
          · exact absurd q cA
          · exact q
        have fr : LFr v A (u2 (u2 (u2 A 15 v (nI k)) 15 (v + 1) (nI k)) 16 (v + 1) (nI (cb + c (sayK k)))) B (u2 (u2 B 17 (v + 1) (B 17 v &&& B 7 k)) 18 (v + 1) (B 18 v &&& B 8 k)) := ⟨fun i hi => by simp (disch := omega) only [pz_row, pz_at, pz_no], fun i hi => ⟨by simp (disch := omega) only [pz_row, pz_at, pz_no], by simp (disch := omega) only [pz_row, pz_at, pz_no], by simp (disch := omega) only [pz_row, pz_at, pz_no]⟩, fun k h1 h2 h3 => by simp (disch := omega) only [pz_row, pz_at, pz_no], fun i h1 h2 => by simp (disch := omega) only [pz_row, pz_at, pz_no], fun k h1 h2 => by simp (disch := omega) only [pz_row, pz_at, pz_no]⟩
        obtain ⟨A1, B1, qa, L1, M1, a1, a2, a3, a4, a5, a6, a7, a8⟩ := ih r' (by omega) (k + 1) (v + 1) (cb + c (sayK k)) L M (cvL outM U k) _ _ er (by omega) (by omega) (hS.fr fr) (by simp (disch := omega) only [pz_row, pz_at, pz_no]; exact ej.symm) (by simp (disch := omega) only [pz_row, pz_at, pz_no]) (by simp (disch := omega) only [pz_row, pz_at, pz_no]; exact hU.nx k2 s2 s3) (by simp (disch := omega) only [pz_row, pz_at, pz_no]; exact h30) (by simp (disch := omega) only [pz_row, pz_at, pz_no]; exact h31) hL hM
        have e15 : A1 15 v = nI (k + 1) - nI 1 := by rw [a3.1 v (by omega)]; simp (disch := omega) only [pz_row, pz_at, pz_no]; exact ej.symm
        have e16 : A1 16 v = nI cb := by rw [(a3.2.1 v (by omega)).1]; simp (disch := omega) only [pz_row, pz_at, pz_no]; exact h16
        have e17 : B1 17 v = B 17 v := by rw [(a3.2.1 v (by omega)).2.1]; simp (disch := omega) only [pz_row, pz_at, pz_no]
        have e18 : B1 18 v = B 18 v := by rw [(a3.2.1 v (by omega)).2.2]; simp (disch := omega) only [pz_row, pz_at, pz_no]
        have fr1 := fr.tr a3.up
        obtain ⟨A2, B2, qb, L2, M2, b1, b2, b3, b4, b5, b6, b7, b8⟩ := ih r' (by omega) (k + 1) v cb L1 M1 U A1 B1 er (by omega) hcb (hS.fr fr1) e15 e16 (by rw [e17, e18]; exact hU) a4 a5 a6 a7
        refine ⟨A2, B2, qb + qa + 1, L2, M2, by omega, fun f => ?_, fr1.tr b3, b4, b5, b6, b7, ?_⟩
        · rw [← Nat.add_assoc, st, ← Nat.add_assoc, a2, pz_dec (by omega), Nat.add_sub_cancel, b2]
        · have ew : KB * (cb + c (sayK k)) + (v + 1) = KB * cb + v + wtC c k := by unfold wtC; rw [Nat.mul_add]; omega
          rw [ew] at a8
          exact cvM_push hs k1 k2 hav cE a8 b8
end MLP
