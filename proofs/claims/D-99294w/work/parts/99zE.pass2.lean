/-! a year passes, of both: people, the year -/
section YQ
variable {s : SN} {r : Nat → Nat} {k2 : Nat} {I : PI} {T : PT} {X : TS} {tN : XCo} {I' : PI} {J' : PJ}
theorem cut_99 : ∀ a, a ≤ 99 → m_cut (Int32.toInt64 (nI (a + 1))) 0 99 = some (nI (min 99 (a + 1))) ∧ m_cut (Int32.toInt64 (nI (a + 10))) 0 99 = some (nI (min 99 (a + 10))) := by decide +kernel
theorem min_99 {a : Nat} (h : a < 1000) : (if nI a < 99 then nI a else 99) = nI (min 99 a) := by
  by_cases c : a < 99
  · rw [if_pos (show nI a < 99 from (nI_ltI (b := 99) (by omega) (by omega)).mpr c), show min 99 a = a by omega]
  · rw [if_neg (show ¬ nI a < 99 from fun q => c ((nI_ltI (b := 99) (by omega) (by omega)).mp q)), show min 99 a = 99 by omega]
    rfl
theorem pe_people {y : Nat} : ∀ (m p fx fm n : Nat) (r : Nat → Nat) (I I' : PI) (J' : PJ), p + m = s 2 1 → m < fx → m < fm → YK s r k2 I I' → x_rules I T tN = some y → TxR X (I' 3) y (I' 1 4) →
    ∃ (n1 : Nat) (r1 : Nat → Nat) (I1 I1' : PI) (J1' : PJ), x_passes_l4 T X tN k2 fx (nI n) (nI p) I = some (nI (n + n1), I1) ∧ m_pass_l2 fm (nI p) I' J' = some (I1', J1') ∧ YK s r1 k2 I1 I1' ∧ FYx k2 I I1 ∧ FYm (s 2 1) I' I1' J' J1' ∧ I1' 0 37 = I' 0 37 + nI n1 ∧ n1 ≤ 8 * m ∧ r1 0 = r 0 ∧ ∀ j, 20 ≤ j → r1 j = r j := by
  intro m
  induction m with
  | zero =>
    intro p fx fm n r I I' J' hp hfx hfm hY hR hT
    obtain ⟨fx, rfl⟩ : ∃ q, fx = q + 1 := ⟨fx - 1, by omega⟩
    obtain ⟨fm, rfl⟩ : ∃ q, fm = q + 1 := ⟨fm - 1, by omega⟩
    have h1 := hY.2.2.1
    refine ⟨0, r, I, I', J', ?_, ?_, hY, FYx.rf, FYm.rf, (by rw [show nI 0 = (0 : Int32) from rfl, Int32.add_zero]), Nat.le_refl _, rfl, fun _ _ => rfl⟩
    · show x_passes_b4 T X tN k2 _ (nI n) (nI p) I = _
      unfold x_passes_b4
      rw [show ix (1 : Int32) = 1 from rfl, hY.2.2.2.2.2.1.2, if_pos ((nI_leI (by omega) (by omega)).mpr (by omega))]
      rfl
    · show m_pass_b2 _ (nI p) I' J' = _
      unfold m_pass_b2
      rw [show inb (1 : Int32) 1691 = true from rfl, pz_ck, show ix (1 : Int32) = 1 from rfl, hY.2.2.2.2.2.2.2.1.2.1, if_pos ((nI_leI (by omega) (by omega)).mpr (by omega))]
  | succ m ih =>
    intro p fx fm n r I I' J' hp hfx hfm hY hR hT
    obtain ⟨fx, rfl⟩ : ∃ q, fx = q + 1 := ⟨fx - 1, by omega⟩
    obtain ⟨fm, rfl⟩ : ∃ q, fm = q + 1 := ⟨fm - 1, by omega⟩
    have hp1 : p < s 2 1 := by omega
    have hk2 := hY.1
    have h6 := hY.2.2.1
    have h8 := hY.2.1
    obtain ⟨n1, r1, I1, I1', J1', d1, d2, d3, d4, d5, d6, d7, d8, d9⟩ := pe_forms (p := p) hp1 (s 2 0) 0 fu fu 0 r I I' J' (by omega) (fu_gt (by omega)) (fu_gt (by omega)) hY hR hT
    have c3 := d3.2.2.2.1.2.2.2.1 p hp1
    have b3 := d3.2.2.2.2.2.2.2.1.2.2.2 p hp1
    obtain ⟨e1, e2, e3⟩ := d3.put (J' := J1') (p := p) (w := 0) (v := min 99 (r1 (2 + p) + 1)) hp1 (by omega) (fun _ => by omega) (fun z => nomatch z) (fun z => nomatch z)
    have q14 : rU r1 (2 + 6 * 0 + p) (min 99 (r1 (2 + p) + 1)) (14 + p) = r1 (14 + p) := rU_no _ _ (by omega)
    obtain ⟨f1, f2, f3⟩ := e1.put (J' := J1') (p := p) (w := 2) (v := min 99 (r1 (14 + p) + 10)) hp1 (by omega) (fun z => nomatch z) (fun z => nomatch z) (fun _ => by omega)
    have g14 := e1.2.2.2.2.1 (14 + p) (by omega)
    rw [q14] at g14
    have h14 := (e1.2.2.2.2.2.2.2.1.2.2.2 p hp1).2.2
    rw [q14] at h14
    obtain ⟨k1, k3⟩ := cut_99 (r1 (2 + p)) c3.1
    obtain ⟨k4, k5⟩ := cut_99 (r1 (14 + p)) c3.2.2
    have tx : FYx k2 I (u2 (u2 I1 k2 (2 + 6 * 0 + p) (nI (min 99 (r1 (2 + p) + 1)))) k2 (2 + 6 * 2 + p) (nI (min 99 (r1 (14 + p) + 10)))) := (d4.tr e2).tr f2
    have tm : FYm (s 2 1) I' (u2 (u2 I1' 1 (11 + 5 * p + 0) (nI (min 99 (r1 (2 + p) + 1)))) 1 (11 + 5 * p + 2) (nI (min 99 (r1 (14 + p) + 10)))) J' J1' := (d5.tr e3).tr f3
    have sx : x_passes_l4 T X tN k2 (fx + 1) (nI n) (nI p) I = x_passes_l4 T X tN k2 fx (nI (n + n1)) (nI (p + 1)) (u2 (u2 I1 k2 (2 + 6 * 0 + p) (nI (min 99 (r1 (2 + p) + 1)))) k2 (2 + 6 * 2 + p) (nI (min 99 (r1 (14 + p) + 10)))) := by
      show x_passes_b4 T X tN k2 _ (nI n) (nI p) I = _
      unfold x_passes_b4
      have hf : x_fades I T X tN k2 (nI p) = some (nI n1, I1) := by
        unfold x_fades
        rw [show (0 : Int32) = nI 0 from rfl, d1, Nat.zero_add]
        rfl
      rw [show ix (1 : Int32) = 1 from rfl, hY.2.2.2.2.2.1.2, if_neg (fun q => absurd ((nI_leI (by omega) (by omega)).mp q) (by omega)), hf, pz_bs, pz_u2, pz_add, pz_lt, show (2 : Int32) = nI 2 from rfl, show (14 : Int32) = nI 14 from rfl, show (1 : Int32) = nI 1 from rfl, show (10 : Int32) = nI 10 from rfl, pz_add, pz_add, pz_inb (show 2 + p < 141 by omega) (by omega), pz_ck, pz_ix (show 2 + p < 2 ^ 31 by omega), d3.2.2.2.2.1 (2 + p) (by omega), pz_add, min_99 (by omega), pz_lt, pz_ck, pz_lt, pz_inb (show 14 + p < 141 by omega) (by omega), pz_ck, pz_ix (show 14 + p < 2 ^ 31 by omega)]
      rw [show u2 I1 k2 (2 + p) (nI (min 99 (r1 (2 + p) + 1))) k2 (14 + p) = nI (r1 (14 + p)) from by
        have := g14
        rw [show 2 + 6 * 0 + p = 2 + p by omega] at this
        exact this]
      rw [pz_add, min_99 (by omega), pz_lt, pz_ck, pz_lt, pz_add, pz_lt, show 2 + 6 * 0 + p = 2 + p by omega, show 2 + 6 * 2 + p = 14 + p by omega]
    have sm : m_pass_l2 (fm + 1) (nI p) I' J' = m_pass_l2 fm (nI (p + 1)) (u2 (u2 I1' 1 (11 + 5 * p + 0) (nI (min 99 (r1 (2 + p) + 1)))) 1 (11 + 5 * p + 2) (nI (min 99 (r1 (14 + p) + 10)))) J1' := by
      show m_pass_b2 _ (nI p) I' J' = _
      unfold m_pass_b2
      have hf : m_agePerson I' J' (nI p) = some (u2 (u2 I1' 1 (11 + 5 * p + 0) (nI (min 99 (r1 (2 + p) + 1)))) 1 (11 + 5 * p + 2) (nI (min 99 (r1 (14 + p) + 10))), J1') := by
        have g0 : m_get I1' (nI p) 0 = some (nI (r1 (2 + p))) := (pm_get _ (w := 0) (by omega) (by omega)).trans (by rw [b3.1])
        have p0 : m_put I1' (nI p) 0 (nI (min 99 (r1 (2 + p) + 1))) = some (u2 I1' 1 (11 + 5 * p + 0) (nI (min 99 (r1 (2 + p) + 1)))) := pm_put _ (w := 0) _ (by omega) (by omega)
        have g2 : m_get (u2 I1' 1 (11 + 5 * p + 0) (nI (min 99 (r1 (2 + p) + 1)))) (nI p) 2 = some (nI (r1 (14 + p))) := (pm_get _ (w := 2) (by omega) (by omega)).trans (by rw [h14])
        have p2 : m_put (u2 I1' 1 (11 + 5 * p + 0) (nI (min 99 (r1 (2 + p) + 1)))) (nI p) 2 (nI (min 99 (r1 (14 + p) + 10))) = some (u2 (u2 I1' 1 (11 + 5 * p + 0) (nI (min 99 (r1 (2 + p) + 1)))) 1 (11 + 5 * p + 2) (nI (min 99 (r1 (14 + p) + 10)))) := pm_put _ (w := 2) _ (by omega) (by omega)
        unfold m_agePerson
        rw [show m_agePerson_l2 (nI p) fu 0 I' J' = some (I1', J1') from by rw [show (0 : Int32) = nI 0 from rfl]; exact d2, pz_bs, pz_u2, g0, pz_bs, show nI (r1 (2 + p)) + (1 : Int32) = nI (r1 (2 + p) + 1) from nI_add _ 1, k1, pz_bs, p0, pz_bs, g2, pz_bs, show nI (r1 (14 + p)) + (10 : Int32) = nI (r1 (14 + p) + 10) from nI_add _ 10, k5, pz_bs, p2]
        rfl
      rw [show inb (1 : Int32) 1691 = true from rfl, pz_ck, show ix (1 : Int32) = 1 from rfl, hY.2.2.2.2.2.2.2.1.2.1, if_neg (fun q => absurd ((nI_leI (by omega) (by omega)).mp q) (by omega)), hf, pz_bs, pz_u2, show (1 : Int32) = nI 1 from rfl, pz_add, pz_lt]
    rw [sx, sm]
    obtain ⟨n2, r2, I2, I2', J2', m1, m2, m3, m4, m5, m6, m7, m8, m9⟩ := ih (p + 1) fx fm (n + n1) _ _ _ J1' (by omega) (by omega) (by omega) f1 ((rules_eq (tx.r 2 (by omega) (by omega))).trans hR) (by
      rw [tm.1 3 (by omega) (by omega) (by omega) (by omega), tm.2.2.1 4 (by omega) (by omega) (fun p hp => by omega)]
      exact hT)
    refine ⟨n1 + n2, r2, I2, I2', J2', by rw [m1, Nat.add_assoc], m2, m3, tx.tr m4, tm.tr m5, ?_, by omega, ?_, fun j hj => ?_⟩
    · rw [m6, u2_ne _ _ (Or.inl (by decide)), u2_ne _ _ (Or.inl (by decide)), d6, Int32.add_assoc, pz_add]
    · rw [m8, rU_no _ _ (by omega), rU_no _ _ (by omega), d8]
    · rw [m9 j hj, rU_no _ _ (by omega), rU_no _ _ (by omega), d9 j hj]
theorem pe_pass (h : YK s r k2 I I') {y : Nat} (hR : x_rules I T tN = some y) (hT : TxR X (I' 3) y (I' 1 4)) (h0 : r 0 < 9999) : ∃ (n1 : Nat) (r1 : Nat → Nat) (I1 I1' : PI) (J1' : PJ), x_passes I T X tN k2 = some (nI n1, I1) ∧ m_pass I' J' = some (I1', J1') ∧ YK s r1 k2 I1 I1' ∧ FYx k2 I I1 ∧ FYm (s 2 1) I' I1' J' J1' ∧ I1' 0 37 = I' 0 37 + nI n1 ∧ n1 ≤ 48 ∧ r1 0 = r 0 + 1 ∧ ∀ j, 20 ≤ j → r1 j = r j := by
  have h6 := h.2.2.1
  obtain ⟨n1, r1, I1, I1', J1', d1, d2, d3, d4, d5, d6, d7, d8, d9⟩ := pe_people (s 2 1) 0 fu fu 0 r I I' J' (by omega) (fu_gt (by omega)) (fu_gt (by omega)) h hR hT
  obtain ⟨e1, e2, e3⟩ := d3.year (J' := J1') (by omega)
  have g0 := d3.2.2.2.2.1 0 (by omega)
  refine ⟨n1, _, _, _, J1', ?_, ?_, e1, d4.tr e2, d5.tr e3, ?_, by omega, by rw [rU_at, d8], fun j hj => by rw [rU_no _ _ (by omega), d9 j hj]⟩
  · unfold x_passes
    rw [show (0 : Int32) = nI 0 from rfl, d1, pz_bs, pz_u2, Nat.zero_add, show ix (nI 0) = 0 from rfl, g0, show (1 : Int32) = nI 1 from rfl, pz_add, pz_lt]
  · unfold m_pass
    rw [show (0 : Int32) = nI 0 from rfl, d2, pz_bs, pz_u2, show inb (8 : Int32) 1691 = true from rfl, pz_ck, pz_ck, show ix (8 : Int32) = 8 from rfl, d3.2.2.2.2.2.2.2.1.2.2.1, show (1 : Int32) = nI 1 from rfl, pz_add, pz_lt]
  · rw [u2_ne _ _ (Or.inl (by decide)), d6]
end YQ
