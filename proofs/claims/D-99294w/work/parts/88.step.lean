/-! a step is kept: both sides -/
def shS (s : SN) : SN := u2 (itN (fun k z => uc z (28 + k) (27 + k) 0 0 141) 29 s) 2 5 29
def kpS (s : SN) : SN := u2 (uc s 3 (27 + s 2 5) 0 0 141) 2 5 (s 2 5 + 1)
def keepS (s : SN) : SN := kpS (if s 2 5 = 30 then shS s else s)
theorem shL (s : SN) : ∀ n, n ≤ 29 → (∀ k, (k < 27 ∨ 27 + n ≤ k) → itN (fun k z => uc z (28 + k) (27 + k) 0 0 141) n s k = s k) ∧ ∀ k j, k < n → j < 141 → itN (fun k z => uc z (28 + k) (27 + k) 0 0 141) n s (27 + k) j = s (28 + k) j
  | 0, _ => ⟨fun _ _ => rfl, fun k j hk => absurd hk (Nat.not_lt_zero k)⟩
  | n + 1, h => by
    obtain ⟨h1, h2⟩ := shL s n (by omega)
    refine ⟨fun k hk => ?_, fun k j hk hj => ?_⟩
    · show uc _ (28 + n) (27 + n) 0 0 141 k = s k
      rw [uc_ne _ (by omega)]
      exact h1 k (by omega)
    · show uc _ (28 + n) (27 + n) 0 0 141 (27 + k) j = s (28 + k) j
      by_cases e : k = n
      · subst e
        rw [uc_j _ hj, h1 (28 + k) (by omega)]
      · rw [uc_ne _ (by omega)]
        exact h2 k j (by omega) hj
theorem shS_ok (s : SN) : (∀ k, k ≠ 2 → k < 27 ∨ 56 ≤ k → shS s k = s k) ∧ (∀ j, j ≠ 5 → shS s 2 j = s 2 j) ∧ shS s 2 5 = 29 ∧ ∀ k j, k < 29 → j < 141 → shS s (27 + k) j = s (28 + k) j := by
  obtain ⟨h1, h2⟩ := shL s 29 (by omega)
  unfold shS
  refine ⟨fun k hk hk2 => ?_, fun j hj => ?_, u2_eq _ _ _ _, fun k j hk hj => ?_⟩
  · simp (disch := omega) only [pz_row, pz_at, pz_no]
    exact h1 k (by omega)
  · simp (disch := omega) only [pz_row, pz_at, pz_no]
    rw [h1 2 (by omega)]
  · simp (disch := omega) only [pz_row, pz_at, pz_no]
    exact h2 k j hk hj
theorem kpS_ok (s : SN) (hn : s 2 5 < 30) : (∀ k, k ≠ 2 → k < 27 ∨ 57 ≤ k → kpS s k = s k) ∧ (∀ j, j ≠ 5 → kpS s 2 j = s 2 j) ∧ kpS s 2 5 = s 2 5 + 1 ∧ (∀ k j, k < s 2 5 → j < 141 → kpS s (27 + k) j = s (27 + k) j) ∧ ∀ j, j < 141 → kpS s (27 + s 2 5) j = s 3 j := by
  unfold kpS
  refine ⟨fun k hk hk2 => ?_, fun j hj => ?_, u2_eq _ _ _ _, fun k j hk hj => ?_, fun j hj => ?_⟩
  · simp (disch := omega) only [pz_row, pz_at, pz_no]
    rw [uc_ne _ (by omega)]
  · simp (disch := omega) only [pz_row, pz_at, pz_no]
    rw [uc_ne _ (by omega)]
  · simp (disch := omega) only [pz_row, pz_at, pz_no]
    rw [uc_ne _ (by omega)]
  · simp (disch := omega) only [pz_row, pz_at, pz_no]
    exact uc_j _ hj
theorem MStp.mv {r : Nat → Nat} {nP x y c : Nat} {A A1 : Nat → Int32} (h : MStp r nP A x c) (hn : nP ≤ 6) (hr : r 20 ≤ 30) (hA : ∀ d, d < 52 → A1 (y + d) = A (x + d)) (hT : ∀ p w, p < nP → 3 ≤ w → w < 5 → A1 (11 + 5 * p + w) = A (11 + 5 * p + w)) : MStp r nP A1 y c := by
  obtain ⟨h1, h2, h3, h4, h5, h6, h7, h8⟩ := h
  refine ⟨h1, (hA 0 (by omega)).trans h2, by rw [hA 1 (by omega)]; exact h3, by rw [hA 2 (by omega)]; exact h4, by rw [hA 3 (by omega)]; exact h5, fun p hp => ?_, fun p hp hp2 => ?_, fun i hi => ?_⟩
  · have a1 := hA (4 + 3 * p) (by omega)
    have a2 := hA (4 + 3 * p + 1) (by omega)
    have a3 := hA (4 + 3 * p + 2) (by omega)
    simp only [← Nat.add_assoc] at a1 a2 a3
    rw [a1, a2, a3]
    exact h6 p hp
  · rw [hT p 3 hp2 (by omega) (by omega), hT p 4 hp2 (by omega) (by omega)]
    exact h7 p hp hp2
  · have a1 := hA (22 + i) (by omega)
    simp only [← Nat.add_assoc] at a1
    rw [a1]
    exact h8 i hi
section KS
variable {s : SN} {I I' : PI}
/-- the first half: a step goes when all places are taken -/
theorem shS_V (hV : VSt s) (h5 : s 2 5 = 30) : VSt (shS s) := by
  obtain ⟨⟨v0, v1, v2, v3, v4, v5, v6, v7⟩, vr, vf, vs, va, ve, vt⟩ := hV
  obtain ⟨q1, q2, q3, q4⟩ := shS_ok s
  refine ⟨⟨by rw [q2 0 (by omega)]; exact v0, by rw [q2 1 (by omega)]; exact v1, by rw [q2 2 (by omega)]; exact v2, by rw [q2 3 (by omega)]; exact v3, by rw [q2 4 (by omega), q2 3 (by omega)]; exact v4, by omega, by rw [q2 6 (by omega)]; exact v6, by rw [q2 7 (by omega)]; exact v7⟩, ?_, ?_, ?_, ?_, ?_, fun k hk => ?_⟩
  · rw [q1 3 (by omega) (by omega), q2 0 (by omega), q2 1 (by omega)]; exact vr
  · rw [q1 4 (by omega) (by omega), q1 5 (by omega) (by omega), q2 0 (by omega)]; exact vf
  · rw [q1 6 (by omega) (by omega), q2 2 (by omega)]; exact vs
  · rw [q2 6 (by omega)]
    intro i hi
    rw [q1 _ (by omega) (by omega)]
    exact va i hi
  · rw [q2 7 (by omega), q2 1 (by omega)]
    intro i hi
    rw [q1 _ (by omega) (by omega)]
    exact ve i hi
  · rw [q2 0 (by omega), q2 1 (by omega)]
    exact (vt (k + 1) (by omega)).c v1 (fun j hj => by rw [q4 k j (by omega) hj]; congr 1; omega)
theorem px_sh (hX : XR s I) : ∃ I1, xs_keeps_l13 fu 1 I = some I1 ∧ XR (shS s) (u2 I1 2 5 (nI 29)) ∧ (∀ k, k < 27 ∨ 57 ≤ k → I1 k = I k) := by
  have h := it_loop (fun k v (A : PI) => xs_keeps_l13 k (nI (1 + v)) A) 29 (fun A => some A) (fun k z => uc z (28 + k) (27 + k) 0 0 141) (fun v A => XR (itN (fun k z => uc z (28 + k) (27 + k) 0 0 141) v s) A ∧ ∀ k, k < 27 ∨ 57 ≤ k → A k = I k) I ⟨hX, fun _ _ => rfl⟩ (fun v A hv hA => ⟨xrC hA.1 (by omega) (by omega), fun k hk => by rw [uc_ne _ (by omega)]; exact hA.2 k hk⟩) (fun k A _ => by
    show xs_keeps_b13 (xs_keeps_l13 k) (nI 30) A = some A
    unfold xs_keeps_b13
    simp (disch := omega) only [pz_0, pz_1, pz_2, pz_3, pz_4, pz_5, pz_6, pz_7, pz_8, pz_9, pz_10, pz_11, pz_12, pz_13, pz_14, pz_15, pz_16, pz_20, pz_21, pz_22, pz_24, pz_25, pz_30, pz_31, pz_32, pz_35, pz_40, pz_41, pz_42, pz_43, pz_45, pz_47, pz_48, pz_52, pz_57, pz_58, pz_59, pz_60, pz_61, pz_62, pz_63, pz_65, pz_85, pz_90, pz_97, pz_98, pz_99, pz_100, pz_101, pz_102, pz_103, pz_104, pz_105, pz_107, pz_108, pz_109, pz_110, pz_111, pz_112, pz_114, pz_115, pz_116, pz_119, pz_120, pz_121, pz_122, pz_125, pz_127, pz_153, pz_200, pz_201, pz_202, pz_203, pz_204, pz_205, pz_206, pz_207, pz_208, pz_209, pz_210, pz_211, pz_212, pz_213, pz_214, pz_215, pz_216, pz_217, pz_218, pz_219, pz_220, pz_221, pz_222, pz_223, pz_224, pz_225, pz_255, pz_256, pz_271, pz_300, pz_301, pz_302, pz_303, pz_304, pz_400, pz_401, pz_521, pz_705, pz_1000, pz_1508, pz_1661, pz_1691, pz_2400, pz_3125, pz_9999, pz_10000, pz_30703, pz_65536, pz_99999, pz_1000000, pz_lt, pz_ck, pz_u2, pz_u3, pz_u4, pz_bs, pz_ix, pz_inb, pz_add, pz_mul, pz_sub, nI_leI, nI_ltI, nI_eq, pz_bIt, pz_bIf, pz_isb, pz_isb0, pz_isb1, pz_bI0, pz_bI1, Nat.zero_le, true_and, and_true, decide_true, decide_false, Bool.true_eq_false, Bool.false_eq_true, if_true, if_false, Nat.reduceAdd, Nat.reduceMul, Nat.reduceSub, Nat.reduceEqDiff, Nat.reduceLeDiff, Nat.reduceLT, Nat.one_ne_zero, Nat.zero_ne_one, Nat.le_refl]) (fun k v A hv _ => by
    show xs_keeps_b13 (xs_keeps_l13 k) (nI (1 + v)) A = xs_keeps_l13 k (nI (1 + v + 1)) (uc A (28 + v) (27 + v) 0 0 141)
    have c : ¬ 30 ≤ 1 + v := by omega
    have e1 : 27 + (1 + v) = 28 + v := by omega
    have e2 : 27 + (1 + v - 1) = 27 + v := by omega
    unfold xs_keeps_b13
    simp (disch := omega) only [pz_0, pz_1, pz_2, pz_3, pz_4, pz_5, pz_6, pz_7, pz_8, pz_9, pz_10, pz_11, pz_12, pz_13, pz_14, pz_15, pz_16, pz_20, pz_21, pz_22, pz_24, pz_25, pz_30, pz_31, pz_32, pz_35, pz_40, pz_41, pz_42, pz_43, pz_45, pz_47, pz_48, pz_52, pz_57, pz_58, pz_59, pz_60, pz_61, pz_62, pz_63, pz_65, pz_85, pz_90, pz_97, pz_98, pz_99, pz_100, pz_101, pz_102, pz_103, pz_104, pz_105, pz_107, pz_108, pz_109, pz_110, pz_111, pz_112, pz_114, pz_115, pz_116, pz_119, pz_120, pz_121, pz_122, pz_125, pz_127, pz_153, pz_200, pz_201, pz_202, pz_203, pz_204, pz_205, pz_206, pz_207, pz_208, pz_209, pz_210, pz_211, pz_212, pz_213, pz_214, pz_215, pz_216, pz_217, pz_218, pz_219, pz_220, pz_221, pz_222, pz_223, pz_224, pz_225, pz_255, pz_256, pz_271, pz_300, pz_301, pz_302, pz_303, pz_304, pz_400, pz_401, pz_521, pz_705, pz_1000, pz_1508, pz_1661, pz_1691, pz_2400, pz_3125, pz_9999, pz_10000, pz_30703, pz_65536, pz_99999, pz_1000000, pz_lt, pz_ck, pz_u2, pz_u3, pz_u4, pz_bs, pz_ix, pz_inb, pz_add, pz_mul, pz_sub, nI_leI, nI_ltI, nI_eq, pz_bIt, pz_bIf, pz_isb, pz_isb0, pz_isb1, pz_bI0, pz_bI1, Nat.zero_le, true_and, and_true, decide_true, decide_false, Bool.true_eq_false, Bool.false_eq_true, if_true, if_false, Nat.reduceAdd, Nat.reduceMul, Nat.reduceSub, Nat.reduceEqDiff, Nat.reduceLeDiff, Nat.reduceLT, Nat.one_ne_zero, Nat.zero_ne_one, c, px_copy, e1, e2]) (by decide)
  obtain ⟨h1, h2, h3⟩ := h
  exact ⟨_, h1, xrU h2 29 (by omega), h3⟩
theorem pm_sh (hV : VSt s) (h5 : s 2 5 = 30) (hM : MR s (I' 1)) : ∃ I1, m_keepStep_l13 fu 0 I' = some I1 ∧ MR (shS s) (u2 I1 1 5 (nI 29) 1) ∧ (∀ k, k ≠ 1 → I1 k = I' k) ∧ I1 1 5 = I' 1 5 := by
  have h := pz_loop (fun k v (A : PI) => m_keepStep_l13 k (nI v) A) 1508 (fun A => some A) (fun v A => (∀ k, k ≠ 1 → A k = I' k) ∧ (∀ i, 101 ≤ i → i < 101 + v → A 1 i = I' 1 (i + 52)) ∧ ∀ i, i < 101 ∨ 101 + v ≤ i → A 1 i = I' 1 i) (fun k A _ => by
      show m_keepStep_b13 (m_keepStep_l13 k) (nI 1508) A = some A
      unfold m_keepStep_b13
      simp (disch := omega) only [pz_0, pz_1, pz_2, pz_3, pz_4, pz_5, pz_6, pz_7, pz_8, pz_9, pz_10, pz_11, pz_12, pz_13, pz_14, pz_15, pz_16, pz_20, pz_21, pz_22, pz_24, pz_25, pz_30, pz_31, pz_32, pz_35, pz_40, pz_41, pz_42, pz_43, pz_45, pz_47, pz_48, pz_52, pz_57, pz_58, pz_59, pz_60, pz_61, pz_62, pz_63, pz_65, pz_85, pz_90, pz_97, pz_98, pz_99, pz_100, pz_101, pz_102, pz_103, pz_104, pz_105, pz_107, pz_108, pz_109, pz_110, pz_111, pz_112, pz_114, pz_115, pz_116, pz_119, pz_120, pz_121, pz_122, pz_125, pz_127, pz_153, pz_200, pz_201, pz_202, pz_203, pz_204, pz_205, pz_206, pz_207, pz_208, pz_209, pz_210, pz_211, pz_212, pz_213, pz_214, pz_215, pz_216, pz_217, pz_218, pz_219, pz_220, pz_221, pz_222, pz_223, pz_224, pz_225, pz_255, pz_256, pz_271, pz_300, pz_301, pz_302, pz_303, pz_304, pz_400, pz_401, pz_521, pz_705, pz_1000, pz_1508, pz_1661, pz_1691, pz_2400, pz_3125, pz_9999, pz_10000, pz_30703, pz_65536, pz_99999, pz_1000000, pz_lt, pz_ck, pz_u2, pz_u3, pz_u4, pz_bs, pz_ix, pz_inb, pz_add, pz_mul, pz_sub, nI_leI, nI_ltI, nI_eq, pz_bIt, pz_bIf, pz_isb, pz_isb0, pz_isb1, pz_bI0, pz_bI1, Nat.zero_le, true_and, and_true, decide_true, decide_false, Bool.true_eq_false, Bool.false_eq_true, if_true, if_false, Nat.reduceAdd, Nat.reduceMul, Nat.reduceSub, Nat.reduceEqDiff, Nat.reduceLeDiff, Nat.reduceLT, Nat.one_ne_zero, Nat.zero_ne_one, Nat.le_refl]) (fun k v A hv hA => by
      refine ⟨u2 A 1 (101 + v) (A 1 (153 + v)), ?_, fun k hk => ?_, fun i h1 h2 => ?_, fun i hi => ?_⟩
      · show m_keepStep_b13 (m_keepStep_l13 k) (nI v) A = _
        unfold m_keepStep_b13
        simp (disch := omega) only [pz_0, pz_1, pz_2, pz_3, pz_4, pz_5, pz_6, pz_7, pz_8, pz_9, pz_10, pz_11, pz_12, pz_13, pz_14, pz_15, pz_16, pz_20, pz_21, pz_22, pz_24, pz_25, pz_30, pz_31, pz_32, pz_35, pz_40, pz_41, pz_42, pz_43, pz_45, pz_47, pz_48, pz_52, pz_57, pz_58, pz_59, pz_60, pz_61, pz_62, pz_63, pz_65, pz_85, pz_90, pz_97, pz_98, pz_99, pz_100, pz_101, pz_102, pz_103, pz_104, pz_105, pz_107, pz_108, pz_109, pz_110, pz_111, pz_112, pz_114, pz_115, pz_116, pz_119, pz_120, pz_121, pz_122, pz_125, pz_127, pz_153, pz_200, pz_201, pz_202, pz_203, pz_204, pz_205, pz_206, pz_207, pz_208, pz_209, pz_210, pz_211, pz_212, pz_213, pz_214, pz_215, pz_216, pz_217, pz_218, pz_219, pz_220, pz_221, pz_222, pz_223, pz_224, pz_225, pz_255, pz_256, pz_271, pz_300, pz_301, pz_302, pz_303, pz_304, pz_400, pz_401, pz_521, pz_705, pz_1000, pz_1508, pz_1661, pz_1691, pz_2400, pz_3125, pz_9999, pz_10000, pz_30703, pz_65536, pz_99999, pz_1000000, pz_lt, pz_ck, pz_u2, pz_u3, pz_u4, pz_bs, pz_ix, pz_inb, pz_add, pz_mul, pz_sub, nI_leI, nI_ltI, nI_eq, pz_bIt, pz_bIf, pz_isb, pz_isb0, pz_isb1, pz_bI0, pz_bI1, Nat.zero_le, true_and, and_true, decide_true, decide_false, Bool.true_eq_false, Bool.false_eq_true, if_true, if_false, Nat.reduceAdd, Nat.reduceMul, Nat.reduceSub, Nat.reduceEqDiff, Nat.reduceLeDiff, Nat.reduceLT, Nat.one_ne_zero, Nat.zero_ne_one, Nat.not_le.mpr hv]
      · simp (disch := omega) only [pz_row, pz_at, pz_no]
        exact hA.1 k hk
      · by_cases e : i = 101 + v
        · simp (disch := omega) only [pz_row, pz_at, pz_no]
          rw [hA.2.2 _ (by omega), e]
          congr 1
          omega
        · simp (disch := omega) only [pz_row, pz_at, pz_no]
          exact hA.2.1 i h1 (by omega)
      · simp (disch := omega) only [pz_row, pz_at, pz_no]
        exact hA.2.2 i (by omega)) 1508 fu 0 I' (by omega) (fu_gt (by omega)) ⟨fun _ _ => rfl, fun i h1 h2 => absurd h2 (by omega), fun _ _ => rfl⟩
  obtain ⟨A, ⟨a1, a2, a3⟩, e⟩ := h
  obtain ⟨⟨v0, v1, v2, v3, v4, v5, v6, v7⟩, vr, vf, vs, va, ve, vt⟩ := hV
  obtain ⟨⟨m0, m1, m2, m3, m4, m5, m6, m7, m8, m9, m10⟩, mp, mf, ms, ma, me, mb, mt⟩ := hM
  obtain ⟨q1, q2, q3, q4⟩ := shS_ok s
  have hA : ∀ i, i ≠ 5 → (i < 101 ∨ 1609 ≤ i) → u2 A 1 5 (nI 29) 1 i = I' 1 i := fun i h1 h2 => by
    simp (disch := omega) only [pz_row, pz_at, pz_no]
    exact a3 i (by omega)
  refine ⟨A, e, ⟨?_, ?_, ?_, ?_, ?_, ?_, ?_, fun k hk => ?_⟩, a1, a3 5 (by omega)⟩
  · exact ⟨by rw [hA 0 (by omega) (by omega), q2 0 (by omega)]; exact m0, by rw [hA 1 (by omega) (by omega), q2 1 (by omega)]; exact m1, by rw [hA 2 (by omega) (by omega), q2 2 (by omega)]; exact m2, by rw [hA 3 (by omega) (by omega), q2 3 (by omega)]; exact m3, by rw [hA 4 (by omega) (by omega), q2 4 (by omega)]; exact m4, by rw [q3]; exact u2_eq _ _ _ _, by rw [hA 6 (by omega) (by omega), q2 6 (by omega)]; exact m6, by rw [hA 7 (by omega) (by omega), q2 7 (by omega)]; exact m7, by rw [hA 8 (by omega) (by omega), q1 3 (by omega) (by omega)]; exact m8, by rw [hA 9 (by omega) (by omega), q1 3 (by omega) (by omega)]; exact m9, by rw [hA 10 (by omega) (by omega), q1 3 (by omega) (by omega)]; exact m10⟩
  · exact MPeo.c mp v1 (q2 1 (by omega)) (q1 3 (by omega) (by omega)) (fun i h1 h2 => hA i (by omega) (by omega))
  · exact MFor.c mf (q1 4 (by omega) (by omega)) (q1 5 (by omega) (by omega)) (fun i h1 h2 => hA i (by omega) (by omega))
  · exact MSto.c ms v2 (q2 2 (by omega)) (q1 6 (by omega) (by omega)) (fun i h1 h2 => hA i (by omega) (by omega))
  · exact MSai.c ma v6 (q2 6 (by omega)) (fun i hi => q1 _ (by omega) (by omega)) (fun i h1 h2 => hA i (by omega) (by omega))
  · exact MSee.c me v7 (q2 7 (by omega)) (fun i hi => q1 _ (by omega) (by omega)) (fun i h1 h2 => hA i (by omega) (by omega))
  · exact MBoo.c mb vr.2.2.1 (q1 3 (by omega) (by omega)) (fun i h1 h2 => hA i (by omega) (by omega))
  · obtain ⟨k', ek⟩ : ∃ z, z = k + 1 := ⟨_, rfl⟩
    obtain ⟨c, hc⟩ := mt k' (by omega)
    refine ⟨c, ?_⟩
    rw [q2 1 (by omega)]
    have hr : (s (27 + k')) 20 ≤ 30 := (vt k' (by omega)).2.2.1
    obtain ⟨B, eB⟩ : ∃ B : Nat → Int32, B = u2 A 1 5 (nI 29) 1 := ⟨_, rfl⟩
    have hB : ∀ d, d < 52 → B (101 + 52 * k + d) = I' 1 (101 + 52 * k' + d) := fun d hd => by
      have e : 101 + 52 * k + d + 52 = 101 + 52 * k' + d := by omega
      have e2 := a2 (101 + 52 * k + d) (by omega) (by omega)
      rw [e] at e2
      rw [eB]
      simp (disch := omega) only [pz_row, pz_at, pz_no]
      exact e2
    have hT : ∀ p w, p < s 2 1 → 3 ≤ w → w < 5 → B (11 + 5 * p + w) = I' 1 (11 + 5 * p + w) := fun p w hp h1 h2 => by
      rw [eB]
      exact hA _ (by omega) (by omega)
    have hc2 : MStp (s (27 + k')) (s 2 1) B (101 + 52 * k) c := hc.mv v1 hr hB hT
    have hc3 : MStp (shS s (27 + k)) (s 2 1) B (101 + 52 * k) c := hc2.r v1 hr (fun j hj => by
      have e : 28 + k = 27 + k' := by omega
      have e2 := q4 k j (by omega) hj
      rw [e] at e2
      exact e2)
    rw [← eB]
    exact hc3
end KS
