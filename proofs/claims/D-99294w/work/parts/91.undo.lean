/-! members one by one, 14: undo -/
section UN
variable {s si : SN} {I : PI} {T : PT} {X : TS} {tN : XCo} {I' : PI} {J' : PJ}
theorem m_u36 (B : PI) {x : Nat} (hx : x ≤ 1609) (hx0 : 101 ≤ x) : ∃ A, m_undo_l36 (nI x) fu (nI 0) B = some A ∧ Wr A B 8 3 (fun d => B 1 (x + 1 + d)) :=
  wr_loop (fun k v A => m_undo_l36 (nI x) k (nI v) A) 3 8 (fun d => x + 1 + d) B (by decide) (fun k A _ => by
    show m_undo_b36 (nI x) (m_undo_l36 (nI x) k) (nI 3) A = some A
    unfold m_undo_b36
    simp (disch := omega) only [pz_0, pz_1, pz_2, pz_3, pz_4, pz_5, pz_6, pz_7, pz_8, pz_9, pz_10, pz_11, pz_12, pz_13, pz_14, pz_15, pz_16, pz_20, pz_21, pz_22, pz_24, pz_25, pz_30, pz_31, pz_32, pz_35, pz_40, pz_41, pz_42, pz_43, pz_45, pz_47, pz_48, pz_52, pz_57, pz_58, pz_59, pz_60, pz_61, pz_62, pz_63, pz_65, pz_85, pz_90, pz_97, pz_98, pz_99, pz_100, pz_101, pz_102, pz_103, pz_104, pz_105, pz_107, pz_108, pz_109, pz_110, pz_111, pz_112, pz_114, pz_115, pz_116, pz_119, pz_120, pz_121, pz_122, pz_125, pz_127, pz_153, pz_200, pz_201, pz_202, pz_203, pz_204, pz_205, pz_206, pz_207, pz_208, pz_209, pz_210, pz_211, pz_212, pz_213, pz_214, pz_215, pz_216, pz_217, pz_218, pz_219, pz_220, pz_221, pz_222, pz_223, pz_224, pz_225, pz_255, pz_256, pz_271, pz_300, pz_301, pz_302, pz_303, pz_304, pz_400, pz_401, pz_521, pz_705, pz_1000, pz_1508, pz_1661, pz_1691, pz_2400, pz_3125, pz_9999, pz_10000, pz_30703, pz_65536, pz_99999, pz_1000000, pz_lt, pz_ck, pz_u2, pz_u3, pz_u4, pz_bs, pz_ix, pz_inb, pz_add, pz_mul, pz_sub, nI_leI, nI_ltI, nI_eq, pz_bIt, pz_bIf, pz_isb, pz_isb0, pz_isb1, pz_bI0, pz_bI1, Nat.zero_le, true_and, and_true, decide_true, decide_false, Bool.true_eq_false, Bool.false_eq_true, if_true, if_false, Nat.reduceAdd, Nat.reduceMul, Nat.reduceSub, Nat.reduceEqDiff, Nat.reduceLeDiff, Nat.reduceLT, Nat.one_ne_zero, Nat.zero_ne_one, Nat.le_refl]) (fun k v A hv _ => by
    show m_undo_b36 (nI x) (m_undo_l36 (nI x) k) (nI v) A = _
    unfold m_undo_b36
    simp (disch := omega) only [pz_0, pz_1, pz_2, pz_3, pz_4, pz_5, pz_6, pz_7, pz_8, pz_9, pz_10, pz_11, pz_12, pz_13, pz_14, pz_15, pz_16, pz_20, pz_21, pz_22, pz_24, pz_25, pz_30, pz_31, pz_32, pz_35, pz_40, pz_41, pz_42, pz_43, pz_45, pz_47, pz_48, pz_52, pz_57, pz_58, pz_59, pz_60, pz_61, pz_62, pz_63, pz_65, pz_85, pz_90, pz_97, pz_98, pz_99, pz_100, pz_101, pz_102, pz_103, pz_104, pz_105, pz_107, pz_108, pz_109, pz_110, pz_111, pz_112, pz_114, pz_115, pz_116, pz_119, pz_120, pz_121, pz_122, pz_125, pz_127, pz_153, pz_200, pz_201, pz_202, pz_203, pz_204, pz_205, pz_206, pz_207, pz_208, pz_209, pz_210, pz_211, pz_212, pz_213, pz_214, pz_215, pz_216, pz_217, pz_218, pz_219, pz_220, pz_221, pz_222, pz_223, pz_224, pz_225, pz_255, pz_256, pz_271, pz_300, pz_301, pz_302, pz_303, pz_304, pz_400, pz_401, pz_521, pz_705, pz_1000, pz_1508, pz_1661, pz_1691, pz_2400, pz_3125, pz_9999, pz_10000, pz_30703, pz_65536, pz_99999, pz_1000000, pz_lt, pz_ck, pz_u2, pz_u3, pz_u4, pz_bs, pz_ix, pz_inb, pz_add, pz_mul, pz_sub, nI_leI, nI_ltI, nI_eq, pz_bIt, pz_bIf, pz_isb, pz_isb0, pz_isb1, pz_bI0, pz_bI1, Nat.zero_le, true_and, and_true, decide_true, decide_false, Bool.true_eq_false, Bool.false_eq_true, if_true, if_false, Nat.reduceAdd, Nat.reduceMul, Nat.reduceSub, Nat.reduceEqDiff, Nat.reduceLeDiff, Nat.reduceLT, Nat.one_ne_zero, Nat.zero_ne_one, Nat.not_le.mpr hv]) (fun v hv => by omega)
theorem m_u144 (B : PI) {x : Nat} (hx : x ≤ 1609) (hx0 : 101 ≤ x) : ∃ A, m_undo_l144 (nI x) fu (nI 0) B = some A ∧ Wr A B 1661 30 (fun d => B 1 (x + 22 + d)) :=
  wr_loop (fun k v A => m_undo_l144 (nI x) k (nI v) A) 30 1661 (fun d => x + 22 + d) B (by decide) (fun k A _ => by
    show m_undo_b144 (nI x) (m_undo_l144 (nI x) k) (nI 30) A = some A
    unfold m_undo_b144
    simp (disch := omega) only [pz_0, pz_1, pz_2, pz_3, pz_4, pz_5, pz_6, pz_7, pz_8, pz_9, pz_10, pz_11, pz_12, pz_13, pz_14, pz_15, pz_16, pz_20, pz_21, pz_22, pz_24, pz_25, pz_30, pz_31, pz_32, pz_35, pz_40, pz_41, pz_42, pz_43, pz_45, pz_47, pz_48, pz_52, pz_57, pz_58, pz_59, pz_60, pz_61, pz_62, pz_63, pz_65, pz_85, pz_90, pz_97, pz_98, pz_99, pz_100, pz_101, pz_102, pz_103, pz_104, pz_105, pz_107, pz_108, pz_109, pz_110, pz_111, pz_112, pz_114, pz_115, pz_116, pz_119, pz_120, pz_121, pz_122, pz_125, pz_127, pz_153, pz_200, pz_201, pz_202, pz_203, pz_204, pz_205, pz_206, pz_207, pz_208, pz_209, pz_210, pz_211, pz_212, pz_213, pz_214, pz_215, pz_216, pz_217, pz_218, pz_219, pz_220, pz_221, pz_222, pz_223, pz_224, pz_225, pz_255, pz_256, pz_271, pz_300, pz_301, pz_302, pz_303, pz_304, pz_400, pz_401, pz_521, pz_705, pz_1000, pz_1508, pz_1661, pz_1691, pz_2400, pz_3125, pz_9999, pz_10000, pz_30703, pz_65536, pz_99999, pz_1000000, pz_lt, pz_ck, pz_u2, pz_u3, pz_u4, pz_bs, pz_ix, pz_inb, pz_add, pz_mul, pz_sub, nI_leI, nI_ltI, nI_eq, pz_bIt, pz_bIf, pz_isb, pz_isb0, pz_isb1, pz_bI0, pz_bI1, Nat.zero_le, true_and, and_true, decide_true, decide_false, Bool.true_eq_false, Bool.false_eq_true, if_true, if_false, Nat.reduceAdd, Nat.reduceMul, Nat.reduceSub, Nat.reduceEqDiff, Nat.reduceLeDiff, Nat.reduceLT, Nat.one_ne_zero, Nat.zero_ne_one, Nat.le_refl]) (fun k v A hv _ => by
    show m_undo_b144 (nI x) (m_undo_l144 (nI x) k) (nI v) A = _
    unfold m_undo_b144
    simp (disch := omega) only [pz_0, pz_1, pz_2, pz_3, pz_4, pz_5, pz_6, pz_7, pz_8, pz_9, pz_10, pz_11, pz_12, pz_13, pz_14, pz_15, pz_16, pz_20, pz_21, pz_22, pz_24, pz_25, pz_30, pz_31, pz_32, pz_35, pz_40, pz_41, pz_42, pz_43, pz_45, pz_47, pz_48, pz_52, pz_57, pz_58, pz_59, pz_60, pz_61, pz_62, pz_63, pz_65, pz_85, pz_90, pz_97, pz_98, pz_99, pz_100, pz_101, pz_102, pz_103, pz_104, pz_105, pz_107, pz_108, pz_109, pz_110, pz_111, pz_112, pz_114, pz_115, pz_116, pz_119, pz_120, pz_121, pz_122, pz_125, pz_127, pz_153, pz_200, pz_201, pz_202, pz_203, pz_204, pz_205, pz_206, pz_207, pz_208, pz_209, pz_210, pz_211, pz_212, pz_213, pz_214, pz_215, pz_216, pz_217, pz_218, pz_219, pz_220, pz_221, pz_222, pz_223, pz_224, pz_225, pz_255, pz_256, pz_271, pz_300, pz_301, pz_302, pz_303, pz_304, pz_400, pz_401, pz_521, pz_705, pz_1000, pz_1508, pz_1661, pz_1691, pz_2400, pz_3125, pz_9999, pz_10000, pz_30703, pz_65536, pz_99999, pz_1000000, pz_lt, pz_ck, pz_u2, pz_u3, pz_u4, pz_bs, pz_ix, pz_inb, pz_add, pz_mul, pz_sub, nI_leI, nI_ltI, nI_eq, pz_bIt, pz_bIf, pz_isb, pz_isb0, pz_isb1, pz_bI0, pz_bI1, Nat.zero_le, true_and, and_true, decide_true, decide_false, Bool.true_eq_false, Bool.false_eq_true, if_true, if_false, Nat.reduceAdd, Nat.reduceMul, Nat.reduceSub, Nat.reduceEqDiff, Nat.reduceLeDiff, Nat.reduceLT, Nat.one_ne_zero, Nat.zero_ne_one, Nat.not_le.mpr hv]) (fun v hv => by omega)
/-- a person out of a step: those that were told then -/
theorem m_u95 (B : PI) {x p c : Nat} (hx : x ≤ 1609) (hx0 : 101 ≤ x) (hp : p < 6) (hc : c ≤ 6) (hxc : B 1 x = nI c) : ∃ A, m_undo_l95 (nI x) (nI p) fu (nI 0) B = some A ∧ (p < c → Wr A B (11 + 5 * p) 3 (fun d => B 1 (x + 4 + 3 * p + d))) ∧ (¬ p < c → A = B) := by
  by_cases q : p < c
  · obtain ⟨A, e, h⟩ := wr_loop (fun k v A => m_undo_l95 (nI x) (nI p) k (nI v) A) 3 (11 + 5 * p) (fun d => x + 4 + 3 * p + d) B (by decide) (fun k A _ => by
      show m_undo_b95 (nI x) (nI p) (m_undo_l95 (nI x) (nI p) k) (nI 3) A = some A
      unfold m_undo_b95
      simp (disch := omega) only [pz_0, pz_1, pz_2, pz_3, pz_4, pz_5, pz_6, pz_7, pz_8, pz_9, pz_10, pz_11, pz_12, pz_13, pz_14, pz_15, pz_16, pz_20, pz_21, pz_22, pz_24, pz_25, pz_30, pz_31, pz_32, pz_35, pz_40, pz_41, pz_42, pz_43, pz_45, pz_47, pz_48, pz_52, pz_57, pz_58, pz_59, pz_60, pz_61, pz_62, pz_63, pz_65, pz_85, pz_90, pz_97, pz_98, pz_99, pz_100, pz_101, pz_102, pz_103, pz_104, pz_105, pz_107, pz_108, pz_109, pz_110, pz_111, pz_112, pz_114, pz_115, pz_116, pz_119, pz_120, pz_121, pz_122, pz_125, pz_127, pz_153, pz_200, pz_201, pz_202, pz_203, pz_204, pz_205, pz_206, pz_207, pz_208, pz_209, pz_210, pz_211, pz_212, pz_213, pz_214, pz_215, pz_216, pz_217, pz_218, pz_219, pz_220, pz_221, pz_222, pz_223, pz_224, pz_225, pz_255, pz_256, pz_271, pz_300, pz_301, pz_302, pz_303, pz_304, pz_400, pz_401, pz_521, pz_705, pz_1000, pz_1508, pz_1661, pz_1691, pz_2400, pz_3125, pz_9999, pz_10000, pz_30703, pz_65536, pz_99999, pz_1000000, pz_lt, pz_ck, pz_u2, pz_u3, pz_u4, pz_bs, pz_ix, pz_inb, pz_add, pz_mul, pz_sub, nI_leI, nI_ltI, nI_eq, pz_bIt, pz_bIf, pz_isb, pz_isb0, pz_isb1, pz_bI0, pz_bI1, Nat.zero_le, true_and, and_true, decide_true, decide_false, Bool.true_eq_false, Bool.false_eq_true, if_true, if_false, Nat.reduceAdd, Nat.reduceMul, Nat.reduceSub, Nat.reduceEqDiff, Nat.reduceLeDiff, Nat.reduceLT, Nat.one_ne_zero, Nat.zero_ne_one, Nat.le_refl]) (fun k v A hv hA => by
      show m_undo_b95 (nI x) (nI p) (m_undo_l95 (nI x) (nI p) k) (nI v) A = _
      have e1 : A 1 x = nI c := by rw [hA.2.2 x (by omega)]; exact hxc
      have e2 := pm_put A (p := p) (w := v) (A 1 (x + 4 + 3 * p + v)) hp (by omega)
      have e3 : ¬ c ≤ p := by omega
      unfold m_undo_b95
      simp (disch := omega) only [pz_0, pz_1, pz_2, pz_3, pz_4, pz_5, pz_6, pz_7, pz_8, pz_9, pz_10, pz_11, pz_12, pz_13, pz_14, pz_15, pz_16, pz_20, pz_21, pz_22, pz_24, pz_25, pz_30, pz_31, pz_32, pz_35, pz_40, pz_41, pz_42, pz_43, pz_45, pz_47, pz_48, pz_52, pz_57, pz_58, pz_59, pz_60, pz_61, pz_62, pz_63, pz_65, pz_85, pz_90, pz_97, pz_98, pz_99, pz_100, pz_101, pz_102, pz_103, pz_104, pz_105, pz_107, pz_108, pz_109, pz_110, pz_111, pz_112, pz_114, pz_115, pz_116, pz_119, pz_120, pz_121, pz_122, pz_125, pz_127, pz_153, pz_200, pz_201, pz_202, pz_203, pz_204, pz_205, pz_206, pz_207, pz_208, pz_209, pz_210, pz_211, pz_212, pz_213, pz_214, pz_215, pz_216, pz_217, pz_218, pz_219, pz_220, pz_221, pz_222, pz_223, pz_224, pz_225, pz_255, pz_256, pz_271, pz_300, pz_301, pz_302, pz_303, pz_304, pz_400, pz_401, pz_521, pz_705, pz_1000, pz_1508, pz_1661, pz_1691, pz_2400, pz_3125, pz_9999, pz_10000, pz_30703, pz_65536, pz_99999, pz_1000000, pz_lt, pz_ck, pz_u2, pz_u3, pz_u4, pz_bs, pz_ix, pz_inb, pz_add, pz_mul, pz_sub, nI_leI, nI_ltI, nI_eq, pz_bIt, pz_bIf, pz_isb, pz_isb0, pz_isb1, pz_bI0, pz_bI1, Nat.zero_le, true_and, and_true, decide_true, decide_false, Bool.true_eq_false, Bool.false_eq_true, if_true, if_false, Nat.reduceAdd, Nat.reduceMul, Nat.reduceSub, Nat.reduceEqDiff, Nat.reduceLeDiff, Nat.reduceLT, Nat.one_ne_zero, Nat.zero_ne_one, Nat.not_le.mpr hv, e1, e2, e3]) (fun v hv => by omega)
    exact ⟨A, e, fun _ => h, fun z => absurd q z⟩
  · refine ⟨B, ?_, fun z => absurd z q, fun _ => rfl⟩
    show m_undo_b95 (nI x) (nI p) (m_undo_l95 (nI x) (nI p) (fu - 1)) (nI 0) B = some B
    have e3 : c ≤ p := by omega
    unfold m_undo_b95
    simp (disch := omega) only [pz_0, pz_1, pz_2, pz_3, pz_4, pz_5, pz_6, pz_7, pz_8, pz_9, pz_10, pz_11, pz_12, pz_13, pz_14, pz_15, pz_16, pz_20, pz_21, pz_22, pz_24, pz_25, pz_30, pz_31, pz_32, pz_35, pz_40, pz_41, pz_42, pz_43, pz_45, pz_47, pz_48, pz_52, pz_57, pz_58, pz_59, pz_60, pz_61, pz_62, pz_63, pz_65, pz_85, pz_90, pz_97, pz_98, pz_99, pz_100, pz_101, pz_102, pz_103, pz_104, pz_105, pz_107, pz_108, pz_109, pz_110, pz_111, pz_112, pz_114, pz_115, pz_116, pz_119, pz_120, pz_121, pz_122, pz_125, pz_127, pz_153, pz_200, pz_201, pz_202, pz_203, pz_204, pz_205, pz_206, pz_207, pz_208, pz_209, pz_210, pz_211, pz_212, pz_213, pz_214, pz_215, pz_216, pz_217, pz_218, pz_219, pz_220, pz_221, pz_222, pz_223, pz_224, pz_225, pz_255, pz_256, pz_271, pz_300, pz_301, pz_302, pz_303, pz_304, pz_400, pz_401, pz_521, pz_705, pz_1000, pz_1508, pz_1661, pz_1691, pz_2400, pz_3125, pz_9999, pz_10000, pz_30703, pz_65536, pz_99999, pz_1000000, pz_lt, pz_ck, pz_u2, pz_u3, pz_u4, pz_bs, pz_ix, pz_inb, pz_add, pz_mul, pz_sub, nI_leI, nI_ltI, nI_eq, pz_bIt, pz_bIf, pz_isb, pz_isb0, pz_isb1, pz_bI0, pz_bI1, Nat.zero_le, true_and, and_true, decide_true, decide_false, Bool.true_eq_false, Bool.false_eq_true, if_true, if_false, Nat.reduceAdd, Nat.reduceMul, Nat.reduceSub, Nat.reduceEqDiff, Nat.reduceLeDiff, Nat.reduceLT, Nat.one_ne_zero, Nat.zero_ne_one, hxc, e3]
theorem m_u68 (B : PI) {x c nP : Nat} (hx : x ≤ 1609) (hx0 : 101 ≤ x) (hP : nP ≤ 6) (hc : c ≤ nP) (hxc : B 1 x = nI c) (hn : B 1 1 = nI nP) : ∃ A, m_undo_l68 (nI x) fu (nI 0) B = some A ∧ (∀ k, k ≠ 1 → A k = B k) ∧ (∀ p w, p < c → w < 3 → A 1 (11 + 5 * p + w) = B 1 (x + 4 + 3 * p + w)) ∧ (∀ p, c ≤ p → p < nP → A 1 (11 + 5 * p + 0) = B 1 (11 + 5 * p + 3) ∧ A 1 (11 + 5 * p + 1) = B 1 (11 + 5 * p + 4) ∧ A 1 (11 + 5 * p + 2) = nI 20) ∧ (∀ p w, p < 6 → 3 ≤ w → w < 5 → A 1 (11 + 5 * p + w) = B 1 (11 + 5 * p + w)) ∧ ∀ i, i < 11 ∨ 41 ≤ i → A 1 i = B 1 i := by
  obtain ⟨A, hA, e⟩ := pz_loop (fun k v A => m_undo_l68 (nI x) k (nI v) A) nP (fun A => some A) (fun v A => (∀ k, k ≠ 1 → A k = B k) ∧ (∀ p w, p < v → p < c → w < 3 → A 1 (11 + 5 * p + w) = B 1 (x + 4 + 3 * p + w)) ∧ (∀ p, p < v → c ≤ p → A 1 (11 + 5 * p + 0) = B 1 (11 + 5 * p + 3) ∧ A 1 (11 + 5 * p + 1) = B 1 (11 + 5 * p + 4) ∧ A 1 (11 + 5 * p + 2) = nI 20) ∧ (∀ p w, p < 6 → 3 ≤ w → w < 5 → A 1 (11 + 5 * p + w) = B 1 (11 + 5 * p + w)) ∧ ∀ i, i < 11 ∨ 41 ≤ i → A 1 i = B 1 i) (fun k A hA => by
    show m_undo_b68 (nI x) (m_undo_l68 (nI x) k) (nI nP) A = some A
    have e1 : A 1 1 = nI nP := by rw [hA.2.2.2.2 1 (by omega)]; exact hn
    unfold m_undo_b68
    simp (disch := omega) only [pz_0, pz_1, pz_2, pz_3, pz_4, pz_5, pz_6, pz_7, pz_8, pz_9, pz_10, pz_11, pz_12, pz_13, pz_14, pz_15, pz_16, pz_20, pz_21, pz_22, pz_24, pz_25, pz_30, pz_31, pz_32, pz_35, pz_40, pz_41, pz_42, pz_43, pz_45, pz_47, pz_48, pz_52, pz_57, pz_58, pz_59, pz_60, pz_61, pz_62, pz_63, pz_65, pz_85, pz_90, pz_97, pz_98, pz_99, pz_100, pz_101, pz_102, pz_103, pz_104, pz_105, pz_107, pz_108, pz_109, pz_110, pz_111, pz_112, pz_114, pz_115, pz_116, pz_119, pz_120, pz_121, pz_122, pz_125, pz_127, pz_153, pz_200, pz_201, pz_202, pz_203, pz_204, pz_205, pz_206, pz_207, pz_208, pz_209, pz_210, pz_211, pz_212, pz_213, pz_214, pz_215, pz_216, pz_217, pz_218, pz_219, pz_220, pz_221, pz_222, pz_223, pz_224, pz_225, pz_255, pz_256, pz_271, pz_300, pz_301, pz_302, pz_303, pz_304, pz_400, pz_401, pz_521, pz_705, pz_1000, pz_1508, pz_1661, pz_1691, pz_2400, pz_3125, pz_9999, pz_10000, pz_30703, pz_65536, pz_99999, pz_1000000, pz_lt, pz_ck, pz_u2, pz_u3, pz_u4, pz_bs, pz_ix, pz_inb, pz_add, pz_mul, pz_sub, nI_leI, nI_ltI, nI_eq, pz_bIt, pz_bIf, pz_isb, pz_isb0, pz_isb1, pz_bI0, pz_bI1, Nat.zero_le, true_and, and_true, decide_true, decide_false, Bool.true_eq_false, Bool.false_eq_true, if_true, if_false, Nat.reduceAdd, Nat.reduceMul, Nat.reduceSub, Nat.reduceEqDiff, Nat.reduceLeDiff, Nat.reduceLT, Nat.one_ne_zero, Nat.zero_ne_one, e1, Nat.le_refl]) (fun k v A hv hA => by
    obtain ⟨a1, a2, a3, a4, a5⟩ := hA
    have e1 : A 1 1 = nI nP := by rw [a5 1 (by omega)]; exact hn
    have ex : A 1 x = nI c := by rw [a5 x (by omega)]; exact hxc
    by_cases q : v < c
    · obtain ⟨C, e, h1, -⟩ := m_u95 A (p := v) hx hx0 (by omega) (by omega) ex
      obtain ⟨c1, c2, c3⟩ := h1 q
      refine ⟨C, ?_, fun k hk => (c1 k hk).trans (a1 k hk), fun p w hp hpc hw => ?_, fun p hp hpc => ?_, fun p w hp hw1 hw2 => (c3 _ (by omega)).trans (a4 p w hp hw1 hw2), fun i hi => (c3 i (by omega)).trans (a5 i hi)⟩
      · show m_undo_b68 (nI x) (m_undo_l68 (nI x) k) (nI v) A = _
        unfold m_undo_b68 m_undo_j93
        simp (disch := omega) only [pz_0, pz_1, pz_2, pz_3, pz_4, pz_5, pz_6, pz_7, pz_8, pz_9, pz_10, pz_11, pz_12, pz_13, pz_14, pz_15, pz_16, pz_20, pz_21, pz_22, pz_24, pz_25, pz_30, pz_31, pz_32, pz_35, pz_40, pz_41, pz_42, pz_43, pz_45, pz_47, pz_48, pz_52, pz_57, pz_58, pz_59, pz_60, pz_61, pz_62, pz_63, pz_65, pz_85, pz_90, pz_97, pz_98, pz_99, pz_100, pz_101, pz_102, pz_103, pz_104, pz_105, pz_107, pz_108, pz_109, pz_110, pz_111, pz_112, pz_114, pz_115, pz_116, pz_119, pz_120, pz_121, pz_122, pz_125, pz_127, pz_153, pz_200, pz_201, pz_202, pz_203, pz_204, pz_205, pz_206, pz_207, pz_208, pz_209, pz_210, pz_211, pz_212, pz_213, pz_214, pz_215, pz_216, pz_217, pz_218, pz_219, pz_220, pz_221, pz_222, pz_223, pz_224, pz_225, pz_255, pz_256, pz_271, pz_300, pz_301, pz_302, pz_303, pz_304, pz_400, pz_401, pz_521, pz_705, pz_1000, pz_1508, pz_1661, pz_1691, pz_2400, pz_3125, pz_9999, pz_10000, pz_30703, pz_65536, pz_99999, pz_1000000, pz_lt, pz_ck, pz_u2, pz_u3, pz_u4, pz_bs, pz_ix, pz_inb, pz_add, pz_mul, pz_sub, nI_leI, nI_ltI, nI_eq, pz_bIt, pz_bIf, pz_isb, pz_isb0, pz_isb1, pz_bI0, pz_bI1, Nat.zero_le, true_and, and_true, decide_true, decide_false, Bool.true_eq_false, Bool.false_eq_true, if_true, if_false, Nat.reduceAdd, Nat.reduceMul, Nat.reduceSub, Nat.reduceEqDiff, Nat.reduceLeDiff, Nat.reduceLT, Nat.one_ne_zero, Nat.zero_ne_one, e1, Nat.not_le.mpr hv, ex, q, e]
      · by_cases z : p = v
        · subst z
          exact (c2 w hw).trans (a5 _ (by omega))
        · exact (c3 _ (by omega)).trans (a2 p w (by omega) hpc hw)
      · obtain ⟨z1, z2, z3⟩ := a3 p (by omega) hpc
        exact ⟨(c3 _ (by omega)).trans z1, (c3 _ (by omega)).trans z2, (c3 _ (by omega)).trans z3⟩
    · obtain ⟨C, ec⟩ : ∃ C, C = u2 (u2 (u2 A 1 (11 + 5 * v + 0) (A 1 (11 + 5 * v + 3))) 1 (11 + 5 * v + 1) (A 1 (11 + 5 * v + 4))) 1 (11 + 5 * v + 2) (nI 20) := ⟨_, rfl⟩
      have pb := pm_begin A (p := v) (by omega)
      rw [← ec] at pb
      have co : ∀ i, i < 11 + 5 * v ∨ 11 + 5 * v + 3 ≤ i → C 1 i = A 1 i := fun i hi => by
        rw [ec]
        simp (disch := omega) only [pz_row, pz_at, pz_no]
      have cx : C 1 x = nI c := by rw [co x (by omega)]; exact ex
      obtain ⟨E, e, -, h2⟩ := m_u95 C (p := v) hx hx0 (by omega) (by omega) cx
      have h2 := h2 q
      subst h2
      refine ⟨E, ?_, fun k hk => ?_, fun p w hp hpc hw => ?_, fun p hp hpc => ?_, fun p w hp hw1 hw2 => (co _ (by omega)).trans (a4 p w hp hw1 hw2), fun i hi => (co i (by omega)).trans (a5 i hi)⟩
      · show m_undo_b68 (nI x) (m_undo_l68 (nI x) k) (nI v) A = _
        unfold m_undo_b68 m_undo_j93
        simp (disch := omega) only [pz_0, pz_1, pz_2, pz_3, pz_4, pz_5, pz_6, pz_7, pz_8, pz_9, pz_10, pz_11, pz_12, pz_13, pz_14, pz_15, pz_16, pz_20, pz_21, pz_22, pz_24, pz_25, pz_30, pz_31, pz_32, pz_35, pz_40, pz_41, pz_42, pz_43, pz_45, pz_47, pz_48, pz_52, pz_57, pz_58, pz_59, pz_60, pz_61, pz_62, pz_63, pz_65, pz_85, pz_90, pz_97, pz_98, pz_99, pz_100, pz_101, pz_102, pz_103, pz_104, pz_105, pz_107, pz_108, pz_109, pz_110, pz_111, pz_112, pz_114, pz_115, pz_116, pz_119, pz_120, pz_121, pz_122, pz_125, pz_127, pz_153, pz_200, pz_201, pz_202, pz_203, pz_204, pz_205, pz_206, pz_207, pz_208, pz_209, pz_210, pz_211, pz_212, pz_213, pz_214, pz_215, pz_216, pz_217, pz_218, pz_219, pz_220, pz_221, pz_222, pz_223, pz_224, pz_225, pz_255, pz_256, pz_271, pz_300, pz_301, pz_302, pz_303, pz_304, pz_400, pz_401, pz_521, pz_705, pz_1000, pz_1508, pz_1661, pz_1691, pz_2400, pz_3125, pz_9999, pz_10000, pz_30703, pz_65536, pz_99999, pz_1000000, pz_lt, pz_ck, pz_u2, pz_u3, pz_u4, pz_bs, pz_ix, pz_inb, pz_add, pz_mul, pz_sub, nI_leI, nI_ltI, nI_eq, pz_bIt, pz_bIf, pz_isb, pz_isb0, pz_isb1, pz_bI0, pz_bI1, Nat.zero_le, true_and, and_true, decide_true, decide_false, Bool.true_eq_false, Bool.false_eq_true, if_true, if_false, Nat.reduceAdd, Nat.reduceMul, Nat.reduceSub, Nat.reduceEqDiff, Nat.reduceLeDiff, Nat.reduceLT, Nat.one_ne_zero, Nat.zero_ne_one, e1, Nat.not_le.mpr hv, ex, q, pb, e]
      · rw [ec]
        simp (disch := omega) only [pz_row, pz_at, pz_no]
        exact a1 k hk
      · exact (co _ (by omega)).trans (a2 p w (by omega) hpc hw)
      · by_cases z : p = v
        · subst z
          rw [ec]
          simp (disch := omega) only [pz_row, pz_at, pz_no]
          exact ⟨a4 p 3 (by omega) (by omega) (by omega), a4 p 4 (by omega) (by omega) (by omega), trivial⟩
        · obtain ⟨z1, z2, z3⟩ := a3 p (by omega) hpc
          exact ⟨(co _ (by omega)).trans z1, (co _ (by omega)).trans z2, (co _ (by omega)).trans z3⟩) nP fu 0 B (by omega) (fu_gt (by omega)) ⟨fun _ _ => rfl, fun p w hp => absurd hp (Nat.not_lt_zero p), fun p hp => absurd hp (Nat.not_lt_zero p), fun _ _ _ _ _ => rfl, fun _ _ => rfl⟩
  obtain ⟨a1, a2, a3, a4, a5⟩ := hA
  exact ⟨A, e, a1, fun p w hp hw => a2 p w (by omega) hp hw, fun p h1 h2 => a3 p h2 h1, a4, a5⟩
def unS (s : SN) : SN := uc (u2 s 2 5 (s 2 5 - 1)) (27 + (s 2 5 - 1)) 3 0 0 141
theorem pu_undo (h : CC s si I T X tN I' J') : ∃ (r : Int32) (s1 : SN) (I1 I1' : PI), x_undo I = some (r, I1) ∧ m_undo I' = some (r, I1') ∧ CC s1 si I1 T X tN I1' J' := by
  have hV := h.1.1
  have hX := h.1.2.2.1
  have hM := h.1.2.2.2.2.1
  obtain ⟨⟨v0, v1, v2, v3, v4, v5, v6, v7⟩, vr, vf, vs, va, ve, vt⟩ := id hV
  obtain ⟨⟨m0, m1, m2, m3, m4, m5, m6, m7, m8, m9, m10⟩, mp, mf, ms, ma, me, mb, mt⟩ := id hM
  have hx := hX.1
  by_cases c0 : s 2 5 = 0
  · refine ⟨-nI 1, s, I, I', ?_, ?_, h⟩
    · unfold x_undo
      simp (disch := omega) only [pz_0, pz_1, pz_2, pz_3, pz_4, pz_5, pz_6, pz_7, pz_8, pz_9, pz_10, pz_11, pz_12, pz_13, pz_14, pz_15, pz_16, pz_20, pz_21, pz_22, pz_24, pz_25, pz_30, pz_31, pz_32, pz_35, pz_40, pz_41, pz_42, pz_43, pz_45, pz_47, pz_48, pz_52, pz_57, pz_58, pz_59, pz_60, pz_61, pz_62, pz_63, pz_65, pz_85, pz_90, pz_97, pz_98, pz_99, pz_100, pz_101, pz_102, pz_103, pz_104, pz_105, pz_107, pz_108, pz_109, pz_110, pz_111, pz_112, pz_114, pz_115, pz_116, pz_119, pz_120, pz_121, pz_122, pz_125, pz_127, pz_153, pz_200, pz_201, pz_202, pz_203, pz_204, pz_205, pz_206, pz_207, pz_208, pz_209, pz_210, pz_211, pz_212, pz_213, pz_214, pz_215, pz_216, pz_217, pz_218, pz_219, pz_220, pz_221, pz_222, pz_223, pz_224, pz_225, pz_255, pz_256, pz_271, pz_300, pz_301, pz_302, pz_303, pz_304, pz_400, pz_401, pz_521, pz_705, pz_1000, pz_1508, pz_1661, pz_1691, pz_2400, pz_3125, pz_9999, pz_10000, pz_30703, pz_65536, pz_99999, pz_1000000, pz_lt, pz_ck, pz_u2, pz_u3, pz_u4, pz_bs, pz_ix, pz_inb, pz_add, pz_mul, pz_sub, nI_leI, nI_ltI, nI_eq, pz_bIt, pz_bIf, pz_isb, pz_isb0, pz_isb1, pz_bI0, pz_bI1, Nat.zero_le, true_and, and_true, decide_true, decide_false, Bool.true_eq_false, Bool.false_eq_true, if_true, if_false, Nat.reduceAdd, Nat.reduceMul, Nat.reduceSub, Nat.reduceEqDiff, Nat.reduceLeDiff, Nat.reduceLT, Nat.one_ne_zero, Nat.zero_ne_one, hx, c0]
    · unfold m_undo
      simp (disch := omega) only [pz_0, pz_1, pz_2, pz_3, pz_4, pz_5, pz_6, pz_7, pz_8, pz_9, pz_10, pz_11, pz_12, pz_13, pz_14, pz_15, pz_16, pz_20, pz_21, pz_22, pz_24, pz_25, pz_30, pz_31, pz_32, pz_35, pz_40, pz_41, pz_42, pz_43, pz_45, pz_47, pz_48, pz_52, pz_57, pz_58, pz_59, pz_60, pz_61, pz_62, pz_63, pz_65, pz_85, pz_90, pz_97, pz_98, pz_99, pz_100, pz_101, pz_102, pz_103, pz_104, pz_105, pz_107, pz_108, pz_109, pz_110, pz_111, pz_112, pz_114, pz_115, pz_116, pz_119, pz_120, pz_121, pz_122, pz_125, pz_127, pz_153, pz_200, pz_201, pz_202, pz_203, pz_204, pz_205, pz_206, pz_207, pz_208, pz_209, pz_210, pz_211, pz_212, pz_213, pz_214, pz_215, pz_216, pz_217, pz_218, pz_219, pz_220, pz_221, pz_222, pz_223, pz_224, pz_225, pz_255, pz_256, pz_271, pz_300, pz_301, pz_302, pz_303, pz_304, pz_400, pz_401, pz_521, pz_705, pz_1000, pz_1508, pz_1661, pz_1691, pz_2400, pz_3125, pz_9999, pz_10000, pz_30703, pz_65536, pz_99999, pz_1000000, pz_lt, pz_ck, pz_u2, pz_u3, pz_u4, pz_bs, pz_ix, pz_inb, pz_add, pz_mul, pz_sub, nI_leI, nI_ltI, nI_eq, pz_bIt, pz_bIf, pz_isb, pz_isb0, pz_isb1, pz_bI0, pz_bI1, Nat.zero_le, true_and, and_true, decide_true, decide_false, Bool.true_eq_false, Bool.false_eq_true, if_true, if_false, Nat.reduceAdd, Nat.reduceMul, Nat.reduceSub, Nat.reduceEqDiff, Nat.reduceLeDiff, Nat.reduceLT, Nat.one_ne_zero, Nat.zero_ne_one, m5, c0]
  · obtain ⟨n, en⟩ : ∃ n, n = s 2 5 - 1 := ⟨_, rfl⟩
    have en1 : s 2 5 = n + 1 := by omega
    obtain ⟨x, ex⟩ : ∃ x, x = 101 + 52 * n := ⟨_, rfl⟩
    obtain ⟨c, s1, s2, s3, s4, s5, s6, s7, s8⟩ := mt n (by omega)
    rw [← ex] at s2 s3 s4 s5 s6 s8
    have hrow := vt n (by omega)
    obtain ⟨B, eB⟩ : ∃ B, B = u2 I' 1 5 (nI n) := ⟨_, rfl⟩
    have hB : ∀ i, i ≠ 5 → B 1 i = I' 1 i := fun i hi => by rw [eB]; simp (disch := omega) only [pz_row, pz_at, pz_no]
    obtain ⟨C, ec, c1, c2, c3⟩ := m_u36 B (x := x) (by omega) (by omega)
    have hC : ∀ i, i ≠ 5 → (i < 8 ∨ 11 ≤ i) → C 1 i = I' 1 i := fun i h1 h2 => (c3 i (by omega)).trans (hB i h1)
    obtain ⟨E, ee, e1, e2, e3, e4, e5⟩ := m_u68 C (x := x) (c := c) (nP := s 2 1) (by omega) (by omega) v1 s1 ((hC x (by omega) (by omega)).trans s2) ((hC 1 (by omega) (by omega)).trans m1)
    obtain ⟨F, ef, f1, f2, f3⟩ := m_u144 E (x := x) (by omega) (by omega)
    have hF : ∀ i, i ≠ 5 → (i < 8 ∨ 41 ≤ i) → i < 1661 → F 1 i = I' 1 i := fun i h1 h2 h3 => ((f3 i (by omega)).trans (e5 i (by omega))).trans (hC i h1 (by omega))
    have hF5 : F 1 5 = nI n := by
      rw [f3 5 (by omega), e5 5 (by omega), c3 5 (by omega), eB]
      simp (disch := omega) only [pz_row, pz_at, pz_no]
    have hF8 : ∀ d, d < 3 → F 1 (8 + d) = I' 1 (x + 1 + d) := fun d hd => by
      rw [f3 _ (by omega), e5 _ (by omega), c2 d hd]
      exact hB _ (by omega)
    have hFb : ∀ i, i < 30 → F 1 (1661 + i) = I' 1 (x + 22 + i) := fun i hi => by
      have z : F 1 (1661 + i) = E 1 (x + 22 + i) := f2 i hi
      rw [z, e5 _ (by omega)]
      exact hC _ (by omega) (by omega)
    have hFt : ∀ p w, p < 6 → 3 ≤ w → w < 5 → F 1 (11 + 5 * p + w) = I' 1 (11 + 5 * p + w) := fun p w hp h1 h2 => by
      rw [f3 _ (by omega), e4 p w hp h1 h2]
      exact hC _ (by omega) (by omega)
    have hk : ∀ k, k ≠ 1 → F k = I' k := fun k hk => by
      rw [f1 k hk, e1 k hk, c1 k hk, eB]
      exact u2_row _ _ _ _ hk
    obtain ⟨z, ez⟩ : ∃ z, z = unS s := ⟨_, rfl⟩
    have z2 : ∀ j, j ≠ 5 → z 2 j = s 2 j := fun j hj => by
      rw [ez]
      unfold unS
      rw [uc_ne _ (by omega)]
      exact u2_ne _ _ (Or.inr hj)
    have z25 : z 2 5 = n := by
      rw [ez]
      unfold unS
      rw [uc_ne _ (by omega), u2_eq, en]
    have zk : ∀ k, k ≠ 2 → k ≠ 3 → z k = s k := fun k h2 h3 => by
      rw [ez]
      unfold unS
      rw [uc_ne _ h3]
      exact u2_row _ _ _ _ h2
    have z3 : ∀ j, j < 141 → z 3 j = s (27 + n) j := fun j hj => by
      rw [ez]
      unfold unS
      rw [uc_j _ hj, u2_row _ _ _ _ (by omega), en]
    refine ⟨nI n, z, uc (u2 I 2 5 (nI n)) (27 + n) 3 0 0 141, F, ?_, ?_, ?_⟩
    · have q : uc (u2 I 2 5 (nI n)) (27 + n) 3 0 0 141 2 5 = nI n := by
        rw [uc_ne _ (by omega), u2_eq]
      unfold x_undo
      simp (disch := omega) only [pz_0, pz_1, pz_2, pz_3, pz_4, pz_5, pz_6, pz_7, pz_8, pz_9, pz_10, pz_11, pz_12, pz_13, pz_14, pz_15, pz_16, pz_20, pz_21, pz_22, pz_24, pz_25, pz_30, pz_31, pz_32, pz_35, pz_40, pz_41, pz_42, pz_43, pz_45, pz_47, pz_48, pz_52, pz_57, pz_58, pz_59, pz_60, pz_61, pz_62, pz_63, pz_65, pz_85, pz_90, pz_97, pz_98, pz_99, pz_100, pz_101, pz_102, pz_103, pz_104, pz_105, pz_107, pz_108, pz_109, pz_110, pz_111, pz_112, pz_114, pz_115, pz_116, pz_119, pz_120, pz_121, pz_122, pz_125, pz_127, pz_153, pz_200, pz_201, pz_202, pz_203, pz_204, pz_205, pz_206, pz_207, pz_208, pz_209, pz_210, pz_211, pz_212, pz_213, pz_214, pz_215, pz_216, pz_217, pz_218, pz_219, pz_220, pz_221, pz_222, pz_223, pz_224, pz_225, pz_255, pz_256, pz_271, pz_300, pz_301, pz_302, pz_303, pz_304, pz_400, pz_401, pz_521, pz_705, pz_1000, pz_1508, pz_1661, pz_1691, pz_2400, pz_3125, pz_9999, pz_10000, pz_30703, pz_65536, pz_99999, pz_1000000, pz_lt, pz_ck, pz_u2, pz_u3, pz_u4, pz_bs, pz_ix, pz_inb, pz_add, pz_mul, pz_sub, nI_leI, nI_ltI, nI_eq, pz_bIt, pz_bIf, pz_isb, pz_isb0, pz_isb1, pz_bI0, pz_bI1, Nat.zero_le, true_and, and_true, decide_true, decide_false, Bool.true_eq_false, Bool.false_eq_true, if_true, if_false, Nat.reduceAdd, Nat.reduceMul, Nat.reduceSub, Nat.reduceEqDiff, Nat.reduceLeDiff, Nat.reduceLT, Nat.one_ne_zero, Nat.zero_ne_one, hx, c0, ← en, px_copy, pz_row, pz_at, pz_no, q]
    · unfold m_undo
      simp (disch := omega) only [pz_0, pz_1, pz_2, pz_3, pz_4, pz_5, pz_6, pz_7, pz_8, pz_9, pz_10, pz_11, pz_12, pz_13, pz_14, pz_15, pz_16, pz_20, pz_21, pz_22, pz_24, pz_25, pz_30, pz_31, pz_32, pz_35, pz_40, pz_41, pz_42, pz_43, pz_45, pz_47, pz_48, pz_52, pz_57, pz_58, pz_59, pz_60, pz_61, pz_62, pz_63, pz_65, pz_85, pz_90, pz_97, pz_98, pz_99, pz_100, pz_101, pz_102, pz_103, pz_104, pz_105, pz_107, pz_108, pz_109, pz_110, pz_111, pz_112, pz_114, pz_115, pz_116, pz_119, pz_120, pz_121, pz_122, pz_125, pz_127, pz_153, pz_200, pz_201, pz_202, pz_203, pz_204, pz_205, pz_206, pz_207, pz_208, pz_209, pz_210, pz_211, pz_212, pz_213, pz_214, pz_215, pz_216, pz_217, pz_218, pz_219, pz_220, pz_221, pz_222, pz_223, pz_224, pz_225, pz_255, pz_256, pz_271, pz_300, pz_301, pz_302, pz_303, pz_304, pz_400, pz_401, pz_521, pz_705, pz_1000, pz_1508, pz_1661, pz_1691, pz_2400, pz_3125, pz_9999, pz_10000, pz_30703, pz_65536, pz_99999, pz_1000000, pz_lt, pz_ck, pz_u2, pz_u3, pz_u4, pz_bs, pz_ix, pz_inb, pz_add, pz_mul, pz_sub, nI_leI, nI_ltI, nI_eq, pz_bIt, pz_bIf, pz_isb, pz_isb0, pz_isb1, pz_bI0, pz_bI1, Nat.zero_le, true_and, and_true, decide_true, decide_false, Bool.true_eq_false, Bool.false_eq_true, if_true, if_false, Nat.reduceAdd, Nat.reduceMul, Nat.reduceSub, Nat.reduceEqDiff, Nat.reduceLeDiff, Nat.reduceLT, Nat.one_ne_zero, Nat.zero_ne_one, m5, c0, ← en, ← eB, pz_row, pz_at, pz_no]
      rw [show B 1 5 = nI n by rw [eB]; simp (disch := omega) only [pz_row, pz_at, pz_no]]
      simp (disch := omega) only [pz_0, pz_1, pz_2, pz_3, pz_4, pz_5, pz_6, pz_7, pz_8, pz_9, pz_10, pz_11, pz_12, pz_13, pz_14, pz_15, pz_16, pz_20, pz_21, pz_22, pz_24, pz_25, pz_30, pz_31, pz_32, pz_35, pz_40, pz_41, pz_42, pz_43, pz_45, pz_47, pz_48, pz_52, pz_57, pz_58, pz_59, pz_60, pz_61, pz_62, pz_63, pz_65, pz_85, pz_90, pz_97, pz_98, pz_99, pz_100, pz_101, pz_102, pz_103, pz_104, pz_105, pz_107, pz_108, pz_109, pz_110, pz_111, pz_112, pz_114, pz_115, pz_116, pz_119, pz_120, pz_121, pz_122, pz_125, pz_127, pz_153, pz_200, pz_201, pz_202, pz_203, pz_204, pz_205, pz_206, pz_207, pz_208, pz_209, pz_210, pz_211, pz_212, pz_213, pz_214, pz_215, pz_216, pz_217, pz_218, pz_219, pz_220, pz_221, pz_222, pz_223, pz_224, pz_225, pz_255, pz_256, pz_271, pz_300, pz_301, pz_302, pz_303, pz_304, pz_400, pz_401, pz_521, pz_705, pz_1000, pz_1508, pz_1661, pz_1691, pz_2400, pz_3125, pz_9999, pz_10000, pz_30703, pz_65536, pz_99999, pz_1000000, pz_lt, pz_ck, pz_u2, pz_u3, pz_u4, pz_bs, pz_ix, pz_inb, pz_add, pz_mul, pz_sub, nI_leI, nI_ltI, nI_eq, pz_bIt, pz_bIf, pz_isb, pz_isb0, pz_isb1, pz_bI0, pz_bI1, Nat.zero_le, true_and, and_true, decide_true, decide_false, Bool.true_eq_false, Bool.false_eq_true, if_true, if_false, Nat.reduceAdd, Nat.reduceMul, Nat.reduceSub, Nat.reduceEqDiff, Nat.reduceLeDiff, Nat.reduceLT, Nat.one_ne_zero, Nat.zero_ne_one, ← ex, ec, ee, ef, hF5]
    · have hXz : XR z (uc (u2 I 2 5 (nI n)) (27 + n) 3 0 0 141) := by
        rw [ez]
        unfold unS
        rw [← en]
        exact xrC (xrU hX n (by omega)) (by omega) (by omega)
      refine h.step (Fx.tr (fxU (by omega)) ⟨fun k hk => uc_ne _ (by omega), by rw [uc_ne _ (by omega)], by rw [uc_ne _ (by omega)], by rw [uc_ne _ (by omega)]⟩) ⟨fun k h1 h2 => hk k (by omega), by rw [hk 0 (by omega)], by rw [hk 0 (by omega)], by rw [hk 0 (by omega)], by rw [hk 0 (by omega)], rfl, rfl⟩ ?_ hXz ?_ (z2 3 (by omega)) (h.lea.of (by rw [hk 0 (by omega)]) (by rw [hk 0 (by omega)]) (by rw [hk 0 (by omega)]))
      · refine ⟨⟨by rw [z2 0 (by omega)]; exact v0, by rw [z2 1 (by omega)]; exact v1, by rw [z2 2 (by omega)]; exact v2, by rw [z2 3 (by omega)]; exact v3, by rw [z2 4 (by omega), z2 3 (by omega)]; exact v4, by omega, by rw [z2 6 (by omega)]; exact v6, by rw [z2 7 (by omega)]; exact v7⟩, ?_, ?_, ?_, ?_, ?_, fun k hk2 => ?_⟩
        · rw [z2 0 (by omega), z2 1 (by omega)]
          exact hrow.c v1 z3
        · rw [zk 4 (by omega) (by omega), zk 5 (by omega) (by omega), z2 0 (by omega)]; exact vf
        · rw [zk 6 (by omega) (by omega), z2 2 (by omega)]; exact vs
        · rw [z2 6 (by omega)]
          intro i hi
          rw [zk _ (by omega) (by omega)]
          exact va i hi
        · rw [z2 7 (by omega), z2 1 (by omega)]
          intro i hi
          rw [zk _ (by omega) (by omega)]
          exact ve i hi
        · rw [z2 0 (by omega), z2 1 (by omega), zk _ (by omega) (by omega)]
          exact vt k (by omega)
      · have h20 := hrow.2.2.1
        refine ⟨?_, fun p hp => ?_, ?_, ?_, ?_, ?_, fun i hi => ?_, fun k hk2 => ?_⟩
        · exact ⟨by rw [hF 0 (by omega) (by omega) (by omega), z2 0 (by omega)]; exact m0, by rw [hF 1 (by omega) (by omega) (by omega), z2 1 (by omega)]; exact m1, by rw [hF 2 (by omega) (by omega) (by omega), z2 2 (by omega)]; exact m2, by rw [hF 3 (by omega) (by omega) (by omega), z2 3 (by omega)]; exact m3, by rw [hF 4 (by omega) (by omega) (by omega), z2 4 (by omega)]; exact m4, by rw [z25]; exact hF5, by rw [hF 6 (by omega) (by omega) (by omega), z2 6 (by omega)]; exact m6, by rw [hF 7 (by omega) (by omega) (by omega), z2 7 (by omega)]; exact m7, by rw [z3 0 (by omega)]; exact (hF8 0 (by omega)).trans s3, by rw [z3 1 (by omega)]; exact (hF8 1 (by omega)).trans s4, by rw [z3 20 (by omega)]; exact (hF8 2 (by omega)).trans s5⟩
        · rw [z2 1 (by omega)] at hp
          rw [z3 _ (by omega), z3 _ (by omega), z3 _ (by omega), f3 _ (by omega), f3 _ (by omega), f3 _ (by omega)]
          by_cases q : p < c
          · obtain ⟨t0, t1, t2⟩ := s6 p q
            have u0 := e2 p 0 q (by omega)
            have u1 := e2 p 1 q (by omega)
            have u2' := e2 p 2 q (by omega)
            exact ⟨u0.trans ((hC _ (by omega) (by omega)).trans t0), u1.trans ((hC _ (by omega) (by omega)).trans t1), u2'.trans ((hC _ (by omega) (by omega)).trans t2)⟩
          · obtain ⟨t0, t1, t2⟩ := s7 p (by omega) hp
            obtain ⟨u0, u1, u2'⟩ := e3 p (by omega) hp
            exact ⟨u0.trans ((hC _ (by omega) (by omega)).trans t0), u1.trans ((hC _ (by omega) (by omega)).trans t1), u2'.trans (by rw [t2])⟩
        · exact MFor.c mf (zk 4 (by omega) (by omega)) (zk 5 (by omega) (by omega)) (fun i h1 h2 => hF i (by omega) (by omega) (by omega))
        · exact MSto.c ms v2 (z2 2 (by omega)) (zk 6 (by omega) (by omega)) (fun i h1 h2 => hF i (by omega) (by omega) (by omega))
        · exact MSai.c ma v6 (z2 6 (by omega)) (fun i hi => zk _ (by omega) (by omega)) (fun i h1 h2 => hF i (by omega) (by omega) (by omega))
        · exact MSee.c me v7 (z2 7 (by omega)) (fun i hi => zk _ (by omega) (by omega)) (fun i h1 h2 => hF i (by omega) (by omega) (by omega))
        · rw [z3 20 (by omega)] at hi
          rw [page_c (r := s (27 + n)) (by omega) z3]
          exact (hFb i (by omega)).trans (s8 i hi)
        · obtain ⟨d, hd⟩ := mt k (by omega)
          refine ⟨d, ?_⟩
          rw [zk _ (by omega) (by omega), z2 1 (by omega)]
          exact hd.c v1 (vt k (by omega)).2.2.1 (fun i h1 h2 => hF i (by omega) (by omega) (by omega)) (fun p w hp h1 h2 => hFt p w (by omega) h1 h2)
end UN
