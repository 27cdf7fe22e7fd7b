/-! a step is kept: the second half -/
def Wr (A B : PI) (lo n : Nat) (g : Nat → Int32) : Prop := (∀ k, k ≠ 1 → A k = B k) ∧ (∀ d, d < n → A 1 (lo + d) = g d) ∧ ∀ i, i < lo ∨ lo + n ≤ i → A 1 i = B 1 i
theorem wr_loop (L : Nat → Nat → PI → Option PI) (hi lo : Nat) (src : Nat → Nat) (B : PI) (hf : hi < 1099511627776) (h0 : ∀ k A, Wr A B lo hi (fun d => B 1 (src d)) → L (k + 1) hi A = some A) (h1 : ∀ k v A, v < hi → Wr A B lo v (fun d => B 1 (src d)) → L (k + 1) v A = L k (v + 1) (u2 A 1 (lo + v) (A 1 (src v)))) (hs : ∀ v, v < hi → src v < lo ∨ lo + hi ≤ src v) : ∃ A, L fu 0 B = some A ∧ Wr A B lo hi (fun d => B 1 (src d)) := by
  obtain ⟨A, hA, e⟩ := pz_loop L hi (fun A => some A) (fun v A => Wr A B lo v (fun d => B 1 (src d))) h0 (fun k v A hv hA => ⟨_, h1 k v A hv hA, by
    obtain ⟨a1, a2, a3⟩ := hA
    refine ⟨fun k hk => ?_, fun d hd => ?_, fun i hi2 => ?_⟩
    · simp (disch := omega) only [pz_row, pz_at, pz_no]
      exact a1 k hk
    · by_cases c : d = v
      · subst c
        have h9 := hs d hv
        simp (disch := omega) only [pz_row, pz_at, pz_no]
        exact a3 _ (by omega)
      · simp (disch := omega) only [pz_row, pz_at, pz_no]
        exact a2 d (by omega)
    · simp (disch := omega) only [pz_row, pz_at, pz_no]
      exact a3 i (by omega)⟩) hi fu 0 B (by omega) (fu_gt hf) ⟨fun _ _ => rfl, fun d hd => absurd hd (Nat.not_lt_zero d), fun _ _ => rfl⟩
  exact ⟨A, e, hA⟩
section KP
variable {s : SN} {I I' : PI}
theorem m_k82 (B : PI) {x : Nat} (hx : x ≤ 1609) (hx0 : 101 ≤ x) : ∃ A, m_keepStep_l82 (nI x) fu (nI 0) B = some A ∧ Wr A B (x + 1) 3 (fun d => B 1 (8 + d)) :=
  wr_loop (fun k v A => m_keepStep_l82 (nI x) k (nI v) A) 3 (x + 1) (fun d => 8 + d) B (by decide) (fun k A _ => by
    show m_keepStep_b82 (nI x) (m_keepStep_l82 (nI x) k) (nI 3) A = some A
    unfold m_keepStep_b82
    simp (disch := omega) only [pz_0, pz_1, pz_2, pz_3, pz_4, pz_5, pz_6, pz_7, pz_8, pz_9, pz_10, pz_11, pz_12, pz_13, pz_14, pz_15, pz_16, pz_20, pz_21, pz_22, pz_24, pz_25, pz_30, pz_31, pz_32, pz_35, pz_40, pz_41, pz_42, pz_43, pz_45, pz_47, pz_48, pz_52, pz_57, pz_58, pz_59, pz_60, pz_61, pz_62, pz_63, pz_65, pz_85, pz_90, pz_97, pz_98, pz_99, pz_100, pz_101, pz_102, pz_103, pz_104, pz_105, pz_107, pz_108, pz_109, pz_110, pz_111, pz_112, pz_114, pz_115, pz_116, pz_119, pz_120, pz_121, pz_122, pz_125, pz_127, pz_153, pz_200, pz_201, pz_202, pz_203, pz_204, pz_205, pz_206, pz_207, pz_208, pz_209, pz_210, pz_211, pz_212, pz_213, pz_214, pz_215, pz_216, pz_217, pz_218, pz_219, pz_220, pz_221, pz_222, pz_223, pz_224, pz_225, pz_255, pz_256, pz_271, pz_300, pz_301, pz_302, pz_303, pz_304, pz_400, pz_401, pz_521, pz_705, pz_1000, pz_1508, pz_1661, pz_1691, pz_2400, pz_3125, pz_9999, pz_10000, pz_30703, pz_65536, pz_99999, pz_1000000, pz_lt, pz_ck, pz_u2, pz_u3, pz_u4, pz_bs, pz_ix, pz_inb, pz_add, pz_mul, pz_sub, nI_leI, nI_ltI, nI_eq, pz_bIt, pz_bIf, pz_isb, pz_isb0, pz_isb1, pz_bI0, pz_bI1, Nat.zero_le, true_and, and_true, decide_true, decide_false, Bool.true_eq_false, Bool.false_eq_true, if_true, if_false, Nat.reduceAdd, Nat.reduceMul, Nat.reduceSub, Nat.reduceEqDiff, Nat.reduceLeDiff, Nat.reduceLT, Nat.one_ne_zero, Nat.zero_ne_one, Nat.le_refl]) (fun k v A hv _ => by
    show m_keepStep_b82 (nI x) (m_keepStep_l82 (nI x) k) (nI v) A = _
    unfold m_keepStep_b82
    simp (disch := omega) only [pz_0, pz_1, pz_2, pz_3, pz_4, pz_5, pz_6, pz_7, pz_8, pz_9, pz_10, pz_11, pz_12, pz_13, pz_14, pz_15, pz_16, pz_20, pz_21, pz_22, pz_24, pz_25, pz_30, pz_31, pz_32, pz_35, pz_40, pz_41, pz_42, pz_43, pz_45, pz_47, pz_48, pz_52, pz_57, pz_58, pz_59, pz_60, pz_61, pz_62, pz_63, pz_65, pz_85, pz_90, pz_97, pz_98, pz_99, pz_100, pz_101, pz_102, pz_103, pz_104, pz_105, pz_107, pz_108, pz_109, pz_110, pz_111, pz_112, pz_114, pz_115, pz_116, pz_119, pz_120, pz_121, pz_122, pz_125, pz_127, pz_153, pz_200, pz_201, pz_202, pz_203, pz_204, pz_205, pz_206, pz_207, pz_208, pz_209, pz_210, pz_211, pz_212, pz_213, pz_214, pz_215, pz_216, pz_217, pz_218, pz_219, pz_220, pz_221, pz_222, pz_223, pz_224, pz_225, pz_255, pz_256, pz_271, pz_300, pz_301, pz_302, pz_303, pz_304, pz_400, pz_401, pz_521, pz_705, pz_1000, pz_1508, pz_1661, pz_1691, pz_2400, pz_3125, pz_9999, pz_10000, pz_30703, pz_65536, pz_99999, pz_1000000, pz_lt, pz_ck, pz_u2, pz_u3, pz_u4, pz_bs, pz_ix, pz_inb, pz_add, pz_mul, pz_sub, nI_leI, nI_ltI, nI_eq, pz_bIt, pz_bIf, pz_isb, pz_isb0, pz_isb1, pz_bI0, pz_bI1, Nat.zero_le, true_and, and_true, decide_true, decide_false, Bool.true_eq_false, Bool.false_eq_true, if_true, if_false, Nat.reduceAdd, Nat.reduceMul, Nat.reduceSub, Nat.reduceEqDiff, Nat.reduceLeDiff, Nat.reduceLT, Nat.one_ne_zero, Nat.zero_ne_one, Nat.not_le.mpr hv]) (fun v hv => by omega)
theorem m_k122 (B : PI) {x p : Nat} (hx : x ≤ 1609) (hx0 : 101 ≤ x) (hp : p < 6) : ∃ A, m_keepStep_l122 (nI x) (nI p) fu (nI 0) B = some A ∧ Wr A B (x + 4 + 3 * p) 3 (fun d => B 1 (11 + 5 * p + d)) :=
  wr_loop (fun k v A => m_keepStep_l122 (nI x) (nI p) k (nI v) A) 3 (x + 4 + 3 * p) (fun d => 11 + 5 * p + d) B (by decide) (fun k A _ => by
    show m_keepStep_b122 (nI x) (nI p) (m_keepStep_l122 (nI x) (nI p) k) (nI 3) A = some A
    unfold m_keepStep_b122
    simp (disch := omega) only [pz_0, pz_1, pz_2, pz_3, pz_4, pz_5, pz_6, pz_7, pz_8, pz_9, pz_10, pz_11, pz_12, pz_13, pz_14, pz_15, pz_16, pz_20, pz_21, pz_22, pz_24, pz_25, pz_30, pz_31, pz_32, pz_35, pz_40, pz_41, pz_42, pz_43, pz_45, pz_47, pz_48, pz_52, pz_57, pz_58, pz_59, pz_60, pz_61, pz_62, pz_63, pz_65, pz_85, pz_90, pz_97, pz_98, pz_99, pz_100, pz_101, pz_102, pz_103, pz_104, pz_105, pz_107, pz_108, pz_109, pz_110, pz_111, pz_112, pz_114, pz_115, pz_116, pz_119, pz_120, pz_121, pz_122, pz_125, pz_127, pz_153, pz_200, pz_201, pz_202, pz_203, pz_204, pz_205, pz_206, pz_207, pz_208, pz_209, pz_210, pz_211, pz_212, pz_213, pz_214, pz_215, pz_216, pz_217, pz_218, pz_219, pz_220, pz_221, pz_222, pz_223, pz_224, pz_225, pz_255, pz_256, pz_271, pz_300, pz_301, pz_302, pz_303, pz_304, pz_400, pz_401, pz_521, pz_705, pz_1000, pz_1508, pz_1661, pz_1691, pz_2400, pz_3125, pz_9999, pz_10000, pz_30703, pz_65536, pz_99999, pz_1000000, pz_lt, pz_ck, pz_u2, pz_u3, pz_u4, pz_bs, pz_ix, pz_inb, pz_add, pz_mul, pz_sub, nI_leI, nI_ltI, nI_eq, pz_bIt, pz_bIf, pz_isb, pz_isb0, pz_isb1, pz_bI0, pz_bI1, Nat.zero_le, true_and, and_true, decide_true, decide_false, Bool.true_eq_false, Bool.false_eq_true, if_true, if_false, Nat.reduceAdd, Nat.reduceMul, Nat.reduceSub, Nat.reduceEqDiff, Nat.reduceLeDiff, Nat.reduceLT, Nat.one_ne_zero, Nat.zero_ne_one, Nat.le_refl]) (fun k v A hv _ => by
    show m_keepStep_b122 (nI x) (nI p) (m_keepStep_l122 (nI x) (nI p) k) (nI v) A = _
    have hg := pm_get A (p := p) (w := v) hp (by omega)
    unfold m_keepStep_b122
    simp (disch := omega) only [pz_0, pz_1, pz_2, pz_3, pz_4, pz_5, pz_6, pz_7, pz_8, pz_9, pz_10, pz_11, pz_12, pz_13, pz_14, pz_15, pz_16, pz_20, pz_21, pz_22, pz_24, pz_25, pz_30, pz_31, pz_32, pz_35, pz_40, pz_41, pz_42, pz_43, pz_45, pz_47, pz_48, pz_52, pz_57, pz_58, pz_59, pz_60, pz_61, pz_62, pz_63, pz_65, pz_85, pz_90, pz_97, pz_98, pz_99, pz_100, pz_101, pz_102, pz_103, pz_104, pz_105, pz_107, pz_108, pz_109, pz_110, pz_111, pz_112, pz_114, pz_115, pz_116, pz_119, pz_120, pz_121, pz_122, pz_125, pz_127, pz_153, pz_200, pz_201, pz_202, pz_203, pz_204, pz_205, pz_206, pz_207, pz_208, pz_209, pz_210, pz_211, pz_212, pz_213, pz_214, pz_215, pz_216, pz_217, pz_218, pz_219, pz_220, pz_221, pz_222, pz_223, pz_224, pz_225, pz_255, pz_256, pz_271, pz_300, pz_301, pz_302, pz_303, pz_304, pz_400, pz_401, pz_521, pz_705, pz_1000, pz_1508, pz_1661, pz_1691, pz_2400, pz_3125, pz_9999, pz_10000, pz_30703, pz_65536, pz_99999, pz_1000000, pz_lt, pz_ck, pz_u2, pz_u3, pz_u4, pz_bs, pz_ix, pz_inb, pz_add, pz_mul, pz_sub, nI_leI, nI_ltI, nI_eq, pz_bIt, pz_bIf, pz_isb, pz_isb0, pz_isb1, pz_bI0, pz_bI1, Nat.zero_le, true_and, and_true, decide_true, decide_false, Bool.true_eq_false, Bool.false_eq_true, if_true, if_false, Nat.reduceAdd, Nat.reduceMul, Nat.reduceSub, Nat.reduceEqDiff, Nat.reduceLeDiff, Nat.reduceLT, Nat.one_ne_zero, Nat.zero_ne_one, Nat.not_le.mpr hv, hg]) (fun v hv => by omega)
theorem m_k161 (B : PI) {x : Nat} (hx : x ≤ 1609) (hx0 : 101 ≤ x) : ∃ A, m_keepStep_l161 (nI x) fu (nI 0) B = some A ∧ Wr A B (x + 22) 30 (fun d => B 1 (1661 + d)) :=
  wr_loop (fun k v A => m_keepStep_l161 (nI x) k (nI v) A) 30 (x + 22) (fun d => 1661 + d) B (by decide) (fun k A _ => by
    show m_keepStep_b161 (nI x) (m_keepStep_l161 (nI x) k) (nI 30) A = some A
    unfold m_keepStep_b161
    simp (disch := omega) only [pz_0, pz_1, pz_2, pz_3, pz_4, pz_5, pz_6, pz_7, pz_8, pz_9, pz_10, pz_11, pz_12, pz_13, pz_14, pz_15, pz_16, pz_20, pz_21, pz_22, pz_24, pz_25, pz_30, pz_31, pz_32, pz_35, pz_40, pz_41, pz_42, pz_43, pz_45, pz_47, pz_48, pz_52, pz_57, pz_58, pz_59, pz_60, pz_61, pz_62, pz_63, pz_65, pz_85, pz_90, pz_97, pz_98, pz_99, pz_100, pz_101, pz_102, pz_103, pz_104, pz_105, pz_107, pz_108, pz_109, pz_110, pz_111, pz_112, pz_114, pz_115, pz_116, pz_119, pz_120, pz_121, pz_122, pz_125, pz_127, pz_153, pz_200, pz_201, pz_202, pz_203, pz_204, pz_205, pz_206, pz_207, pz_208, pz_209, pz_210, pz_211, pz_212, pz_213, pz_214, pz_215, pz_216, pz_217, pz_218, pz_219, pz_220, pz_221, pz_222, pz_223, pz_224, pz_225, pz_255, pz_256, pz_271, pz_300, pz_301, pz_302, pz_303, pz_304, pz_400, pz_401, pz_521, pz_705, pz_1000, pz_1508, pz_1661, pz_1691, pz_2400, pz_3125, pz_9999, pz_10000, pz_30703, pz_65536, pz_99999, pz_1000000, pz_lt, pz_ck, pz_u2, pz_u3, pz_u4, pz_bs, pz_ix, pz_inb, pz_add, pz_mul, pz_sub, nI_leI, nI_ltI, nI_eq, pz_bIt, pz_bIf, pz_isb, pz_isb0, pz_isb1, pz_bI0, pz_bI1, Nat.zero_le, true_and, and_true, decide_true, decide_false, Bool.true_eq_false, Bool.false_eq_true, if_true, if_false, Nat.reduceAdd, Nat.reduceMul, Nat.reduceSub, Nat.reduceEqDiff, Nat.reduceLeDiff, Nat.reduceLT, Nat.one_ne_zero, Nat.zero_ne_one, Nat.le_refl]) (fun k v A hv _ => by
    show m_keepStep_b161 (nI x) (m_keepStep_l161 (nI x) k) (nI v) A = _
    unfold m_keepStep_b161
    simp (disch := omega) only [pz_0, pz_1, pz_2, pz_3, pz_4, pz_5, pz_6, pz_7, pz_8, pz_9, pz_10, pz_11, pz_12, pz_13, pz_14, pz_15, pz_16, pz_20, pz_21, pz_22, pz_24, pz_25, pz_30, pz_31, pz_32, pz_35, pz_40, pz_41, pz_42, pz_43, pz_45, pz_47, pz_48, pz_52, pz_57, pz_58, pz_59, pz_60, pz_61, pz_62, pz_63, pz_65, pz_85, pz_90, pz_97, pz_98, pz_99, pz_100, pz_101, pz_102, pz_103, pz_104, pz_105, pz_107, pz_108, pz_109, pz_110, pz_111, pz_112, pz_114, pz_115, pz_116, pz_119, pz_120, pz_121, pz_122, pz_125, pz_127, pz_153, pz_200, pz_201, pz_202, pz_203, pz_204, pz_205, pz_206, pz_207, pz_208, pz_209, pz_210, pz_211, pz_212, pz_213, pz_214, pz_215, pz_216, pz_217, pz_218, pz_219, pz_220, pz_221, pz_222, pz_223, pz_224, pz_225, pz_255, pz_256, pz_271, pz_300, pz_301, pz_302, pz_303, pz_304, pz_400, pz_401, pz_521, pz_705, pz_1000, pz_1508, pz_1661, pz_1691, pz_2400, pz_3125, pz_9999, pz_10000, pz_30703, pz_65536, pz_99999, pz_1000000, pz_lt, pz_ck, pz_u2, pz_u3, pz_u4, pz_bs, pz_ix, pz_inb, pz_add, pz_mul, pz_sub, nI_leI, nI_ltI, nI_eq, pz_bIt, pz_bIf, pz_isb, pz_isb0, pz_isb1, pz_bI0, pz_bI1, Nat.zero_le, true_and, and_true, decide_true, decide_false, Bool.true_eq_false, Bool.false_eq_true, if_true, if_false, Nat.reduceAdd, Nat.reduceMul, Nat.reduceSub, Nat.reduceEqDiff, Nat.reduceLeDiff, Nat.reduceLT, Nat.one_ne_zero, Nat.zero_ne_one, Nat.not_le.mpr hv]) (fun v hv => by omega)
theorem m_k114 (B : PI) {x : Nat} (hx : x ≤ 1609) (hx0 : 101 ≤ x) : ∃ A, m_keepStep_l114 (nI x) fu (nI 0) B = some A ∧ (∀ k, k ≠ 1 → A k = B k) ∧ (∀ p w, p < 6 → w < 3 → A 1 (x + 4 + 3 * p + w) = B 1 (11 + 5 * p + w)) ∧ ∀ i, i < x + 4 ∨ x + 22 ≤ i → A 1 i = B 1 i := by
  obtain ⟨A, ⟨a1, a2, a3⟩, e⟩ := pz_loop (fun k v A => m_keepStep_l114 (nI x) k (nI v) A) 6 (fun A => some A) (fun v A => (∀ k, k ≠ 1 → A k = B k) ∧ (∀ p w, p < v → w < 3 → A 1 (x + 4 + 3 * p + w) = B 1 (11 + 5 * p + w)) ∧ ∀ i, i < x + 4 ∨ x + 4 + 3 * v ≤ i → A 1 i = B 1 i) (fun k A _ => by
    show m_keepStep_b114 (nI x) (m_keepStep_l114 (nI x) k) (nI 6) A = some A
    unfold m_keepStep_b114
    simp (disch := omega) only [pz_0, pz_1, pz_2, pz_3, pz_4, pz_5, pz_6, pz_7, pz_8, pz_9, pz_10, pz_11, pz_12, pz_13, pz_14, pz_15, pz_16, pz_20, pz_21, pz_22, pz_24, pz_25, pz_30, pz_31, pz_32, pz_35, pz_40, pz_41, pz_42, pz_43, pz_45, pz_47, pz_48, pz_52, pz_57, pz_58, pz_59, pz_60, pz_61, pz_62, pz_63, pz_65, pz_85, pz_90, pz_97, pz_98, pz_99, pz_100, pz_101, pz_102, pz_103, pz_104, pz_105, pz_107, pz_108, pz_109, pz_110, pz_111, pz_112, pz_114, pz_115, pz_116, pz_119, pz_120, pz_121, pz_122, pz_125, pz_127, pz_153, pz_200, pz_201, pz_202, pz_203, pz_204, pz_205, pz_206, pz_207, pz_208, pz_209, pz_210, pz_211, pz_212, pz_213, pz_214, pz_215, pz_216, pz_217, pz_218, pz_219, pz_220, pz_221, pz_222, pz_223, pz_224, pz_225, pz_255, pz_256, pz_271, pz_300, pz_301, pz_302, pz_303, pz_304, pz_400, pz_401, pz_521, pz_705, pz_1000, pz_1508, pz_1661, pz_1691, pz_2400, pz_3125, pz_9999, pz_10000, pz_30703, pz_65536, pz_99999, pz_1000000, pz_lt, pz_ck, pz_u2, pz_u3, pz_u4, pz_bs, pz_ix, pz_inb, pz_add, pz_mul, pz_sub, nI_leI, nI_ltI, nI_eq, pz_bIt, pz_bIf, pz_isb, pz_isb0, pz_isb1, pz_bI0, pz_bI1, Nat.zero_le, true_and, and_true, decide_true, decide_false, Bool.true_eq_false, Bool.false_eq_true, if_true, if_false, Nat.reduceAdd, Nat.reduceMul, Nat.reduceSub, Nat.reduceEqDiff, Nat.reduceLeDiff, Nat.reduceLT, Nat.one_ne_zero, Nat.zero_ne_one, Nat.le_refl]) (fun k v A hv hA => by
    obtain ⟨a1, a2, a3⟩ := hA
    obtain ⟨C, e, c1, c2, c3⟩ := m_k122 A hx hx0 hv
    refine ⟨C, ?_, fun k hk => (c1 k hk).trans (a1 k hk), fun p w hp hw => ?_, fun i hi => ?_⟩
    · show m_keepStep_b114 (nI x) (m_keepStep_l114 (nI x) k) (nI v) A = _
      unfold m_keepStep_b114
      simp (disch := omega) only [pz_0, pz_1, pz_2, pz_3, pz_4, pz_5, pz_6, pz_7, pz_8, pz_9, pz_10, pz_11, pz_12, pz_13, pz_14, pz_15, pz_16, pz_20, pz_21, pz_22, pz_24, pz_25, pz_30, pz_31, pz_32, pz_35, pz_40, pz_41, pz_42, pz_43, pz_45, pz_47, pz_48, pz_52, pz_57, pz_58, pz_59, pz_60, pz_61, pz_62, pz_63, pz_65, pz_85, pz_90, pz_97, pz_98, pz_99, pz_100, pz_101, pz_102, pz_103, pz_104, pz_105, pz_107, pz_108, pz_109, pz_110, pz_111, pz_112, pz_114, pz_115, pz_116, pz_119, pz_120, pz_121, pz_122, pz_125, pz_127, pz_153, pz_200, pz_201, pz_202, pz_203, pz_204, pz_205, pz_206, pz_207, pz_208, pz_209, pz_210, pz_211, pz_212, pz_213, pz_214, pz_215, pz_216, pz_217, pz_218, pz_219, pz_220, pz_221, pz_222, pz_223, pz_224, pz_225, pz_255, pz_256, pz_271, pz_300, pz_301, pz_302, pz_303, pz_304, pz_400, pz_401, pz_521, pz_705, pz_1000, pz_1508, pz_1661, pz_1691, pz_2400, pz_3125, pz_9999, pz_10000, pz_30703, pz_65536, pz_99999, pz_1000000, pz_lt, pz_ck, pz_u2, pz_u3, pz_u4, pz_bs, pz_ix, pz_inb, pz_add, pz_mul, pz_sub, nI_leI, nI_ltI, nI_eq, pz_bIt, pz_bIf, pz_isb, pz_isb0, pz_isb1, pz_bI0, pz_bI1, Nat.zero_le, true_and, and_true, decide_true, decide_false, Bool.true_eq_false, Bool.false_eq_true, if_true, if_false, Nat.reduceAdd, Nat.reduceMul, Nat.reduceSub, Nat.reduceEqDiff, Nat.reduceLeDiff, Nat.reduceLT, Nat.one_ne_zero, Nat.zero_ne_one, Nat.not_le.mpr hv, e]
    · by_cases c : p = v
      · subst c
        exact (c2 w hw).trans (a3 _ (by omega))
      · exact (c3 _ (by omega)).trans (a2 p w (by omega) hw)
    · exact (c3 i (by omega)).trans (a3 i (by omega))) 6 fu 0 B (by omega) (fu_gt (by decide)) ⟨fun _ _ => rfl, fun p w hp => absurd hp (Nat.not_lt_zero p), fun _ _ => rfl⟩
  exact ⟨A, e, a1, a2, fun i hi => a3 i (by omega)⟩
theorem kpS_V (hV : VSt s) (hn : s 2 5 < 30) : VSt (kpS s) := by
  obtain ⟨⟨v0, v1, v2, v3, v4, v5, v6, v7⟩, vr, vf, vs, va, ve, vt⟩ := hV
  obtain ⟨q1, q2, q3, q4, q5⟩ := kpS_ok s hn
  refine ⟨⟨by rw [q2 0 (by omega)]; exact v0, by rw [q2 1 (by omega)]; exact v1, by rw [q2 2 (by omega)]; exact v2, by rw [q2 3 (by omega)]; exact v3, by rw [q2 4 (by omega), q2 3 (by omega)]; exact v4, by omega, by rw [q2 6 (by omega)]; exact v6, by rw [q2 7 (by omega)]; exact v7⟩, ?_, ?_, ?_, ?_, ?_, fun k hk => ?_⟩
  · rw [q1 3 (by omega) (by omega), q2 0 (by omega), q2 1 (by omega)]; exact vr
  · rw [q1 4 (by omega) (by omega), q1 5 (by omega) (by omega), q2 0 (by omega)]; exact vf
  · rw [q1 6 (by omega) (by omega), q2 2 (by omega)]; exact vs
  · rw [q2 6 (by omega)]
    intro i hi
    rw [q1 _ (by omega) (by omega)]
    exact va i hi
  · rw [q2 7 (by omega), q2 1 (by omega)]
    intro i hi
    rw [q1 _ (by omega) (by omega)]
    exact ve i hi
  · rw [q2 0 (by omega), q2 1 (by omega)]
    by_cases c : k = s 2 5
    · subst c
      exact vr.c v1 (fun j hj => q5 j hj)
    · exact (vt k (by omega)).c v1 (fun j hj => q4 k j (by omega) hj)
theorem px_kp (hX : XR s I) (hn : s 2 5 < 30) : xs_keeps_j52 I = some (u2 (uc I 3 (27 + s 2 5) 0 0 141) 2 5 (nI (s 2 5 + 1))) ∧ XR (kpS s) (u2 (uc I 3 (27 + s 2 5) 0 0 141) 2 5 (nI (s 2 5 + 1))) ∧ Fx I (u2 (uc I 3 (27 + s 2 5) 0 0 141) 2 5 (nI (s 2 5 + 1))) := by
  have hx := hX.1
  have e : uc I 3 (27 + s 2 5) 0 0 141 2 = I 2 := uc_ne _ (by omega)
  refine ⟨?_, xrU (xrC hX (by omega) (by omega)) _ (by omega), Fx.tr ⟨fun k hk => uc_ne _ (by omega), by rw [uc_ne _ (by omega)], by rw [uc_ne _ (by omega)], by rw [uc_ne _ (by omega)]⟩ (fxU (by omega))⟩
  unfold xs_keeps_j52
  simp (disch := omega) only [pz_0, pz_1, pz_2, pz_3, pz_4, pz_5, pz_6, pz_7, pz_8, pz_9, pz_10, pz_11, pz_12, pz_13, pz_14, pz_15, pz_16, pz_20, pz_21, pz_22, pz_24, pz_25, pz_30, pz_31, pz_32, pz_35, pz_40, pz_41, pz_42, pz_43, pz_45, pz_47, pz_48, pz_52, pz_57, pz_58, pz_59, pz_60, pz_61, pz_62, pz_63, pz_65, pz_85, pz_90, pz_97, pz_98, pz_99, pz_100, pz_101, pz_102, pz_103, pz_104, pz_105, pz_107, pz_108, pz_109, pz_110, pz_111, pz_112, pz_114, pz_115, pz_116, pz_119, pz_120, pz_121, pz_122, pz_125, pz_127, pz_153, pz_200, pz_201, pz_202, pz_203, pz_204, pz_205, pz_206, pz_207, pz_208, pz_209, pz_210, pz_211, pz_212, pz_213, pz_214, pz_215, pz_216, pz_217, pz_218, pz_219, pz_220, pz_221, pz_222, pz_223, pz_224, pz_225, pz_255, pz_256, pz_271, pz_300, pz_301, pz_302, pz_303, pz_304, pz_400, pz_401, pz_521, pz_705, pz_1000, pz_1508, pz_1661, pz_1691, pz_2400, pz_3125, pz_9999, pz_10000, pz_30703, pz_65536, pz_99999, pz_1000000, pz_lt, pz_ck, pz_u2, pz_u3, pz_u4, pz_bs, pz_ix, pz_inb, pz_add, pz_mul, pz_sub, nI_leI, nI_ltI, nI_eq, pz_bIt, pz_bIf, pz_isb, pz_isb0, pz_isb1, pz_bI0, pz_bI1, Nat.zero_le, true_and, and_true, decide_true, decide_false, Bool.true_eq_false, Bool.false_eq_true, if_true, if_false, Nat.reduceAdd, Nat.reduceMul, Nat.reduceSub, Nat.reduceEqDiff, Nat.reduceLeDiff, Nat.reduceLT, Nat.one_ne_zero, Nat.zero_ne_one, hx, px_copy, e]
theorem pm_kp (hV : VSt s) (hn : s 2 5 < 30) (hM : MR s (I' 1)) : ∃ I1, m_keepStep_j55 I' = some I1 ∧ MR (kpS s) (I1 1) ∧ ∀ k, k ≠ 1 → I1 k = I' k := by
  obtain ⟨⟨v0, v1, v2, v3, v4, v5, v6, v7⟩, vr, vf, vs, va, ve, vt⟩ := id hV
  obtain ⟨⟨m0, m1, m2, m3, m4, m5, m6, m7, m8, m9, m10⟩, mp, mf, ms, ma, me, mb, mt⟩ := hM
  obtain ⟨q1, q2, q3, q4, q5⟩ := kpS_ok s hn
  obtain ⟨x, ex⟩ : ∃ x, x = 101 + 52 * s 2 5 := ⟨_, rfl⟩
  obtain ⟨A, ea, a1, a2, a3⟩ := m_k82 (u2 I' 1 x (nI (s 2 1))) (x := x) (by omega) (by omega)
  obtain ⟨B, eb, b1, b2, b3⟩ := m_k114 A (x := x) (by omega) (by omega)
  obtain ⟨C, ec, c1, c2, c3⟩ := m_k161 B (x := x) (by omega) (by omega)
  have hC : ∀ i, (i < x ∨ x + 52 ≤ i) → C 1 i = I' 1 i := fun i hi => by
    rw [c3 i (by omega), b3 i (by omega), a3 i (by omega)]
    simp (disch := omega) only [pz_row, pz_at, pz_no]
  have hC0 : C 1 x = nI (s 2 1) := by
    rw [c3 x (by omega), b3 x (by omega), a3 x (by omega)]
    simp (disch := omega) only [pz_row, pz_at, pz_no]
  have hC1 : ∀ d, d < 3 → C 1 (x + 1 + d) = I' 1 (8 + d) := fun d hd => by
    rw [c3 _ (by omega), b3 _ (by omega), a2 d hd]
    simp (disch := omega) only [pz_row, pz_at, pz_no]
  have hC2 : ∀ p w, p < 6 → w < 3 → C 1 (x + 4 + 3 * p + w) = I' 1 (11 + 5 * p + w) := fun p w hp hw => by
    rw [c3 _ (by omega), b2 p w hp hw, a3 _ (by omega)]
    simp (disch := omega) only [pz_row, pz_at, pz_no]
  have hC3 : ∀ i, i < 30 → C 1 (x + 22 + i) = I' 1 (1661 + i) := fun i hi => by
    have e1 : C 1 (x + 22 + i) = B 1 (1661 + i) := c2 i hi
    rw [b3 _ (by omega), a3 _ (by omega)] at e1
    rw [e1]
    simp (disch := omega) only [pz_row, pz_at, pz_no]
  have h5 : C 1 5 = nI (s 2 5) := by rw [hC 5 (by omega)]; exact m5
  refine ⟨u2 C 1 5 (nI (s 2 5 + 1)), ?_, ?_, fun k hk => ?_⟩
  · unfold m_keepStep_j55
    simp (disch := omega) only [pz_0, pz_1, pz_2, pz_3, pz_4, pz_5, pz_6, pz_7, pz_8, pz_9, pz_10, pz_11, pz_12, pz_13, pz_14, pz_15, pz_16, pz_20, pz_21, pz_22, pz_24, pz_25, pz_30, pz_31, pz_32, pz_35, pz_40, pz_41, pz_42, pz_43, pz_45, pz_47, pz_48, pz_52, pz_57, pz_58, pz_59, pz_60, pz_61, pz_62, pz_63, pz_65, pz_85, pz_90, pz_97, pz_98, pz_99, pz_100, pz_101, pz_102, pz_103, pz_104, pz_105, pz_107, pz_108, pz_109, pz_110, pz_111, pz_112, pz_114, pz_115, pz_116, pz_119, pz_120, pz_121, pz_122, pz_125, pz_127, pz_153, pz_200, pz_201, pz_202, pz_203, pz_204, pz_205, pz_206, pz_207, pz_208, pz_209, pz_210, pz_211, pz_212, pz_213, pz_214, pz_215, pz_216, pz_217, pz_218, pz_219, pz_220, pz_221, pz_222, pz_223, pz_224, pz_225, pz_255, pz_256, pz_271, pz_300, pz_301, pz_302, pz_303, pz_304, pz_400, pz_401, pz_521, pz_705, pz_1000, pz_1508, pz_1661, pz_1691, pz_2400, pz_3125, pz_9999, pz_10000, pz_30703, pz_65536, pz_99999, pz_1000000, pz_lt, pz_ck, pz_u2, pz_u3, pz_u4, pz_bs, pz_ix, pz_inb, pz_add, pz_mul, pz_sub, nI_leI, nI_ltI, nI_eq, pz_bIt, pz_bIf, pz_isb, pz_isb0, pz_isb1, pz_bI0, pz_bI1, Nat.zero_le, true_and, and_true, decide_true, decide_false, Bool.true_eq_false, Bool.false_eq_true, if_true, if_false, Nat.reduceAdd, Nat.reduceMul, Nat.reduceSub, Nat.reduceEqDiff, Nat.reduceLeDiff, Nat.reduceLT, Nat.one_ne_zero, Nat.zero_ne_one, m5, m1, ← ex, ea, eb, ec, h5]
  · have hA : ∀ i, i ≠ 5 → (i < x ∨ x + 52 ≤ i) → u2 C 1 5 (nI (s 2 5 + 1)) 1 i = I' 1 i := fun i h1 h2 => by
      simp (disch := omega) only [pz_row, pz_at, pz_no]
      exact hC i h2
    refine ⟨?_, ?_, ?_, ?_, ?_, ?_, ?_, fun k hk => ?_⟩
    · exact ⟨by rw [hA 0 (by omega) (by omega), q2 0 (by omega)]; exact m0, by rw [hA 1 (by omega) (by omega), q2 1 (by omega)]; exact m1, by rw [hA 2 (by omega) (by omega), q2 2 (by omega)]; exact m2, by rw [hA 3 (by omega) (by omega), q2 3 (by omega)]; exact m3, by rw [hA 4 (by omega) (by omega), q2 4 (by omega)]; exact m4, by rw [q3]; exact u2_eq _ _ _ _, by rw [hA 6 (by omega) (by omega), q2 6 (by omega)]; exact m6, by rw [hA 7 (by omega) (by omega), q2 7 (by omega)]; exact m7, by rw [hA 8 (by omega) (by omega), q1 3 (by omega) (by omega)]; exact m8, by rw [hA 9 (by omega) (by omega), q1 3 (by omega) (by omega)]; exact m9, by rw [hA 10 (by omega) (by omega), q1 3 (by omega) (by omega)]; exact m10⟩
    · exact MPeo.c mp v1 (q2 1 (by omega)) (q1 3 (by omega) (by omega)) (fun i h1 h2 => hA i (by omega) (by omega))
    · exact MFor.c mf (q1 4 (by omega) (by omega)) (q1 5 (by omega) (by omega)) (fun i h1 h2 => hA i (by omega) (by omega))
    · exact MSto.c ms v2 (q2 2 (by omega)) (q1 6 (by omega) (by omega)) (fun i h1 h2 => hA i (by omega) (by omega))
    · exact MSai.c ma v6 (q2 6 (by omega)) (fun i hi => q1 _ (by omega) (by omega)) (fun i h1 h2 => hA i (by omega) (by omega))
    · exact MSee.c me v7 (q2 7 (by omega)) (fun i hi => q1 _ (by omega) (by omega)) (fun i h1 h2 => hA i (by omega) (by omega))
    · exact MBoo.c mb vr.2.2.1 (q1 3 (by omega) (by omega)) (fun i h1 h2 => hA i (by omega) (by omega))
    · rw [q2 1 (by omega)]
      by_cases c : k = s 2 5
      · subst c
        refine ⟨s 2 1, ?_⟩
        rw [← ex]
        refine MStp.r (r := s 3) ?_ v1 vr.2.2.1 (fun j hj => q5 j hj)
        refine ⟨Nat.le_refl _, ?_, ?_, ?_, ?_, fun p hp => ?_, fun p hp hp2 => by omega, fun i hi => ?_⟩
        · simp (disch := omega) only [pz_row, pz_at, pz_no]
          exact hC0
        · simp (disch := omega) only [pz_row, pz_at, pz_no]
          exact (hC1 0 (by omega)).trans m8
        · simp (disch := omega) only [pz_row, pz_at, pz_no]
          exact (hC1 1 (by omega)).trans m9
        · simp (disch := omega) only [pz_row, pz_at, pz_no]
          exact (hC1 2 (by omega)).trans m10
        · obtain ⟨r1, r2, r3⟩ := mp p hp
          simp (disch := omega) only [pz_row, pz_at, pz_no]
          exact ⟨(hC2 p 0 (by omega) (by omega)).trans r1, (hC2 p 1 (by omega) (by omega)).trans r2, (hC2 p 2 (by omega) (by omega)).trans r3⟩
        · have hr := vr.2.2.1
          simp (disch := omega) only [pz_row, pz_at, pz_no]
          exact (hC3 i (by omega)).trans (mb i hi)
      · obtain ⟨n, hc⟩ := mt k (by omega)
        refine ⟨n, MStp.r (hc.c v1 (vt k (by omega)).2.2.1 (fun i h1 h2 => hA i (by omega) (by omega)) (fun p w hp h1 h2 => hA _ (by omega) (by omega))) v1 (vt k (by omega)).2.2.1 (fun j hj => q4 k j (by omega) hj)⟩
  · simp (disch := omega) only [pz_row, pz_at, pz_no]
    rw [c1 k hk, b1 k hk, a1 k hk]
    simp (disch := omega) only [pz_row, pz_at, pz_no]
/-- a step is kept -/
theorem pe_keeps (hV : VSt s) (hX : XR s I) (hM : MR s (I' 1)) : ∃ I1 I1', xs_keeps I = some I1 ∧ m_keepStep I' = some I1' ∧ VSt (keepS s) ∧ XR (keepS s) I1 ∧ MR (keepS s) (I1' 1) ∧ Fx I I1 ∧ ∀ k, k ≠ 1 → I1' k = I' k := by
  have hx := hX.1
  have m5 := hM.1.2.2.2.2.2.1
  have v5 := hV.1.2.2.2.2.2.1
  by_cases c : s 2 5 = 30
  · obtain ⟨A, e1, e2, e3⟩ := px_sh hX
    obtain ⟨B, f1, f2, f3, f4⟩ := pm_sh hV c hM
    have hV1 := shS_V hV c
    have hn : shS s 2 5 < 30 := by rw [(shS_ok s).2.2.1]; decide
    obtain ⟨g1, g2, g3⟩ := px_kp e2 hn
    obtain ⟨D, k1, k2, k3⟩ := pm_kp hV1 hn f2
    have ek : keepS s = kpS (shS s) := by unfold keepS; rw [if_pos c]
    rw [ek]
    refine ⟨_, D, ?_, ?_, kpS_V hV1 hn, g2, k2, Fx.tr (Fx.tr ⟨fun k hk => e3 k (by omega), by rw [e3 0 (by omega)], by rw [e3 0 (by omega)], by rw [e3 0 (by omega)]⟩ (fxU (by omega))) g3, fun k hk => by rw [k3 k hk, u2_row _ _ _ _ hk, f3 k hk]⟩
    · unfold xs_keeps
      have e4 : A 2 5 = nI 30 := by rw [e3 2 (by omega), hx 2 5 (by omega) (by omega), c]
      have e9 : xs_keeps_l13 fu (nI 1) I = some A := e1
      simp (disch := omega) only [pz_0, pz_1, pz_2, pz_3, pz_4, pz_5, pz_6, pz_7, pz_8, pz_9, pz_10, pz_11, pz_12, pz_13, pz_14, pz_15, pz_16, pz_20, pz_21, pz_22, pz_24, pz_25, pz_30, pz_31, pz_32, pz_35, pz_40, pz_41, pz_42, pz_43, pz_45, pz_47, pz_48, pz_52, pz_57, pz_58, pz_59, pz_60, pz_61, pz_62, pz_63, pz_65, pz_85, pz_90, pz_97, pz_98, pz_99, pz_100, pz_101, pz_102, pz_103, pz_104, pz_105, pz_107, pz_108, pz_109, pz_110, pz_111, pz_112, pz_114, pz_115, pz_116, pz_119, pz_120, pz_121, pz_122, pz_125, pz_127, pz_153, pz_200, pz_201, pz_202, pz_203, pz_204, pz_205, pz_206, pz_207, pz_208, pz_209, pz_210, pz_211, pz_212, pz_213, pz_214, pz_215, pz_216, pz_217, pz_218, pz_219, pz_220, pz_221, pz_222, pz_223, pz_224, pz_225, pz_255, pz_256, pz_271, pz_300, pz_301, pz_302, pz_303, pz_304, pz_400, pz_401, pz_521, pz_705, pz_1000, pz_1508, pz_1661, pz_1691, pz_2400, pz_3125, pz_9999, pz_10000, pz_30703, pz_65536, pz_99999, pz_1000000, pz_lt, pz_ck, pz_u2, pz_u3, pz_u4, pz_bs, pz_ix, pz_inb, pz_add, pz_mul, pz_sub, nI_leI, nI_ltI, nI_eq, pz_bIt, pz_bIf, pz_isb, pz_isb0, pz_isb1, pz_bI0, pz_bI1, Nat.zero_le, true_and, and_true, decide_true, decide_false, Bool.true_eq_false, Bool.false_eq_true, if_true, if_false, Nat.reduceAdd, Nat.reduceMul, Nat.reduceSub, Nat.reduceEqDiff, Nat.reduceLeDiff, Nat.reduceLT, Nat.one_ne_zero, Nat.zero_ne_one, hx, c, e9, e4]
      exact g1
    · unfold m_keepStep
      have f9 : m_keepStep_l13 fu (nI 0) I' = some B := f1
      simp (disch := omega) only [pz_0, pz_1, pz_2, pz_3, pz_4, pz_5, pz_6, pz_7, pz_8, pz_9, pz_10, pz_11, pz_12, pz_13, pz_14, pz_15, pz_16, pz_20, pz_21, pz_22, pz_24, pz_25, pz_30, pz_31, pz_32, pz_35, pz_40, pz_41, pz_42, pz_43, pz_45, pz_47, pz_48, pz_52, pz_57, pz_58, pz_59, pz_60, pz_61, pz_62, pz_63, pz_65, pz_85, pz_90, pz_97, pz_98, pz_99, pz_100, pz_101, pz_102, pz_103, pz_104, pz_105, pz_107, pz_108, pz_109, pz_110, pz_111, pz_112, pz_114, pz_115, pz_116, pz_119, pz_120, pz_121, pz_122, pz_125, pz_127, pz_153, pz_200, pz_201, pz_202, pz_203, pz_204, pz_205, pz_206, pz_207, pz_208, pz_209, pz_210, pz_211, pz_212, pz_213, pz_214, pz_215, pz_216, pz_217, pz_218, pz_219, pz_220, pz_221, pz_222, pz_223, pz_224, pz_225, pz_255, pz_256, pz_271, pz_300, pz_301, pz_302, pz_303, pz_304, pz_400, pz_401, pz_521, pz_705, pz_1000, pz_1508, pz_1661, pz_1691, pz_2400, pz_3125, pz_9999, pz_10000, pz_30703, pz_65536, pz_99999, pz_1000000, pz_lt, pz_ck, pz_u2, pz_u3, pz_u4, pz_bs, pz_ix, pz_inb, pz_add, pz_mul, pz_sub, nI_leI, nI_ltI, nI_eq, pz_bIt, pz_bIf, pz_isb, pz_isb0, pz_isb1, pz_bI0, pz_bI1, Nat.zero_le, true_and, and_true, decide_true, decide_false, Bool.true_eq_false, Bool.false_eq_true, if_true, if_false, Nat.reduceAdd, Nat.reduceMul, Nat.reduceSub, Nat.reduceEqDiff, Nat.reduceLeDiff, Nat.reduceLT, Nat.one_ne_zero, Nat.zero_ne_one, m5, c, f9, f4]
      exact k1
  · have hn : s 2 5 < 30 := by omega
    obtain ⟨g1, g2, g3⟩ := px_kp hX hn
    obtain ⟨D, k1, k2, k3⟩ := pm_kp hV hn hM
    have ek : keepS s = kpS s := by unfold keepS; rw [if_neg c]
    rw [ek]
    refine ⟨_, D, ?_, ?_, kpS_V hV hn, g2, k2, g3, k3⟩
    · unfold xs_keeps
      simp (disch := omega) only [pz_0, pz_1, pz_2, pz_3, pz_4, pz_5, pz_6, pz_7, pz_8, pz_9, pz_10, pz_11, pz_12, pz_13, pz_14, pz_15, pz_16, pz_20, pz_21, pz_22, pz_24, pz_25, pz_30, pz_31, pz_32, pz_35, pz_40, pz_41, pz_42, pz_43, pz_45, pz_47, pz_48, pz_52, pz_57, pz_58, pz_59, pz_60, pz_61, pz_62, pz_63, pz_65, pz_85, pz_90, pz_97, pz_98, pz_99, pz_100, pz_101, pz_102, pz_103, pz_104, pz_105, pz_107, pz_108, pz_109, pz_110, pz_111, pz_112, pz_114, pz_115, pz_116, pz_119, pz_120, pz_121, pz_122, pz_125, pz_127, pz_153, pz_200, pz_201, pz_202, pz_203, pz_204, pz_205, pz_206, pz_207, pz_208, pz_209, pz_210, pz_211, pz_212, pz_213, pz_214, pz_215, pz_216, pz_217, pz_218, pz_219, pz_220, pz_221, pz_222, pz_223, pz_224, pz_225, pz_255, pz_256, pz_271, pz_300, pz_301, pz_302, pz_303, pz_304, pz_400, pz_401, pz_521, pz_705, pz_1000, pz_1508, pz_1661, pz_1691, pz_2400, pz_3125, pz_9999, pz_10000, pz_30703, pz_65536, pz_99999, pz_1000000, pz_lt, pz_ck, pz_u2, pz_u3, pz_u4, pz_bs, pz_ix, pz_inb, pz_add, pz_mul, pz_sub, nI_leI, nI_ltI, nI_eq, pz_bIt, pz_bIf, pz_isb, pz_isb0, pz_isb1, pz_bI0, pz_bI1, Nat.zero_le, true_and, and_true, decide_true, decide_false, Bool.true_eq_false, Bool.false_eq_true, if_true, if_false, Nat.reduceAdd, Nat.reduceMul, Nat.reduceSub, Nat.reduceEqDiff, Nat.reduceLeDiff, Nat.reduceLT, Nat.one_ne_zero, Nat.zero_ne_one, hx, c]
      exact g1
    · unfold m_keepStep
      simp (disch := omega) only [pz_0, pz_1, pz_2, pz_3, pz_4, pz_5, pz_6, pz_7, pz_8, pz_9, pz_10, pz_11, pz_12, pz_13, pz_14, pz_15, pz_16, pz_20, pz_21, pz_22, pz_24, pz_25, pz_30, pz_31, pz_32, pz_35, pz_40, pz_41, pz_42, pz_43, pz_45, pz_47, pz_48, pz_52, pz_57, pz_58, pz_59, pz_60, pz_61, pz_62, pz_63, pz_65, pz_85, pz_90, pz_97, pz_98, pz_99, pz_100, pz_101, pz_102, pz_103, pz_104, pz_105, pz_107, pz_108, pz_109, pz_110, pz_111, pz_112, pz_114, pz_115, pz_116, pz_119, pz_120, pz_121, pz_122, pz_125, pz_127, pz_153, pz_200, pz_201, pz_202, pz_203, pz_204, pz_205, pz_206, pz_207, pz_208, pz_209, pz_210, pz_211, pz_212, pz_213, pz_214, pz_215, pz_216, pz_217, pz_218, pz_219, pz_220, pz_221, pz_222, pz_223, pz_224, pz_225, pz_255, pz_256, pz_271, pz_300, pz_301, pz_302, pz_303, pz_304, pz_400, pz_401, pz_521, pz_705, pz_1000, pz_1508, pz_1661, pz_1691, pz_2400, pz_3125, pz_9999, pz_10000, pz_30703, pz_65536, pz_99999, pz_1000000, pz_lt, pz_ck, pz_u2, pz_u3, pz_u4, pz_bs, pz_ix, pz_inb, pz_add, pz_mul, pz_sub, nI_leI, nI_ltI, nI_eq, pz_bIt, pz_bIf, pz_isb, pz_isb0, pz_isb1, pz_bI0, pz_bI1, Nat.zero_le, true_and, and_true, decide_true, decide_false, Bool.true_eq_false, Bool.false_eq_true, if_true, if_false, Nat.reduceAdd, Nat.reduceMul, Nat.reduceSub, Nat.reduceEqDiff, Nat.reduceLeDiff, Nat.reduceLT, Nat.one_ne_zero, Nat.zero_ne_one, m5, c]
      exact k1
theorem keepS_ok (s : SN) (h5 : s 2 5 ≤ 30) : (∀ k, k ≠ 2 → k < 27 ∨ 57 ≤ k → keepS s k = s k) ∧ ∀ j, j ≠ 5 → keepS s 2 j = s 2 j := by
  unfold keepS
  by_cases c : s 2 5 = 30
  · obtain ⟨q1, q2, q3, -⟩ := shS_ok s
    obtain ⟨r1, r2, -⟩ := kpS_ok (shS s) (by omega)
    rw [if_pos c]
    exact ⟨fun k h1 h2 => (r1 k h1 h2).trans (q1 k h1 (by omega)), fun j hj => (r2 j hj).trans (q2 j hj)⟩
  · rw [if_neg c]
    obtain ⟨r1, r2, -⟩ := kpS_ok s (by omega)
    exact ⟨r1, r2⟩
end KP
