/-! members one by one, 11: sure, ask, say -/
theorem or0 (n : Nat) : n ||| 0 = n := Nat.or_zero n
section OPL
variable {s si : SN} {I : PI} {T : PT} {X : TS} {tN : XCo} {I' : PI} {J' : PJ}
theorem pu_sure (h : CC s si I T X tN I' J') (a : Int32) : ∃ (r : Int32) (I1 : PI), x_sure I a = some (r, I1) ∧ m_sure I' a = some r ∧ CC s si I1 T X tN I' J' := by
  have ht := h.2.2.2.1
  have hV := h.1.1
  have hX := h.1.2.2.1
  have hM := h.1.2.2.2.2.1
  obtain ⟨I1, e1, d⟩ := px_laysCould hV hX ht
  have hl := cl_len s 120
  have hC : CC s si I1 T X tN I' J' := h.step d.fx Fm.rf hV (hX.keep d.2.2.1) hM rfl h.lea
  have hm := pm_many hV hM ht
  obtain ⟨b1, k1, k1', q1⟩ := pe_isDoing a
  unfold x_sure m_sure
  cases b1 with
  | false => exact ⟨-nI 1, I1, by simp (disch := omega) only [pz_0, pz_1, pz_3, pz_4, pz_9, pz_60, pz_99, pz_119, pz_lt, pz_bs, pz_isb, pz_isb0, pz_isb1, pz_bI0, pz_bIf, if_true, Bool.true_eq_false, if_false, pz_ck, e1, k1], by simp (disch := omega) only [pz_0, pz_1, pz_3, pz_4, pz_9, pz_60, pz_99, pz_119, pz_lt, pz_bs, pz_isb, pz_isb0, pz_isb1, pz_bI0, pz_bIf, if_true, Bool.true_eq_false, if_false, pz_ck, k1'], hC⟩
  | true =>
  obtain ⟨p, hp, rfl⟩ := q1 rfl
  by_cases c0 : (cl s 120).length = 0
  · exact ⟨-nI 1, I1, by simp (disch := omega) only [pz_0, pz_1, pz_2, pz_3, pz_4, pz_5, pz_6, pz_7, pz_8, pz_9, pz_10, pz_11, pz_12, pz_13, pz_14, pz_15, pz_16, pz_20, pz_21, pz_22, pz_24, pz_25, pz_30, pz_31, pz_32, pz_35, pz_40, pz_41, pz_42, pz_43, pz_45, pz_47, pz_48, pz_52, pz_57, pz_58, pz_59, pz_60, pz_61, pz_62, pz_63, pz_65, pz_85, pz_90, pz_97, pz_98, pz_99, pz_100, pz_101, pz_102, pz_103, pz_104, pz_105, pz_107, pz_108, pz_109, pz_110, pz_111, pz_112, pz_114, pz_115, pz_116, pz_119, pz_120, pz_121, pz_122, pz_125, pz_127, pz_153, pz_200, pz_201, pz_202, pz_203, pz_204, pz_205, pz_206, pz_207, pz_208, pz_209, pz_210, pz_211, pz_212, pz_213, pz_214, pz_215, pz_216, pz_217, pz_218, pz_219, pz_220, pz_221, pz_222, pz_223, pz_224, pz_225, pz_255, pz_256, pz_271, pz_300, pz_301, pz_302, pz_303, pz_304, pz_400, pz_401, pz_521, pz_705, pz_1000, pz_1508, pz_1661, pz_1691, pz_2400, pz_3125, pz_9999, pz_10000, pz_30703, pz_65536, pz_99999, pz_1000000, pz_lt, pz_ck, pz_u2, pz_u3, pz_u4, pz_bs, pz_ix, pz_inb, pz_add, pz_mul, pz_sub, nI_leI, nI_ltI, nI_eq, pz_bIt, pz_bIf, pz_isb, pz_isb0, pz_isb1, pz_bI0, pz_bI1, Nat.zero_le, true_and, and_true, decide_true, decide_false, Bool.true_eq_false, Bool.false_eq_true, if_true, if_false, Nat.reduceAdd, Nat.reduceMul, Nat.reduceSub, Nat.reduceEqDiff, Nat.reduceLeDiff, Nat.reduceLT, Nat.one_ne_zero, Nat.zero_ne_one, e1, k1, d.1, c0], by simp (disch := omega) only [pz_0, pz_1, pz_2, pz_3, pz_4, pz_5, pz_6, pz_7, pz_8, pz_9, pz_10, pz_11, pz_12, pz_13, pz_14, pz_15, pz_16, pz_20, pz_21, pz_22, pz_24, pz_25, pz_30, pz_31, pz_32, pz_35, pz_40, pz_41, pz_42, pz_43, pz_45, pz_47, pz_48, pz_52, pz_57, pz_58, pz_59, pz_60, pz_61, pz_62, pz_63, pz_65, pz_85, pz_90, pz_97, pz_98, pz_99, pz_100, pz_101, pz_102, pz_103, pz_104, pz_105, pz_107, pz_108, pz_109, pz_110, pz_111, pz_112, pz_114, pz_115, pz_116, pz_119, pz_120, pz_121, pz_122, pz_125, pz_127, pz_153, pz_200, pz_201, pz_202, pz_203, pz_204, pz_205, pz_206, pz_207, pz_208, pz_209, pz_210, pz_211, pz_212, pz_213, pz_214, pz_215, pz_216, pz_217, pz_218, pz_219, pz_220, pz_221, pz_222, pz_223, pz_224, pz_225, pz_255, pz_256, pz_271, pz_300, pz_301, pz_302, pz_303, pz_304, pz_400, pz_401, pz_521, pz_705, pz_1000, pz_1508, pz_1661, pz_1691, pz_2400, pz_3125, pz_9999, pz_10000, pz_30703, pz_65536, pz_99999, pz_1000000, pz_lt, pz_ck, pz_u2, pz_u3, pz_u4, pz_bs, pz_ix, pz_inb, pz_add, pz_mul, pz_sub, nI_leI, nI_ltI, nI_eq, pz_bIt, pz_bIf, pz_isb, pz_isb0, pz_isb1, pz_bI0, pz_bI1, Nat.zero_le, true_and, and_true, decide_true, decide_false, Bool.true_eq_false, Bool.false_eq_true, if_true, if_false, Nat.reduceAdd, Nat.reduceMul, Nat.reduceSub, Nat.reduceEqDiff, Nat.reduceLeDiff, Nat.reduceLT, Nat.one_ne_zero, Nat.zero_ne_one, k1', hm, c0], hC⟩
  · refine ⟨nI (itN (suS s p) 5 0), I1, ?_, ?_, hC⟩
    · have h := it_loop (fun k v (n : Nat) => x_sure_l24 I1 (nI p) k (nI n) (nI v)) 5 (fun n => some (nI n)) (suS s p) (fun _ _ => True) 0 trivial (fun _ _ _ _ => trivial) (fun k n _ => by
        show x_sure_b24 I1 (nI p) (x_sure_l24 I1 (nI p) k) (nI n) (nI 5) = some (nI n)
        unfold x_sure_b24
        simp (disch := omega) only [pz_0, pz_1, pz_2, pz_3, pz_4, pz_5, pz_6, pz_7, pz_8, pz_9, pz_10, pz_11, pz_12, pz_13, pz_14, pz_15, pz_16, pz_20, pz_21, pz_22, pz_24, pz_25, pz_30, pz_31, pz_32, pz_35, pz_40, pz_41, pz_42, pz_43, pz_45, pz_47, pz_48, pz_52, pz_57, pz_58, pz_59, pz_60, pz_61, pz_62, pz_63, pz_65, pz_85, pz_90, pz_97, pz_98, pz_99, pz_100, pz_101, pz_102, pz_103, pz_104, pz_105, pz_107, pz_108, pz_109, pz_110, pz_111, pz_112, pz_114, pz_115, pz_116, pz_119, pz_120, pz_121, pz_122, pz_125, pz_127, pz_153, pz_200, pz_201, pz_202, pz_203, pz_204, pz_205, pz_206, pz_207, pz_208, pz_209, pz_210, pz_211, pz_212, pz_213, pz_214, pz_215, pz_216, pz_217, pz_218, pz_219, pz_220, pz_221, pz_222, pz_223, pz_224, pz_225, pz_255, pz_256, pz_271, pz_300, pz_301, pz_302, pz_303, pz_304, pz_400, pz_401, pz_521, pz_705, pz_1000, pz_1508, pz_1661, pz_1691, pz_2400, pz_3125, pz_9999, pz_10000, pz_30703, pz_65536, pz_99999, pz_1000000, pz_lt, pz_ck, pz_u2, pz_u3, pz_u4, pz_bs, pz_ix, pz_inb, pz_add, pz_mul, pz_sub, nI_leI, nI_ltI, nI_eq, pz_bIt, pz_bIf, pz_isb, pz_isb0, pz_isb1, pz_bI0, pz_bI1, Nat.zero_le, true_and, and_true, decide_true, decide_false, Bool.true_eq_false, Bool.false_eq_true, if_true, if_false, Nat.reduceAdd, Nat.reduceMul, Nat.reduceSub, Nat.reduceEqDiff, Nat.reduceLeDiff, Nat.reduceLT, Nat.one_ne_zero, Nat.zero_ne_one, Nat.le_refl]) (fun k v n hv _ => by
        show x_sure_b24 I1 (nI p) (x_sure_l24 I1 (nI p) k) (nI n) (nI v) = x_sure_l24 I1 (nI p) k (nI (suS s p v n)) (nI (v + 1))
        have a1 := px_ahead d ht hv hp
        have al := ah_le s v p
        have hs := pz_shl v (by omega)
        unfold x_sure_b24 x_sure_j54 x_sure_j55 suS
        by_cases c : v = p
        · have hp5 := Nat.not_le.mpr hp
          simp (disch := omega) only [pz_0, pz_1, pz_2, pz_3, pz_4, pz_5, pz_6, pz_7, pz_8, pz_9, pz_10, pz_11, pz_12, pz_13, pz_14, pz_15, pz_16, pz_20, pz_21, pz_22, pz_24, pz_25, pz_30, pz_31, pz_32, pz_35, pz_40, pz_41, pz_42, pz_43, pz_45, pz_47, pz_48, pz_52, pz_57, pz_58, pz_59, pz_60, pz_61, pz_62, pz_63, pz_65, pz_85, pz_90, pz_97, pz_98, pz_99, pz_100, pz_101, pz_102, pz_103, pz_104, pz_105, pz_107, pz_108, pz_109, pz_110, pz_111, pz_112, pz_114, pz_115, pz_116, pz_119, pz_120, pz_121, pz_122, pz_125, pz_127, pz_153, pz_200, pz_201, pz_202, pz_203, pz_204, pz_205, pz_206, pz_207, pz_208, pz_209, pz_210, pz_211, pz_212, pz_213, pz_214, pz_215, pz_216, pz_217, pz_218, pz_219, pz_220, pz_221, pz_222, pz_223, pz_224, pz_225, pz_255, pz_256, pz_271, pz_300, pz_301, pz_302, pz_303, pz_304, pz_400, pz_401, pz_521, pz_705, pz_1000, pz_1508, pz_1661, pz_1691, pz_2400, pz_3125, pz_9999, pz_10000, pz_30703, pz_65536, pz_99999, pz_1000000, pz_lt, pz_ck, pz_u2, pz_u3, pz_u4, pz_bs, pz_ix, pz_inb, pz_add, pz_mul, pz_sub, nI_leI, nI_ltI, nI_eq, pz_bIt, pz_bIf, pz_isb, pz_isb0, pz_isb1, pz_bI0, pz_bI1, Nat.zero_le, true_and, and_true, decide_true, decide_false, Bool.true_eq_false, Bool.false_eq_true, if_true, if_false, Nat.reduceAdd, Nat.reduceMul, Nat.reduceSub, Nat.reduceEqDiff, Nat.reduceLeDiff, Nat.reduceLT, Nat.one_ne_zero, Nat.zero_ne_one, Nat.not_le.mpr hv, c, hp5, pz_or, or0, ne_eq, not_true_eq_false, false_and]
        · simp (disch := omega) only [pz_0, pz_1, pz_2, pz_3, pz_4, pz_5, pz_6, pz_7, pz_8, pz_9, pz_10, pz_11, pz_12, pz_13, pz_14, pz_15, pz_16, pz_20, pz_21, pz_22, pz_24, pz_25, pz_30, pz_31, pz_32, pz_35, pz_40, pz_41, pz_42, pz_43, pz_45, pz_47, pz_48, pz_52, pz_57, pz_58, pz_59, pz_60, pz_61, pz_62, pz_63, pz_65, pz_85, pz_90, pz_97, pz_98, pz_99, pz_100, pz_101, pz_102, pz_103, pz_104, pz_105, pz_107, pz_108, pz_109, pz_110, pz_111, pz_112, pz_114, pz_115, pz_116, pz_119, pz_120, pz_121, pz_122, pz_125, pz_127, pz_153, pz_200, pz_201, pz_202, pz_203, pz_204, pz_205, pz_206, pz_207, pz_208, pz_209, pz_210, pz_211, pz_212, pz_213, pz_214, pz_215, pz_216, pz_217, pz_218, pz_219, pz_220, pz_221, pz_222, pz_223, pz_224, pz_225, pz_255, pz_256, pz_271, pz_300, pz_301, pz_302, pz_303, pz_304, pz_400, pz_401, pz_521, pz_705, pz_1000, pz_1508, pz_1661, pz_1691, pz_2400, pz_3125, pz_9999, pz_10000, pz_30703, pz_65536, pz_99999, pz_1000000, pz_lt, pz_ck, pz_u2, pz_u3, pz_u4, pz_bs, pz_ix, pz_inb, pz_add, pz_mul, pz_sub, nI_leI, nI_ltI, nI_eq, pz_bIt, pz_bIf, pz_isb, pz_isb0, pz_isb1, pz_bI0, pz_bI1, Nat.zero_le, true_and, and_true, decide_true, decide_false, Bool.true_eq_false, Bool.false_eq_true, if_true, if_false, Nat.reduceAdd, Nat.reduceMul, Nat.reduceSub, Nat.reduceEqDiff, Nat.reduceLeDiff, Nat.reduceLT, Nat.one_ne_zero, Nat.zero_ne_one, Nat.not_le.mpr hv, c, a1, d.1, pz_or, or0, hs, ne_eq, not_false_eq_true, true_and]
          by_cases c2 : ah s v p = (cl s 120).length
          · simp (disch := omega) only [c2, if_true, pz_or]
          · simp (disch := omega) only [c2, if_false, pz_or, or0]) (by decide)
      have h1 : x_sure_l24 I1 (nI p) fu (nI 0) (nI 0) = some (nI (itN (suS s p) 5 0)) := h.1
      simp (disch := omega) only [pz_0, pz_1, pz_2, pz_3, pz_4, pz_5, pz_6, pz_7, pz_8, pz_9, pz_10, pz_11, pz_12, pz_13, pz_14, pz_15, pz_16, pz_20, pz_21, pz_22, pz_24, pz_25, pz_30, pz_31, pz_32, pz_35, pz_40, pz_41, pz_42, pz_43, pz_45, pz_47, pz_48, pz_52, pz_57, pz_58, pz_59, pz_60, pz_61, pz_62, pz_63, pz_65, pz_85, pz_90, pz_97, pz_98, pz_99, pz_100, pz_101, pz_102, pz_103, pz_104, pz_105, pz_107, pz_108, pz_109, pz_110, pz_111, pz_112, pz_114, pz_115, pz_116, pz_119, pz_120, pz_121, pz_122, pz_125, pz_127, pz_153, pz_200, pz_201, pz_202, pz_203, pz_204, pz_205, pz_206, pz_207, pz_208, pz_209, pz_210, pz_211, pz_212, pz_213, pz_214, pz_215, pz_216, pz_217, pz_218, pz_219, pz_220, pz_221, pz_222, pz_223, pz_224, pz_225, pz_255, pz_256, pz_271, pz_300, pz_301, pz_302, pz_303, pz_304, pz_400, pz_401, pz_521, pz_705, pz_1000, pz_1508, pz_1661, pz_1691, pz_2400, pz_3125, pz_9999, pz_10000, pz_30703, pz_65536, pz_99999, pz_1000000, pz_lt, pz_ck, pz_u2, pz_u3, pz_u4, pz_bs, pz_ix, pz_inb, pz_add, pz_mul, pz_sub, nI_leI, nI_ltI, nI_eq, pz_bIt, pz_bIf, pz_isb, pz_isb0, pz_isb1, pz_bI0, pz_bI1, Nat.zero_le, true_and, and_true, decide_true, decide_false, Bool.true_eq_false, Bool.false_eq_true, if_true, if_false, Nat.reduceAdd, Nat.reduceMul, Nat.reduceSub, Nat.reduceEqDiff, Nat.reduceLeDiff, Nat.reduceLT, Nat.one_ne_zero, Nat.zero_ne_one, e1, k1, d.1, c0, h1]
    · have h := it_loop (fun k v (n : Nat) => m_sure_l21 I' (nI p) k (nI n) (nI v)) 5 (fun n => some (nI n)) (suS s p) (fun _ _ => True) 0 trivial (fun _ _ _ _ => trivial) (fun k n _ => by
        show m_sure_b21 I' (nI p) (m_sure_l21 I' (nI p) k) (nI n) (nI 5) = some (nI n)
        unfold m_sure_b21
        simp (disch := omega) only [pz_0, pz_1, pz_2, pz_3, pz_4, pz_5, pz_6, pz_7, pz_8, pz_9, pz_10, pz_11, pz_12, pz_13, pz_14, pz_15, pz_16, pz_20, pz_21, pz_22, pz_24, pz_25, pz_30, pz_31, pz_32, pz_35, pz_40, pz_41, pz_42, pz_43, pz_45, pz_47, pz_48, pz_52, pz_57, pz_58, pz_59, pz_60, pz_61, pz_62, pz_63, pz_65, pz_85, pz_90, pz_97, pz_98, pz_99, pz_100, pz_101, pz_102, pz_103, pz_104, pz_105, pz_107, pz_108, pz_109, pz_110, pz_111, pz_112, pz_114, pz_115, pz_116, pz_119, pz_120, pz_121, pz_122, pz_125, pz_127, pz_153, pz_200, pz_201, pz_202, pz_203, pz_204, pz_205, pz_206, pz_207, pz_208, pz_209, pz_210, pz_211, pz_212, pz_213, pz_214, pz_215, pz_216, pz_217, pz_218, pz_219, pz_220, pz_221, pz_222, pz_223, pz_224, pz_225, pz_255, pz_256, pz_271, pz_300, pz_301, pz_302, pz_303, pz_304, pz_400, pz_401, pz_521, pz_705, pz_1000, pz_1508, pz_1661, pz_1691, pz_2400, pz_3125, pz_9999, pz_10000, pz_30703, pz_65536, pz_99999, pz_1000000, pz_lt, pz_ck, pz_u2, pz_u3, pz_u4, pz_bs, pz_ix, pz_inb, pz_add, pz_mul, pz_sub, nI_leI, nI_ltI, nI_eq, pz_bIt, pz_bIf, pz_isb, pz_isb0, pz_isb1, pz_bI0, pz_bI1, Nat.zero_le, true_and, and_true, decide_true, decide_false, Bool.true_eq_false, Bool.false_eq_true, if_true, if_false, Nat.reduceAdd, Nat.reduceMul, Nat.reduceSub, Nat.reduceEqDiff, Nat.reduceLeDiff, Nat.reduceLT, Nat.one_ne_zero, Nat.zero_ne_one, Nat.le_refl]) (fun k v n hv _ => by
        show m_sure_b21 I' (nI p) (m_sure_l21 I' (nI p) k) (nI n) (nI v) = m_sure_l21 I' (nI p) k (nI (suS s p v n)) (nI (v + 1))
        have a1 := pm_ahead hV hM ht hv hp
        have al := ah_le s v p
        have hs := pz_shl v (by omega)
        unfold m_sure_b21 m_sure_j52 m_sure_j53 suS
        by_cases c : v = p
        · have hp5 := Nat.not_le.mpr hp
          simp (disch := omega) only [pz_0, pz_1, pz_2, pz_3, pz_4, pz_5, pz_6, pz_7, pz_8, pz_9, pz_10, pz_11, pz_12, pz_13, pz_14, pz_15, pz_16, pz_20, pz_21, pz_22, pz_24, pz_25, pz_30, pz_31, pz_32, pz_35, pz_40, pz_41, pz_42, pz_43, pz_45, pz_47, pz_48, pz_52, pz_57, pz_58, pz_59, pz_60, pz_61, pz_62, pz_63, pz_65, pz_85, pz_90, pz_97, pz_98, pz_99, pz_100, pz_101, pz_102, pz_103, pz_104, pz_105, pz_107, pz_108, pz_109, pz_110, pz_111, pz_112, pz_114, pz_115, pz_116, pz_119, pz_120, pz_121, pz_122, pz_125, pz_127, pz_153, pz_200, pz_201, pz_202, pz_203, pz_204, pz_205, pz_206, pz_207, pz_208, pz_209, pz_210, pz_211, pz_212, pz_213, pz_214, pz_215, pz_216, pz_217, pz_218, pz_219, pz_220, pz_221, pz_222, pz_223, pz_224, pz_225, pz_255, pz_256, pz_271, pz_300, pz_301, pz_302, pz_303, pz_304, pz_400, pz_401, pz_521, pz_705, pz_1000, pz_1508, pz_1661, pz_1691, pz_2400, pz_3125, pz_9999, pz_10000, pz_30703, pz_65536, pz_99999, pz_1000000, pz_lt, pz_ck, pz_u2, pz_u3, pz_u4, pz_bs, pz_ix, pz_inb, pz_add, pz_mul, pz_sub, nI_leI, nI_ltI, nI_eq, pz_bIt, pz_bIf, pz_isb, pz_isb0, pz_isb1, pz_bI0, pz_bI1, Nat.zero_le, true_and, and_true, decide_true, decide_false, Bool.true_eq_false, Bool.false_eq_true, if_true, if_false, Nat.reduceAdd, Nat.reduceMul, Nat.reduceSub, Nat.reduceEqDiff, Nat.reduceLeDiff, Nat.reduceLT, Nat.one_ne_zero, Nat.zero_ne_one, Nat.not_le.mpr hv, c, hp5, pz_or, or0, ne_eq, not_true_eq_false, false_and]
        · simp (disch := omega) only [pz_0, pz_1, pz_2, pz_3, pz_4, pz_5, pz_6, pz_7, pz_8, pz_9, pz_10, pz_11, pz_12, pz_13, pz_14, pz_15, pz_16, pz_20, pz_21, pz_22, pz_24, pz_25, pz_30, pz_31, pz_32, pz_35, pz_40, pz_41, pz_42, pz_43, pz_45, pz_47, pz_48, pz_52, pz_57, pz_58, pz_59, pz_60, pz_61, pz_62, pz_63, pz_65, pz_85, pz_90, pz_97, pz_98, pz_99, pz_100, pz_101, pz_102, pz_103, pz_104, pz_105, pz_107, pz_108, pz_109, pz_110, pz_111, pz_112, pz_114, pz_115, pz_116, pz_119, pz_120, pz_121, pz_122, pz_125, pz_127, pz_153, pz_200, pz_201, pz_202, pz_203, pz_204, pz_205, pz_206, pz_207, pz_208, pz_209, pz_210, pz_211, pz_212, pz_213, pz_214, pz_215, pz_216, pz_217, pz_218, pz_219, pz_220, pz_221, pz_222, pz_223, pz_224, pz_225, pz_255, pz_256, pz_271, pz_300, pz_301, pz_302, pz_303, pz_304, pz_400, pz_401, pz_521, pz_705, pz_1000, pz_1508, pz_1661, pz_1691, pz_2400, pz_3125, pz_9999, pz_10000, pz_30703, pz_65536, pz_99999, pz_1000000, pz_lt, pz_ck, pz_u2, pz_u3, pz_u4, pz_bs, pz_ix, pz_inb, pz_add, pz_mul, pz_sub, nI_leI, nI_ltI, nI_eq, pz_bIt, pz_bIf, pz_isb, pz_isb0, pz_isb1, pz_bI0, pz_bI1, Nat.zero_le, true_and, and_true, decide_true, decide_false, Bool.true_eq_false, Bool.false_eq_true, if_true, if_false, Nat.reduceAdd, Nat.reduceMul, Nat.reduceSub, Nat.reduceEqDiff, Nat.reduceLeDiff, Nat.reduceLT, Nat.one_ne_zero, Nat.zero_ne_one, Nat.not_le.mpr hv, c, a1, hm, pz_or, or0, hs, ne_eq, not_false_eq_true, true_and]
          by_cases c2 : ah s v p = (cl s 120).length
          · simp (disch := omega) only [c2, if_true, pz_or]
          · simp (disch := omega) only [c2, if_false, pz_or, or0]) (by decide)
      have h1 : m_sure_l21 I' (nI p) fu (nI 0) (nI 0) = some (nI (itN (suS s p) 5 0)) := h.1
      simp (disch := omega) only [pz_0, pz_1, pz_2, pz_3, pz_4, pz_5, pz_6, pz_7, pz_8, pz_9, pz_10, pz_11, pz_12, pz_13, pz_14, pz_15, pz_16, pz_20, pz_21, pz_22, pz_24, pz_25, pz_30, pz_31, pz_32, pz_35, pz_40, pz_41, pz_42, pz_43, pz_45, pz_47, pz_48, pz_52, pz_57, pz_58, pz_59, pz_60, pz_61, pz_62, pz_63, pz_65, pz_85, pz_90, pz_97, pz_98, pz_99, pz_100, pz_101, pz_102, pz_103, pz_104, pz_105, pz_107, pz_108, pz_109, pz_110, pz_111, pz_112, pz_114, pz_115, pz_116, pz_119, pz_120, pz_121, pz_122, pz_125, pz_127, pz_153, pz_200, pz_201, pz_202, pz_203, pz_204, pz_205, pz_206, pz_207, pz_208, pz_209, pz_210, pz_211, pz_212, pz_213, pz_214, pz_215, pz_216, pz_217, pz_218, pz_219, pz_220, pz_221, pz_222, pz_223, pz_224, pz_225, pz_255, pz_256, pz_271, pz_300, pz_301, pz_302, pz_303, pz_304, pz_400, pz_401, pz_521, pz_705, pz_1000, pz_1508, pz_1661, pz_1691, pz_2400, pz_3125, pz_9999, pz_10000, pz_30703, pz_65536, pz_99999, pz_1000000, pz_lt, pz_ck, pz_u2, pz_u3, pz_u4, pz_bs, pz_ix, pz_inb, pz_add, pz_mul, pz_sub, nI_leI, nI_ltI, nI_eq, pz_bIt, pz_bIf, pz_isb, pz_isb0, pz_isb1, pz_bI0, pz_bI1, Nat.zero_le, true_and, and_true, decide_true, decide_false, Bool.true_eq_false, Bool.false_eq_true, if_true, if_false, Nat.reduceAdd, Nat.reduceMul, Nat.reduceSub, Nat.reduceEqDiff, Nat.reduceLeDiff, Nat.reduceLT, Nat.one_ne_zero, Nat.zero_ne_one, k1', hm, c0, h1]
def asI (s : SN) (a : Nat) (o : Option (Nat × Nat)) : Option (Nat × Nat) := itN (fun v o => asS s a (a + 1 + v) o) (4 - a) o
def asOK (o : Option (Nat × Nat)) : Prop := ∀ q, o = some q → q.2 ≤ 120
theorem asS_ok {s : SN} {a b : Nat} {o : Option (Nat × Nat)} (h : asOK o) : asOK (asS s a b o) := by
  intro q hq
  unfold asS at hq
  have h1 := ah_le s a b
  have h2 := ah_le s b a
  have h3 := cl_len s 120
  have h4 : (if ah s a b < ah s b a then ah s b a else ah s a b) ≤ 120 := by split <;> omega
  by_cases c : (if ah s a b < ah s b a then ah s b a else ah s a b) < asL 99999 o
  · rw [if_pos c] at hq
    cases hq
    exact h4
  · rw [if_neg c] at hq
    exact h q hq
theorem asL_big {o : Option (Nat × Nat)} (h : asOK o) {x : Nat} (hx : x ≤ 120) {big : Nat} (hb : 120 < big) : (x < asL big o) ↔ (x < asL 99999 o) := by
  cases o with
  | none =>
    show x < big ↔ x < 99999
    omega
  | some q => exact Iff.rfl
theorem asL_lt {o : Option (Nat × Nat)} (h : asOK o) {big : Nat} (hb : 120 < big) (hB : big < 2 ^ 31) : asL big o < 2 ^ 31 := by
  cases o with
  | none => exact hB
  | some q =>
    have := h q rfl
    show q.2 < 2 ^ 31
    omega
theorem px_ask_in {I1 : PI} (hd : CLd s 120 I I1) (ht : CTab I I') {a : Nat} (ha : a < 5) {o : Option (Nat × Nat)} (ho : asOK o) : x_ask_l29 I1 (nI a) fu (asB o) (nI (asL 99999 o)) (nI (a + 1)) = some (asB (asI s a o), nI (asL 99999 (asI s a o))) ∧ asOK (asI s a o) := by
  have h := it_loop (fun k v (o : Option (Nat × Nat)) => x_ask_l29 I1 (nI a) k (asB o) (nI (asL 99999 o)) (nI (a + 1 + v))) (4 - a) (fun o => some (asB o, nI (asL 99999 o))) (fun v o => asS s a (a + 1 + v) o) (fun _ o => asOK o) o ho (fun _ _ _ h => asS_ok h) (fun k o _ => by
    show x_ask_b29 I1 (nI a) (x_ask_l29 I1 (nI a) k) (asB o) (nI (asL 99999 o)) (nI (a + 1 + (4 - a))) = _
    have e : a + 1 + (4 - a) = 5 := by omega
    rw [e]
    unfold x_ask_b29
    simp (disch := omega) only [pz_0, pz_1, pz_2, pz_3, pz_4, pz_5, pz_6, pz_7, pz_8, pz_9, pz_10, pz_11, pz_12, pz_13, pz_14, pz_15, pz_16, pz_20, pz_21, pz_22, pz_24, pz_25, pz_30, pz_31, pz_32, pz_35, pz_40, pz_41, pz_42, pz_43, pz_45, pz_47, pz_48, pz_52, pz_57, pz_58, pz_59, pz_60, pz_61, pz_62, pz_63, pz_65, pz_85, pz_90, pz_97, pz_98, pz_99, pz_100, pz_101, pz_102, pz_103, pz_104, pz_105, pz_107, pz_108, pz_109, pz_110, pz_111, pz_112, pz_114, pz_115, pz_116, pz_119, pz_120, pz_121, pz_122, pz_125, pz_127, pz_153, pz_200, pz_201, pz_202, pz_203, pz_204, pz_205, pz_206, pz_207, pz_208, pz_209, pz_210, pz_211, pz_212, pz_213, pz_214, pz_215, pz_216, pz_217, pz_218, pz_219, pz_220, pz_221, pz_222, pz_223, pz_224, pz_225, pz_255, pz_256, pz_271, pz_300, pz_301, pz_302, pz_303, pz_304, pz_400, pz_401, pz_521, pz_705, pz_1000, pz_1508, pz_1661, pz_1691, pz_2400, pz_3125, pz_9999, pz_10000, pz_30703, pz_65536, pz_99999, pz_1000000, pz_lt, pz_ck, pz_u2, pz_u3, pz_u4, pz_bs, pz_ix, pz_inb, pz_add, pz_mul, pz_sub, nI_leI, nI_ltI, nI_eq, pz_bIt, pz_bIf, pz_isb, pz_isb0, pz_isb1, pz_bI0, pz_bI1, Nat.zero_le, true_and, and_true, decide_true, decide_false, Bool.true_eq_false, Bool.false_eq_true, if_true, if_false, Nat.reduceAdd, Nat.reduceMul, Nat.reduceSub, Nat.reduceEqDiff, Nat.reduceLeDiff, Nat.reduceLT, Nat.one_ne_zero, Nat.zero_ne_one, Nat.le_refl]) (fun k v o hv ho => by
    show x_ask_b29 I1 (nI a) (x_ask_l29 I1 (nI a) k) (asB o) (nI (asL 99999 o)) (nI (a + 1 + v)) = x_ask_l29 I1 (nI a) k (asB (asS s a (a + 1 + v) o)) (nI (asL 99999 (asS s a (a + 1 + v) o))) (nI (a + 1 + v + 1))
    have a1 := px_ahead hd ht (a := a) (b := a + 1 + v) ha (by omega)
    have a2 := px_ahead hd ht (a := a + 1 + v) (b := a) (by omega) ha
    have l1 := ah_le s a (a + 1 + v)
    have l2 := ah_le s (a + 1 + v) a
    have l3 := cl_len s 120
    have l4 := asL_lt ho (big := 99999) (by decide) (by decide)
    have c5 : ¬ 5 ≤ a + 1 + v := by omega
    have ez : (if nI (ah s a (a + 1 + v)) < nI (ah s (a + 1 + v) a) then nI (ah s (a + 1 + v) a) else nI (ah s a (a + 1 + v))) = nI (if ah s a (a + 1 + v) < ah s (a + 1 + v) a then ah s (a + 1 + v) a else ah s a (a + 1 + v)) := by
      by_cases q : ah s a (a + 1 + v) < ah s (a + 1 + v) a
      · rw [if_pos q, if_pos ((nI_ltI (by omega) (by omega)).mpr q)]
      · rw [if_neg q, if_neg (fun z => q ((nI_ltI (by omega) (by omega)).mp z))]
    have l5 : (if ah s a (a + 1 + v) < ah s (a + 1 + v) a then ah s (a + 1 + v) a else ah s a (a + 1 + v)) ≤ 120 := by split <;> omega
    unfold x_ask_b29 x_ask_j74 asS
    simp (disch := omega) only [pz_5, pz_10, nI_leI, c5, if_false, a1, a2, pz_bs, pz_lt]
    rw [ez]
    generalize (if ah s a (a + 1 + v) < ah s (a + 1 + v) a then ah s (a + 1 + v) a else ah s a (a + 1 + v)) = z at l5
    simp (disch := omega) only [nI_ltI, pz_mul, pz_add, pz_1]
    by_cases c : z < asL 99999 o
    · rw [if_pos c, if_pos c]; rfl
    · rw [if_neg c, if_neg c]) (by omega)
  exact h
theorem pm_ask_in (hV : VSt s) (hM : MR s (I' 1)) (ht : CTab I I') {a : Nat} (ha : a < 5) {o : Option (Nat × Nat)} (ho : asOK o) : m_ask_l27 I' (nI a) fu (asB o) (nI (asL 1000000 o)) (nI (a + 1)) = some (asB (asI s a o), nI (asL 1000000 (asI s a o))) := by
  have h := it_loop (fun k v (o : Option (Nat × Nat)) => m_ask_l27 I' (nI a) k (asB o) (nI (asL 1000000 o)) (nI (a + 1 + v))) (4 - a) (fun o => some (asB o, nI (asL 1000000 o))) (fun v o => asS s a (a + 1 + v) o) (fun _ o => asOK o) o ho (fun _ _ _ h => asS_ok h) (fun k o _ => by
    show m_ask_b27 I' (nI a) (m_ask_l27 I' (nI a) k) (asB o) (nI (asL 1000000 o)) (nI (a + 1 + (4 - a))) = _
    have e : a + 1 + (4 - a) = 5 := by omega
    rw [e]
    unfold m_ask_b27
    simp (disch := omega) only [pz_0, pz_1, pz_2, pz_3, pz_4, pz_5, pz_6, pz_7, pz_8, pz_9, pz_10, pz_11, pz_12, pz_13, pz_14, pz_15, pz_16, pz_20, pz_21, pz_22, pz_24, pz_25, pz_30, pz_31, pz_32, pz_35, pz_40, pz_41, pz_42, pz_43, pz_45, pz_47, pz_48, pz_52, pz_57, pz_58, pz_59, pz_60, pz_61, pz_62, pz_63, pz_65, pz_85, pz_90, pz_97, pz_98, pz_99, pz_100, pz_101, pz_102, pz_103, pz_104, pz_105, pz_107, pz_108, pz_109, pz_110, pz_111, pz_112, pz_114, pz_115, pz_116, pz_119, pz_120, pz_121, pz_122, pz_125, pz_127, pz_153, pz_200, pz_201, pz_202, pz_203, pz_204, pz_205, pz_206, pz_207, pz_208, pz_209, pz_210, pz_211, pz_212, pz_213, pz_214, pz_215, pz_216, pz_217, pz_218, pz_219, pz_220, pz_221, pz_222, pz_223, pz_224, pz_225, pz_255, pz_256, pz_271, pz_300, pz_301, pz_302, pz_303, pz_304, pz_400, pz_401, pz_521, pz_705, pz_1000, pz_1508, pz_1661, pz_1691, pz_2400, pz_3125, pz_9999, pz_10000, pz_30703, pz_65536, pz_99999, pz_1000000, pz_lt, pz_ck, pz_u2, pz_u3, pz_u4, pz_bs, pz_ix, pz_inb, pz_add, pz_mul, pz_sub, nI_leI, nI_ltI, nI_eq, pz_bIt, pz_bIf, pz_isb, pz_isb0, pz_isb1, pz_bI0, pz_bI1, Nat.zero_le, true_and, and_true, decide_true, decide_false, Bool.true_eq_false, Bool.false_eq_true, if_true, if_false, Nat.reduceAdd, Nat.reduceMul, Nat.reduceSub, Nat.reduceEqDiff, Nat.reduceLeDiff, Nat.reduceLT, Nat.one_ne_zero, Nat.zero_ne_one, Nat.le_refl]) (fun k v o hv ho => by
    show m_ask_b27 I' (nI a) (m_ask_l27 I' (nI a) k) (asB o) (nI (asL 1000000 o)) (nI (a + 1 + v)) = m_ask_l27 I' (nI a) k (asB (asS s a (a + 1 + v) o)) (nI (asL 1000000 (asS s a (a + 1 + v) o))) (nI (a + 1 + v + 1))
    have a1 := pm_ahead hV hM ht (a := a) (b := a + 1 + v) ha (by omega)
    have a2 := pm_ahead hV hM ht (a := a + 1 + v) (b := a) (by omega) ha
    have l1 := ah_le s a (a + 1 + v)
    have l2 := ah_le s (a + 1 + v) a
    have l3 := cl_len s 120
    have l4 := asL_lt ho (big := 1000000) (by decide) (by decide)
    have c5 : ¬ 5 ≤ a + 1 + v := by omega
    have l5 : (if ah s a (a + 1 + v) < ah s (a + 1 + v) a then ah s (a + 1 + v) a else ah s a (a + 1 + v)) ≤ 120 := by split <;> omega
    have go : m_ask_j67 (m_ask_l27 I' (nI a) k) (nI a) (asB o) (nI (asL 1000000 o)) (nI (a + 1 + v)) (nI (if ah s a (a + 1 + v) < ah s (a + 1 + v) a then ah s (a + 1 + v) a else ah s a (a + 1 + v))) = m_ask_l27 I' (nI a) k (asB (asS s a (a + 1 + v) o)) (nI (asL 1000000 (asS s a (a + 1 + v) o))) (nI (a + 1 + v + 1)) := by
      have hb := asL_big ho l5 (big := 1000000) (by decide)
      unfold m_ask_j67 m_ask_j89 asS
      generalize (if ah s a (a + 1 + v) < ah s (a + 1 + v) a then ah s (a + 1 + v) a else ah s a (a + 1 + v)) = z at l5 hb
      simp (disch := omega) only [nI_ltI, pz_mul, pz_add, pz_1, pz_10, pz_lt, hb]
      by_cases c : z < asL 99999 o
      · rw [if_pos c, if_pos c]; rfl
      · rw [if_neg c, if_neg c]
    rw [← go]
    unfold m_ask_b27
    simp (disch := omega) only [pz_5, nI_leI, c5, if_false, a1, a2, pz_bs]
    by_cases c : ah s a (a + 1 + v) < ah s (a + 1 + v) a
    · rw [if_pos c, if_pos (Nat.le_of_lt c)]
    · rw [if_neg c]
      by_cases c2 : ah s a (a + 1 + v) ≤ ah s (a + 1 + v) a
      · rw [if_pos c2, show ah s (a + 1 + v) a = ah s a (a + 1 + v) by omega]
      · rw [if_neg c2]) (by omega)
  exact h.1
theorem pu_ask (h : CC s si I T X tN I' J') : ∃ (r : Int32) (I1 : PI), x_ask I = some (r, I1) ∧ m_ask I' = some r ∧ CC s si I1 T X tN I' J' := by
  have ht := h.2.2.2.1
  have hV := h.1.1
  have hX := h.1.2.2.1
  have hM := h.1.2.2.2.2.1
  obtain ⟨I1, e1, d⟩ := px_laysCould hV hX ht
  have hl := cl_len s 120
  have hC : CC s si I1 T X tN I' J' := h.step d.fx Fm.rf hV (hX.keep d.2.2.1) hM rfl h.lea
  have hm := pm_many hV hM ht
  unfold x_ask m_ask
  by_cases c1 : (cl s 120).length ≤ 1
  · refine ⟨-nI 1, I1, ?_, ?_, hC⟩
    · have e : x_ask_l11 I1 fu (-1) 99999 0 = some (-nI 1) := by
        show x_ask_b11 I1 (x_ask_l11 I1 (fu - 1)) (-1) 99999 0 = _
        unfold x_ask_b11
        simp (disch := omega) only [pz_0, pz_1, pz_2, pz_3, pz_4, pz_5, pz_6, pz_7, pz_8, pz_9, pz_10, pz_11, pz_12, pz_13, pz_14, pz_15, pz_16, pz_20, pz_21, pz_22, pz_24, pz_25, pz_30, pz_31, pz_32, pz_35, pz_40, pz_41, pz_42, pz_43, pz_45, pz_47, pz_48, pz_52, pz_57, pz_58, pz_59, pz_60, pz_61, pz_62, pz_63, pz_65, pz_85, pz_90, pz_97, pz_98, pz_99, pz_100, pz_101, pz_102, pz_103, pz_104, pz_105, pz_107, pz_108, pz_109, pz_110, pz_111, pz_112, pz_114, pz_115, pz_116, pz_119, pz_120, pz_121, pz_122, pz_125, pz_127, pz_153, pz_200, pz_201, pz_202, pz_203, pz_204, pz_205, pz_206, pz_207, pz_208, pz_209, pz_210, pz_211, pz_212, pz_213, pz_214, pz_215, pz_216, pz_217, pz_218, pz_219, pz_220, pz_221, pz_222, pz_223, pz_224, pz_225, pz_255, pz_256, pz_271, pz_300, pz_301, pz_302, pz_303, pz_304, pz_400, pz_401, pz_521, pz_705, pz_1000, pz_1508, pz_1661, pz_1691, pz_2400, pz_3125, pz_9999, pz_10000, pz_30703, pz_65536, pz_99999, pz_1000000, pz_lt, pz_ck, pz_u2, pz_u3, pz_u4, pz_bs, pz_ix, pz_inb, pz_add, pz_mul, pz_sub, nI_leI, nI_ltI, nI_eq, pz_bIt, pz_bIf, pz_isb, pz_isb0, pz_isb1, pz_bI0, pz_bI1, Nat.zero_le, true_and, and_true, decide_true, decide_false, Bool.true_eq_false, Bool.false_eq_true, if_true, if_false, Nat.reduceAdd, Nat.reduceMul, Nat.reduceSub, Nat.reduceEqDiff, Nat.reduceLeDiff, Nat.reduceLT, Nat.one_ne_zero, Nat.zero_ne_one, d.1, c1]
      rw [e1, pz_bs, e]
      rfl
    · have e : m_ask_l8 I' fu (-1) 1000000 0 = some (-nI 1) := by
        show m_ask_b8 I' (m_ask_l8 I' (fu - 1)) (-1) 1000000 0 = _
        unfold m_ask_b8
        simp (disch := omega) only [pz_0, pz_1, pz_2, pz_3, pz_4, pz_5, pz_6, pz_7, pz_8, pz_9, pz_10, pz_11, pz_12, pz_13, pz_14, pz_15, pz_16, pz_20, pz_21, pz_22, pz_24, pz_25, pz_30, pz_31, pz_32, pz_35, pz_40, pz_41, pz_42, pz_43, pz_45, pz_47, pz_48, pz_52, pz_57, pz_58, pz_59, pz_60, pz_61, pz_62, pz_63, pz_65, pz_85, pz_90, pz_97, pz_98, pz_99, pz_100, pz_101, pz_102, pz_103, pz_104, pz_105, pz_107, pz_108, pz_109, pz_110, pz_111, pz_112, pz_114, pz_115, pz_116, pz_119, pz_120, pz_121, pz_122, pz_125, pz_127, pz_153, pz_200, pz_201, pz_202, pz_203, pz_204, pz_205, pz_206, pz_207, pz_208, pz_209, pz_210, pz_211, pz_212, pz_213, pz_214, pz_215, pz_216, pz_217, pz_218, pz_219, pz_220, pz_221, pz_222, pz_223, pz_224, pz_225, pz_255, pz_256, pz_271, pz_300, pz_301, pz_302, pz_303, pz_304, pz_400, pz_401, pz_521, pz_705, pz_1000, pz_1508, pz_1661, pz_1691, pz_2400, pz_3125, pz_9999, pz_10000, pz_30703, pz_65536, pz_99999, pz_1000000, pz_lt, pz_ck, pz_u2, pz_u3, pz_u4, pz_bs, pz_ix, pz_inb, pz_add, pz_mul, pz_sub, nI_leI, nI_ltI, nI_eq, pz_bIt, pz_bIf, pz_isb, pz_isb0, pz_isb1, pz_bI0, pz_bI1, Nat.zero_le, true_and, and_true, decide_true, decide_false, Bool.true_eq_false, Bool.false_eq_true, if_true, if_false, Nat.reduceAdd, Nat.reduceMul, Nat.reduceSub, Nat.reduceEqDiff, Nat.reduceLeDiff, Nat.reduceLT, Nat.one_ne_zero, Nat.zero_ne_one, hm, c1]
      rw [e]
      rfl
  · refine ⟨asB (itN (asI s) 5 none), I1, ?_, ?_, hC⟩
    · have h := it_loop (fun k v (o : Option (Nat × Nat)) => x_ask_l11 I1 k (asB o) (nI (asL 99999 o)) (nI v)) 5 (fun o => some (asB o)) (asI s) (fun _ o => asOK o) none (fun q hq => nomatch hq) (fun v o hv ho => (px_ask_in d ht hv ho).2) (fun k o _ => by
        show x_ask_b11 I1 (x_ask_l11 I1 k) (asB o) (nI (asL 99999 o)) (nI 5) = _
        unfold x_ask_b11
        simp (disch := omega) only [pz_0, pz_1, pz_2, pz_3, pz_4, pz_5, pz_6, pz_7, pz_8, pz_9, pz_10, pz_11, pz_12, pz_13, pz_14, pz_15, pz_16, pz_20, pz_21, pz_22, pz_24, pz_25, pz_30, pz_31, pz_32, pz_35, pz_40, pz_41, pz_42, pz_43, pz_45, pz_47, pz_48, pz_52, pz_57, pz_58, pz_59, pz_60, pz_61, pz_62, pz_63, pz_65, pz_85, pz_90, pz_97, pz_98, pz_99, pz_100, pz_101, pz_102, pz_103, pz_104, pz_105, pz_107, pz_108, pz_109, pz_110, pz_111, pz_112, pz_114, pz_115, pz_116, pz_119, pz_120, pz_121, pz_122, pz_125, pz_127, pz_153, pz_200, pz_201, pz_202, pz_203, pz_204, pz_205, pz_206, pz_207, pz_208, pz_209, pz_210, pz_211, pz_212, pz_213, pz_214, pz_215, pz_216, pz_217, pz_218, pz_219, pz_220, pz_221, pz_222, pz_223, pz_224, pz_225, pz_255, pz_256, pz_271, pz_300, pz_301, pz_302, pz_303, pz_304, pz_400, pz_401, pz_521, pz_705, pz_1000, pz_1508, pz_1661, pz_1691, pz_2400, pz_3125, pz_9999, pz_10000, pz_30703, pz_65536, pz_99999, pz_1000000, pz_lt, pz_ck, pz_u2, pz_u3, pz_u4, pz_bs, pz_ix, pz_inb, pz_add, pz_mul, pz_sub, nI_leI, nI_ltI, nI_eq, pz_bIt, pz_bIf, pz_isb, pz_isb0, pz_isb1, pz_bI0, pz_bI1, Nat.zero_le, true_and, and_true, decide_true, decide_false, Bool.true_eq_false, Bool.false_eq_true, if_true, if_false, Nat.reduceAdd, Nat.reduceMul, Nat.reduceSub, Nat.reduceEqDiff, Nat.reduceLeDiff, Nat.reduceLT, Nat.one_ne_zero, Nat.zero_ne_one, Nat.le_refl]) (fun k v o hv ho => by
        show x_ask_b11 I1 (x_ask_l11 I1 k) (asB o) (nI (asL 99999 o)) (nI v) = x_ask_l11 I1 k (asB (asI s v o)) (nI (asL 99999 (asI s v o))) (nI (v + 1))
        have e2 := (px_ask_in d ht hv ho).1
        unfold x_ask_b11
        simp (disch := omega) only [pz_0, pz_1, pz_2, pz_3, pz_4, pz_5, pz_6, pz_7, pz_8, pz_9, pz_10, pz_11, pz_12, pz_13, pz_14, pz_15, pz_16, pz_20, pz_21, pz_22, pz_24, pz_25, pz_30, pz_31, pz_32, pz_35, pz_40, pz_41, pz_42, pz_43, pz_45, pz_47, pz_48, pz_52, pz_57, pz_58, pz_59, pz_60, pz_61, pz_62, pz_63, pz_65, pz_85, pz_90, pz_97, pz_98, pz_99, pz_100, pz_101, pz_102, pz_103, pz_104, pz_105, pz_107, pz_108, pz_109, pz_110, pz_111, pz_112, pz_114, pz_115, pz_116, pz_119, pz_120, pz_121, pz_122, pz_125, pz_127, pz_153, pz_200, pz_201, pz_202, pz_203, pz_204, pz_205, pz_206, pz_207, pz_208, pz_209, pz_210, pz_211, pz_212, pz_213, pz_214, pz_215, pz_216, pz_217, pz_218, pz_219, pz_220, pz_221, pz_222, pz_223, pz_224, pz_225, pz_255, pz_256, pz_271, pz_300, pz_301, pz_302, pz_303, pz_304, pz_400, pz_401, pz_521, pz_705, pz_1000, pz_1508, pz_1661, pz_1691, pz_2400, pz_3125, pz_9999, pz_10000, pz_30703, pz_65536, pz_99999, pz_1000000, pz_lt, pz_ck, pz_u2, pz_u3, pz_u4, pz_bs, pz_ix, pz_inb, pz_add, pz_mul, pz_sub, nI_leI, nI_ltI, nI_eq, pz_bIt, pz_bIf, pz_isb, pz_isb0, pz_isb1, pz_bI0, pz_bI1, Nat.zero_le, true_and, and_true, decide_true, decide_false, Bool.true_eq_false, Bool.false_eq_true, if_true, if_false, Nat.reduceAdd, Nat.reduceMul, Nat.reduceSub, Nat.reduceEqDiff, Nat.reduceLeDiff, Nat.reduceLT, Nat.one_ne_zero, Nat.zero_ne_one, Nat.not_le.mpr hv, d.1, c1, e2]) (by decide)
      have e : x_ask_l11 I1 fu (-1) 99999 0 = some (asB (itN (asI s) 5 none)) := h.1
      rw [e1, pz_bs, e]
      rfl
    · have h := it_loop (fun k v (o : Option (Nat × Nat)) => m_ask_l8 I' k (asB o) (nI (asL 1000000 o)) (nI v)) 5 (fun o => some (asB o)) (asI s) (fun _ o => asOK o) none (fun q hq => nomatch hq) (fun v o hv ho => (px_ask_in d ht hv ho).2) (fun k o _ => by
        show m_ask_b8 I' (m_ask_l8 I' k) (asB o) (nI (asL 1000000 o)) (nI 5) = _
        unfold m_ask_b8
        simp (disch := omega) only [pz_0, pz_1, pz_2, pz_3, pz_4, pz_5, pz_6, pz_7, pz_8, pz_9, pz_10, pz_11, pz_12, pz_13, pz_14, pz_15, pz_16, pz_20, pz_21, pz_22, pz_24, pz_25, pz_30, pz_31, pz_32, pz_35, pz_40, pz_41, pz_42, pz_43, pz_45, pz_47, pz_48, pz_52, pz_57, pz_58, pz_59, pz_60, pz_61, pz_62, pz_63, pz_65, pz_85, pz_90, pz_97, pz_98, pz_99, pz_100, pz_101, pz_102, pz_103, pz_104, pz_105, pz_107, pz_108, pz_109, pz_110, pz_111, pz_112, pz_114, pz_115, pz_116, pz_119, pz_120, pz_121, pz_122, pz_125, pz_127, pz_153, pz_200, pz_201, pz_202, pz_203, pz_204, pz_205, pz_206, pz_207, pz_208, pz_209, pz_210, pz_211, pz_212, pz_213, pz_214, pz_215, pz_216, pz_217, pz_218, pz_219, pz_220, pz_221, pz_222, pz_223, pz_224, pz_225, pz_255, pz_256, pz_271, pz_300, pz_301, pz_302, pz_303, pz_304, pz_400, pz_401, pz_521, pz_705, pz_1000, pz_1508, pz_1661, pz_1691, pz_2400, pz_3125, pz_9999, pz_10000, pz_30703, pz_65536, pz_99999, pz_1000000, pz_lt, pz_ck, pz_u2, pz_u3, pz_u4, pz_bs, pz_ix, pz_inb, pz_add, pz_mul, pz_sub, nI_leI, nI_ltI, nI_eq, pz_bIt, pz_bIf, pz_isb, pz_isb0, pz_isb1, pz_bI0, pz_bI1, Nat.zero_le, true_and, and_true, decide_true, decide_false, Bool.true_eq_false, Bool.false_eq_true, if_true, if_false, Nat.reduceAdd, Nat.reduceMul, Nat.reduceSub, Nat.reduceEqDiff, Nat.reduceLeDiff, Nat.reduceLT, Nat.one_ne_zero, Nat.zero_ne_one, Nat.le_refl]) (fun k v o hv ho => by
        show m_ask_b8 I' (m_ask_l8 I' k) (asB o) (nI (asL 1000000 o)) (nI v) = m_ask_l8 I' k (asB (asI s v o)) (nI (asL 1000000 (asI s v o))) (nI (v + 1))
        have e2 := pm_ask_in hV hM ht hv ho
        unfold m_ask_b8
        simp (disch := omega) only [pz_0, pz_1, pz_2, pz_3, pz_4, pz_5, pz_6, pz_7, pz_8, pz_9, pz_10, pz_11, pz_12, pz_13, pz_14, pz_15, pz_16, pz_20, pz_21, pz_22, pz_24, pz_25, pz_30, pz_31, pz_32, pz_35, pz_40, pz_41, pz_42, pz_43, pz_45, pz_47, pz_48, pz_52, pz_57, pz_58, pz_59, pz_60, pz_61, pz_62, pz_63, pz_65, pz_85, pz_90, pz_97, pz_98, pz_99, pz_100, pz_101, pz_102, pz_103, pz_104, pz_105, pz_107, pz_108, pz_109, pz_110, pz_111, pz_112, pz_114, pz_115, pz_116, pz_119, pz_120, pz_121, pz_122, pz_125, pz_127, pz_153, pz_200, pz_201, pz_202, pz_203, pz_204, pz_205, pz_206, pz_207, pz_208, pz_209, pz_210, pz_211, pz_212, pz_213, pz_214, pz_215, pz_216, pz_217, pz_218, pz_219, pz_220, pz_221, pz_222, pz_223, pz_224, pz_225, pz_255, pz_256, pz_271, pz_300, pz_301, pz_302, pz_303, pz_304, pz_400, pz_401, pz_521, pz_705, pz_1000, pz_1508, pz_1661, pz_1691, pz_2400, pz_3125, pz_9999, pz_10000, pz_30703, pz_65536, pz_99999, pz_1000000, pz_lt, pz_ck, pz_u2, pz_u3, pz_u4, pz_bs, pz_ix, pz_inb, pz_add, pz_mul, pz_sub, nI_leI, nI_ltI, nI_eq, pz_bIt, pz_bIf, pz_isb, pz_isb0, pz_isb1, pz_bI0, pz_bI1, Nat.zero_le, true_and, and_true, decide_true, decide_false, Bool.true_eq_false, Bool.false_eq_true, if_true, if_false, Nat.reduceAdd, Nat.reduceMul, Nat.reduceSub, Nat.reduceEqDiff, Nat.reduceLeDiff, Nat.reduceLT, Nat.one_ne_zero, Nat.zero_ne_one, Nat.not_le.mpr hv, hm, c1, e2]) (by decide)
      have e : m_ask_l8 I' fu (-1) 1000000 0 = some (asB (itN (asI s) 5 none)) := h.1
      rw [e]
      rfl
end OPL
