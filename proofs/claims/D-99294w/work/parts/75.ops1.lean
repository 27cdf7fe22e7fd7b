/-! members one by one, 1: form, story, end, fault, about, is, ofForm -/
section OPA
variable {s si : SN} {I : PI} {T : PT} {X : TS} {tN : XCo} {I' : PI} {J' : PJ}
/-- an answer: none, or a number -/
def Rg (r : Int32) : Prop := r = -nI 1 ∨ ∃ n, n < 2 ^ 31 ∧ r = nI n
theorem pu_form (h : CC s si I T X tN I' J') (a b : Int32) : ∃ (r : Int32) (s1 : SN) (I1 I1' : PI), x_form I a b = some (r, I1) ∧ m_form I' a b = some (r, I1') ∧ CC s1 si I1 T X tN I1' J' ∧ s1 2 3 = s 2 3 ∧ Rg r := by
  have hV := h.1.1
  have hX := h.1.2.2.1
  have hM := h.1.2.2.2.2.1
  obtain ⟨⟨v0, v1, v2, v3, v4, v5, v6, v7⟩, vr, vf, vs, va, ve, vt⟩ := id hV
  obtain ⟨⟨m0, m1, m2, m3, m4, m5, m6, m7, m8, m9, m10⟩, mp, mf, ms, ma, me, mb, mt⟩ := id hM
  have hx := hX.1
  obtain ⟨b1, e1, q1⟩ := pz_rng a 0 4 (by omega) (by omega)
  obtain ⟨b2, e2, q2⟩ := pz_rng b 1 9 (by omega) (by omega)
  cases b1 with
  | false =>
    refine ⟨-nI 1, s, I, I', ?_, ?_, h, rfl, Or.inl rfl⟩
    · unfold x_form
      simp (disch := omega) only [pz_0, pz_1, pz_3, pz_4, pz_9, pz_60, pz_99, pz_119, pz_lt, pz_bs, pz_isb, pz_isb0, pz_isb1, pz_bI0, pz_bIf, if_true, Bool.true_eq_false, if_false, pz_ck, x_in_s, e1]
    · unfold m_form
      simp (disch := omega) only [pz_0, pz_1, pz_3, pz_4, pz_9, pz_60, pz_99, pz_119, pz_lt, pz_bs, pz_isb, pz_isb0, pz_isb1, pz_bI0, pz_bIf, if_true, Bool.true_eq_false, if_false, pz_ck, m_isIn_s, e1]
  | true =>
  cases b2 with
  | false =>
    refine ⟨-nI 1, s, I, I', ?_, ?_, h, rfl, Or.inl rfl⟩
    · unfold x_form
      simp (disch := omega) only [pz_0, pz_1, pz_3, pz_4, pz_9, pz_60, pz_99, pz_119, pz_lt, pz_bs, pz_isb, pz_isb0, pz_isb1, pz_bI0, pz_bIf, if_true, Bool.true_eq_false, if_false, pz_ck, x_in_s, e1, e2]
    · unfold m_form
      simp (disch := omega) only [pz_0, pz_1, pz_3, pz_4, pz_9, pz_60, pz_99, pz_119, pz_lt, pz_bs, pz_isb, pz_isb0, pz_isb1, pz_bI0, pz_bIf, if_true, Bool.true_eq_false, if_false, pz_ck, m_isIn_s, e1, e2]
  | true =>
  obtain ⟨ka, -, ka4, rfl⟩ := q1 rfl
  obtain ⟨kb, kb1, kb9, rfl⟩ := q2 rfl
  by_cases hf : s 2 0 = 8
  · refine ⟨-nI 1, s, I, I', ?_, ?_, h, rfl, Or.inl rfl⟩
    · unfold x_form
      simp (disch := omega) only [pz_0, pz_1, pz_2, pz_3, pz_4, pz_5, pz_6, pz_7, pz_8, pz_9, pz_10, pz_11, pz_12, pz_13, pz_14, pz_15, pz_16, pz_20, pz_21, pz_22, pz_24, pz_25, pz_30, pz_31, pz_32, pz_35, pz_40, pz_41, pz_42, pz_43, pz_45, pz_47, pz_48, pz_52, pz_57, pz_58, pz_59, pz_60, pz_61, pz_62, pz_63, pz_65, pz_85, pz_90, pz_97, pz_98, pz_99, pz_100, pz_101, pz_102, pz_103, pz_104, pz_105, pz_107, pz_108, pz_109, pz_110, pz_111, pz_112, pz_114, pz_115, pz_116, pz_119, pz_120, pz_121, pz_122, pz_125, pz_127, pz_153, pz_200, pz_201, pz_202, pz_203, pz_204, pz_205, pz_206, pz_207, pz_208, pz_209, pz_210, pz_211, pz_212, pz_213, pz_214, pz_215, pz_216, pz_217, pz_218, pz_219, pz_220, pz_221, pz_222, pz_223, pz_224, pz_225, pz_255, pz_256, pz_271, pz_300, pz_301, pz_302, pz_303, pz_304, pz_400, pz_401, pz_521, pz_705, pz_1000, pz_1508, pz_1661, pz_1691, pz_2400, pz_3125, pz_9999, pz_10000, pz_30703, pz_65536, pz_99999, pz_1000000, pz_lt, pz_ck, pz_u2, pz_u3, pz_u4, pz_bs, pz_ix, pz_inb, pz_add, pz_mul, pz_sub, nI_leI, nI_ltI, nI_eq, pz_bIt, pz_bIf, pz_isb, pz_isb0, pz_isb1, pz_bI0, pz_bI1, Nat.zero_le, true_and, and_true, decide_true, decide_false, Bool.true_eq_false, Bool.false_eq_true, if_true, if_false, Nat.reduceAdd, Nat.reduceMul, Nat.reduceSub, Nat.reduceEqDiff, Nat.reduceLeDiff, Nat.reduceLT, Nat.one_ne_zero, Nat.zero_ne_one, x_in_s, hx, ka4, kb1, kb9, hf]
    · unfold m_form
      simp (disch := omega) only [pz_0, pz_1, pz_2, pz_3, pz_4, pz_5, pz_6, pz_7, pz_8, pz_9, pz_10, pz_11, pz_12, pz_13, pz_14, pz_15, pz_16, pz_20, pz_21, pz_22, pz_24, pz_25, pz_30, pz_31, pz_32, pz_35, pz_40, pz_41, pz_42, pz_43, pz_45, pz_47, pz_48, pz_52, pz_57, pz_58, pz_59, pz_60, pz_61, pz_62, pz_63, pz_65, pz_85, pz_90, pz_97, pz_98, pz_99, pz_100, pz_101, pz_102, pz_103, pz_104, pz_105, pz_107, pz_108, pz_109, pz_110, pz_111, pz_112, pz_114, pz_115, pz_116, pz_119, pz_120, pz_121, pz_122, pz_125, pz_127, pz_153, pz_200, pz_201, pz_202, pz_203, pz_204, pz_205, pz_206, pz_207, pz_208, pz_209, pz_210, pz_211, pz_212, pz_213, pz_214, pz_215, pz_216, pz_217, pz_218, pz_219, pz_220, pz_221, pz_222, pz_223, pz_224, pz_225, pz_255, pz_256, pz_271, pz_300, pz_301, pz_302, pz_303, pz_304, pz_400, pz_401, pz_521, pz_705, pz_1000, pz_1508, pz_1661, pz_1691, pz_2400, pz_3125, pz_9999, pz_10000, pz_30703, pz_65536, pz_99999, pz_1000000, pz_lt, pz_ck, pz_u2, pz_u3, pz_u4, pz_bs, pz_ix, pz_inb, pz_add, pz_mul, pz_sub, nI_leI, nI_ltI, nI_eq, pz_bIt, pz_bIf, pz_isb, pz_isb0, pz_isb1, pz_bI0, pz_bI1, Nat.zero_le, true_and, and_true, decide_true, decide_false, Bool.true_eq_false, Bool.false_eq_true, if_true, if_false, Nat.reduceAdd, Nat.reduceMul, Nat.reduceSub, Nat.reduceEqDiff, Nat.reduceLeDiff, Nat.reduceLT, Nat.one_ne_zero, Nat.zero_ne_one, m_isIn_s, ka4, kb1, kb9, m0, hf]
  · refine ⟨nI (s 2 0), u2 (u2 (u2 s 4 (s 2 0) ka) 5 (s 2 0) kb) 2 0 (s 2 0 + 1), u2 (u2 (u2 I 4 (s 2 0) (nI ka)) 5 (s 2 0) (nI kb)) 2 0 (nI (s 2 0 + 1)), u2 (u2 (u2 I' 1 (41 + 2 * s 2 0) (nI ka)) 1 (41 + 2 * s 2 0 + 1) (nI kb)) 1 0 (nI (s 2 0 + 1)), ?_, ?_, ?_, (by simp (disch := omega) only [pz_row, pz_at, pz_no]), Or.inr ⟨_, by omega, rfl⟩⟩
    · unfold x_form
      simp (disch := omega) only [pz_0, pz_1, pz_2, pz_3, pz_4, pz_5, pz_6, pz_7, pz_8, pz_9, pz_10, pz_11, pz_12, pz_13, pz_14, pz_15, pz_16, pz_20, pz_21, pz_22, pz_24, pz_25, pz_30, pz_31, pz_32, pz_35, pz_40, pz_41, pz_42, pz_43, pz_45, pz_47, pz_48, pz_52, pz_57, pz_58, pz_59, pz_60, pz_61, pz_62, pz_63, pz_65, pz_85, pz_90, pz_97, pz_98, pz_99, pz_100, pz_101, pz_102, pz_103, pz_104, pz_105, pz_107, pz_108, pz_109, pz_110, pz_111, pz_112, pz_114, pz_115, pz_116, pz_119, pz_120, pz_121, pz_122, pz_125, pz_127, pz_153, pz_200, pz_201, pz_202, pz_203, pz_204, pz_205, pz_206, pz_207, pz_208, pz_209, pz_210, pz_211, pz_212, pz_213, pz_214, pz_215, pz_216, pz_217, pz_218, pz_219, pz_220, pz_221, pz_222, pz_223, pz_224, pz_225, pz_255, pz_256, pz_271, pz_300, pz_301, pz_302, pz_303, pz_304, pz_400, pz_401, pz_521, pz_705, pz_1000, pz_1508, pz_1661, pz_1691, pz_2400, pz_3125, pz_9999, pz_10000, pz_30703, pz_65536, pz_99999, pz_1000000, pz_lt, pz_ck, pz_u2, pz_u3, pz_u4, pz_bs, pz_ix, pz_inb, pz_add, pz_mul, pz_sub, nI_leI, nI_ltI, nI_eq, pz_bIt, pz_bIf, pz_isb, pz_isb0, pz_isb1, pz_bI0, pz_bI1, Nat.zero_le, true_and, and_true, decide_true, decide_false, Bool.true_eq_false, Bool.false_eq_true, if_true, if_false, Nat.reduceAdd, Nat.reduceMul, Nat.reduceSub, Nat.reduceEqDiff, Nat.reduceLeDiff, Nat.reduceLT, Nat.one_ne_zero, Nat.zero_ne_one, x_in_s, hx, ka4, kb1, kb9, hf, pz_no]
    · unfold m_form
      simp (disch := omega) only [pz_0, pz_1, pz_2, pz_3, pz_4, pz_5, pz_6, pz_7, pz_8, pz_9, pz_10, pz_11, pz_12, pz_13, pz_14, pz_15, pz_16, pz_20, pz_21, pz_22, pz_24, pz_25, pz_30, pz_31, pz_32, pz_35, pz_40, pz_41, pz_42, pz_43, pz_45, pz_47, pz_48, pz_52, pz_57, pz_58, pz_59, pz_60, pz_61, pz_62, pz_63, pz_65, pz_85, pz_90, pz_97, pz_98, pz_99, pz_100, pz_101, pz_102, pz_103, pz_104, pz_105, pz_107, pz_108, pz_109, pz_110, pz_111, pz_112, pz_114, pz_115, pz_116, pz_119, pz_120, pz_121, pz_122, pz_125, pz_127, pz_153, pz_200, pz_201, pz_202, pz_203, pz_204, pz_205, pz_206, pz_207, pz_208, pz_209, pz_210, pz_211, pz_212, pz_213, pz_214, pz_215, pz_216, pz_217, pz_218, pz_219, pz_220, pz_221, pz_222, pz_223, pz_224, pz_225, pz_255, pz_256, pz_271, pz_300, pz_301, pz_302, pz_303, pz_304, pz_400, pz_401, pz_521, pz_705, pz_1000, pz_1508, pz_1661, pz_1691, pz_2400, pz_3125, pz_9999, pz_10000, pz_30703, pz_65536, pz_99999, pz_1000000, pz_lt, pz_ck, pz_u2, pz_u3, pz_u4, pz_bs, pz_ix, pz_inb, pz_add, pz_mul, pz_sub, nI_leI, nI_ltI, nI_eq, pz_bIt, pz_bIf, pz_isb, pz_isb0, pz_isb1, pz_bI0, pz_bI1, Nat.zero_le, true_and, and_true, decide_true, decide_false, Bool.true_eq_false, Bool.false_eq_true, if_true, if_false, Nat.reduceAdd, Nat.reduceMul, Nat.reduceSub, Nat.reduceEqDiff, Nat.reduceLeDiff, Nat.reduceLT, Nat.one_ne_zero, Nat.zero_ne_one, m_isIn_s, ka4, kb1, kb9, m0, hf, pz_no, pz_at, Nat.add_sub_cancel]
    · refine h.step (((fxU (by omega)).tr (fxU (by omega))).tr (fxU (by omega))) (((fmU (by omega)).tr (fmU (by omega))).tr (fmU (by omega))) ?_ (xrU (xrU (xrU hX ka (by omega)) kb (by omega)) (s 2 0 + 1) (by omega)) ?_ (by simp (disch := omega) only [pz_row, pz_at, pz_no]) (h.lea.of (by simp (disch := omega) only [pz_row, pz_at, pz_no]) (by simp (disch := omega) only [pz_row, pz_at, pz_no]) (by simp (disch := omega) only [pz_row, pz_at, pz_no]))
      · refine ⟨?_, ?_, fun f hf => ?_, ?_, ?_, ?_, ?_⟩
        · refine ⟨?_, ?_, ?_, ?_, ?_, ?_, ?_, ?_⟩ <;> (first | (simp (disch := omega) only [pz_row, pz_at, pz_no]; done) | (simp (disch := omega) only [pz_row, pz_at, pz_no]; assumption) | (simp (disch := omega) only [pz_row, pz_at, pz_no]; omega))
        · simp (disch := omega) only [pz_row, pz_at, pz_no]
          exact vr.mono (by omega)
        · simp (disch := omega) only [pz_row, pz_at, pz_no] at hf
          by_cases e : f = s 2 0
          · simp (disch := omega) only [pz_row, pz_at, pz_no]
            omega
          · simp (disch := omega) only [pz_row, pz_at, pz_no]
            exact vf f (by omega)
        · simp (disch := omega) only [pz_row, pz_at, pz_no]
          exact vs
        · simp (disch := omega) only [pz_row, pz_at, pz_no]
          exact va
        · simp (disch := omega) only [pz_row, pz_at, pz_no]
          exact ve
        · simp (disch := omega) only [pz_row, pz_at, pz_no]
          exact fun k hk => (vt k hk).mono (by omega)
      · refine ⟨?_, ?_, fun f hf => ?_, ?_, ?_, ?_, ?_, ?_⟩
        · refine ⟨?_, ?_, ?_, ?_, ?_, ?_, ?_, ?_, ?_, ?_, ?_⟩ <;> (first | (simp (disch := omega) only [pz_row, pz_at, pz_no]; done) | (simp (disch := omega) only [pz_row, pz_at, pz_no]; assumption) | (simp (disch := omega) only [pz_row, pz_at, pz_no]; omega))
        · exact mp.c v1 (by simp (disch := omega) only [pz_row, pz_at, pz_no]) (by simp (disch := omega) only [pz_row, pz_at, pz_no]) (fun i h1 h2 => by simp (disch := omega) only [pz_row, pz_at, pz_no])
        · by_cases e : f = s 2 0
          · subst e
            simp (disch := omega) only [pz_row, pz_at, pz_no]
            exact ⟨trivial, trivial⟩
          · simp (disch := omega) only [pz_row, pz_at, pz_no]
            exact mf f hf
        · exact ms.c v2 (by simp (disch := omega) only [pz_row, pz_at, pz_no]) (by simp (disch := omega) only [pz_row, pz_at, pz_no]) (fun i h1 h2 => by simp (disch := omega) only [pz_row, pz_at, pz_no])
        · exact ma.c v6 (by simp (disch := omega) only [pz_row, pz_at, pz_no]) (fun i hi => by simp (disch := omega) only [pz_row, pz_at, pz_no]) (fun i h1 h2 => by simp (disch := omega) only [pz_row, pz_at, pz_no])
        · exact me.c v7 (by simp (disch := omega) only [pz_row, pz_at, pz_no]) (fun i hi => by simp (disch := omega) only [pz_row, pz_at, pz_no]) (fun i h1 h2 => by simp (disch := omega) only [pz_row, pz_at, pz_no])
        · exact mb.c vr.2.2.1 (by simp (disch := omega) only [pz_row, pz_at, pz_no]) (fun i h1 h2 => by simp (disch := omega) only [pz_row, pz_at, pz_no])
        · exact mt.c hV (by simp (disch := omega) only [pz_row, pz_at, pz_no]) (by simp (disch := omega) only [pz_row, pz_at, pz_no]) (fun i hi => by simp (disch := omega) only [pz_row, pz_at, pz_no]) (fun i h1 h2 => by simp (disch := omega) only [pz_row, pz_at, pz_no]) (fun p w h1 h2 h3 => by simp (disch := omega) only [pz_row, pz_at, pz_no])
end OPA
section OPB
variable {s si : SN} {I : PI} {T : PT} {X : TS} {tN : XCo} {I' : PI} {J' : PJ}
theorem pu_story (h : CC s si I T X tN I' J') (a : Int32) : ∃ (r : Int32) (s1 : SN) (I1 I1' : PI), x_story I a = some (r, I1) ∧ m_story I' a = some (r, I1') ∧ CC s1 si I1 T X tN I1' J' ∧ s1 2 3 = s 2 3 ∧ Rg r := by
  have hV := h.1.1
  have hX := h.1.2.2.1
  have hM := h.1.2.2.2.2.1
  obtain ⟨⟨v0, v1, v2, v3, v4, v5, v6, v7⟩, vr, vf, vs, va, ve, vt⟩ := id hV
  obtain ⟨⟨m0, m1, m2, m3, m4, m5, m6, m7, m8, m9, m10⟩, mp, mf, ms, ma, me, mb, mt⟩ := id hM
  have hx := hX.1
  obtain ⟨b1, e1, q1⟩ := pz_rng a 0 119 (by omega) (by omega)
  cases b1 with
  | false =>
    refine ⟨-nI 1, s, I, I', ?_, ?_, h, rfl, Or.inl rfl⟩
    · unfold x_story x_isOrder
      simp (disch := omega) only [pz_0, pz_1, pz_3, pz_4, pz_9, pz_60, pz_99, pz_119, pz_lt, pz_bs, pz_isb, pz_isb0, pz_isb1, pz_bI0, pz_bIf, if_true, Bool.true_eq_false, if_false, pz_ck, x_in_s, e1, pz_isb]
    · unfold m_story
      simp (disch := omega) only [pz_0, pz_1, pz_3, pz_4, pz_9, pz_60, pz_99, pz_119, pz_lt, pz_bs, pz_isb, pz_isb0, pz_isb1, pz_bI0, pz_bIf, if_true, Bool.true_eq_false, if_false, pz_ck, m_isIn_s, e1]
  | true =>
  obtain ⟨k, -, k1, rfl⟩ := q1 rfl
  by_cases hf : s 2 2 = 4
  · refine ⟨-nI 1, s, I, I', ?_, ?_, h, rfl, Or.inl rfl⟩
    · unfold x_story x_isOrder
      simp (disch := omega) only [pz_0, pz_1, pz_2, pz_3, pz_4, pz_5, pz_6, pz_7, pz_8, pz_9, pz_10, pz_11, pz_12, pz_13, pz_14, pz_15, pz_16, pz_20, pz_21, pz_22, pz_24, pz_25, pz_30, pz_31, pz_32, pz_35, pz_40, pz_41, pz_42, pz_43, pz_45, pz_47, pz_48, pz_52, pz_57, pz_58, pz_59, pz_60, pz_61, pz_62, pz_63, pz_65, pz_85, pz_90, pz_97, pz_98, pz_99, pz_100, pz_101, pz_102, pz_103, pz_104, pz_105, pz_107, pz_108, pz_109, pz_110, pz_111, pz_112, pz_114, pz_115, pz_116, pz_119, pz_120, pz_121, pz_122, pz_125, pz_127, pz_153, pz_200, pz_201, pz_202, pz_203, pz_204, pz_205, pz_206, pz_207, pz_208, pz_209, pz_210, pz_211, pz_212, pz_213, pz_214, pz_215, pz_216, pz_217, pz_218, pz_219, pz_220, pz_221, pz_222, pz_223, pz_224, pz_225, pz_255, pz_256, pz_271, pz_300, pz_301, pz_302, pz_303, pz_304, pz_400, pz_401, pz_521, pz_705, pz_1000, pz_1508, pz_1661, pz_1691, pz_2400, pz_3125, pz_9999, pz_10000, pz_30703, pz_65536, pz_99999, pz_1000000, pz_lt, pz_ck, pz_u2, pz_u3, pz_u4, pz_bs, pz_ix, pz_inb, pz_add, pz_mul, pz_sub, nI_leI, nI_ltI, nI_eq, pz_bIt, pz_bIf, pz_isb, pz_isb0, pz_isb1, pz_bI0, pz_bI1, Nat.zero_le, true_and, and_true, decide_true, decide_false, Bool.true_eq_false, Bool.false_eq_true, if_true, if_false, Nat.reduceAdd, Nat.reduceMul, Nat.reduceSub, Nat.reduceEqDiff, Nat.reduceLeDiff, Nat.reduceLT, Nat.one_ne_zero, Nat.zero_ne_one, x_in_s, hx, k1, hf]
    · unfold m_story
      simp (disch := omega) only [pz_0, pz_1, pz_2, pz_3, pz_4, pz_5, pz_6, pz_7, pz_8, pz_9, pz_10, pz_11, pz_12, pz_13, pz_14, pz_15, pz_16, pz_20, pz_21, pz_22, pz_24, pz_25, pz_30, pz_31, pz_32, pz_35, pz_40, pz_41, pz_42, pz_43, pz_45, pz_47, pz_48, pz_52, pz_57, pz_58, pz_59, pz_60, pz_61, pz_62, pz_63, pz_65, pz_85, pz_90, pz_97, pz_98, pz_99, pz_100, pz_101, pz_102, pz_103, pz_104, pz_105, pz_107, pz_108, pz_109, pz_110, pz_111, pz_112, pz_114, pz_115, pz_116, pz_119, pz_120, pz_121, pz_122, pz_125, pz_127, pz_153, pz_200, pz_201, pz_202, pz_203, pz_204, pz_205, pz_206, pz_207, pz_208, pz_209, pz_210, pz_211, pz_212, pz_213, pz_214, pz_215, pz_216, pz_217, pz_218, pz_219, pz_220, pz_221, pz_222, pz_223, pz_224, pz_225, pz_255, pz_256, pz_271, pz_300, pz_301, pz_302, pz_303, pz_304, pz_400, pz_401, pz_521, pz_705, pz_1000, pz_1508, pz_1661, pz_1691, pz_2400, pz_3125, pz_9999, pz_10000, pz_30703, pz_65536, pz_99999, pz_1000000, pz_lt, pz_ck, pz_u2, pz_u3, pz_u4, pz_bs, pz_ix, pz_inb, pz_add, pz_mul, pz_sub, nI_leI, nI_ltI, nI_eq, pz_bIt, pz_bIf, pz_isb, pz_isb0, pz_isb1, pz_bI0, pz_bI1, Nat.zero_le, true_and, and_true, decide_true, decide_false, Bool.true_eq_false, Bool.false_eq_true, if_true, if_false, Nat.reduceAdd, Nat.reduceMul, Nat.reduceSub, Nat.reduceEqDiff, Nat.reduceLeDiff, Nat.reduceLT, Nat.one_ne_zero, Nat.zero_ne_one, m_isIn_s, k1, m2, hf]
  · refine ⟨nI (s 2 2), u2 (u2 s 6 (s 2 2) k) 2 2 (s 2 2 + 1), u2 (u2 I 6 (s 2 2) (nI k)) 2 2 (nI (s 2 2 + 1)), u2 (u2 I' 1 (57 + s 2 2) (nI k)) 1 2 (nI (s 2 2 + 1)), ?_, ?_, ?_, (by simp (disch := omega) only [pz_row, pz_at, pz_no]), Or.inr ⟨_, by omega, rfl⟩⟩
    · unfold x_story x_isOrder
      simp (disch := omega) only [pz_0, pz_1, pz_2, pz_3, pz_4, pz_5, pz_6, pz_7, pz_8, pz_9, pz_10, pz_11, pz_12, pz_13, pz_14, pz_15, pz_16, pz_20, pz_21, pz_22, pz_24, pz_25, pz_30, pz_31, pz_32, pz_35, pz_40, pz_41, pz_42, pz_43, pz_45, pz_47, pz_48, pz_52, pz_57, pz_58, pz_59, pz_60, pz_61, pz_62, pz_63, pz_65, pz_85, pz_90, pz_97, pz_98, pz_99, pz_100, pz_101, pz_102, pz_103, pz_104, pz_105, pz_107, pz_108, pz_109, pz_110, pz_111, pz_112, pz_114, pz_115, pz_116, pz_119, pz_120, pz_121, pz_122, pz_125, pz_127, pz_153, pz_200, pz_201, pz_202, pz_203, pz_204, pz_205, pz_206, pz_207, pz_208, pz_209, pz_210, pz_211, pz_212, pz_213, pz_214, pz_215, pz_216, pz_217, pz_218, pz_219, pz_220, pz_221, pz_222, pz_223, pz_224, pz_225, pz_255, pz_256, pz_271, pz_300, pz_301, pz_302, pz_303, pz_304, pz_400, pz_401, pz_521, pz_705, pz_1000, pz_1508, pz_1661, pz_1691, pz_2400, pz_3125, pz_9999, pz_10000, pz_30703, pz_65536, pz_99999, pz_1000000, pz_lt, pz_ck, pz_u2, pz_u3, pz_u4, pz_bs, pz_ix, pz_inb, pz_add, pz_mul, pz_sub, nI_leI, nI_ltI, nI_eq, pz_bIt, pz_bIf, pz_isb, pz_isb0, pz_isb1, pz_bI0, pz_bI1, Nat.zero_le, true_and, and_true, decide_true, decide_false, Bool.true_eq_false, Bool.false_eq_true, if_true, if_false, Nat.reduceAdd, Nat.reduceMul, Nat.reduceSub, Nat.reduceEqDiff, Nat.reduceLeDiff, Nat.reduceLT, Nat.one_ne_zero, Nat.zero_ne_one, x_in_s, hx, k1, hf, pz_row, pz_at, pz_no, Nat.add_sub_cancel]
    · unfold m_story
      simp (disch := omega) only [pz_0, pz_1, pz_2, pz_3, pz_4, pz_5, pz_6, pz_7, pz_8, pz_9, pz_10, pz_11, pz_12, pz_13, pz_14, pz_15, pz_16, pz_20, pz_21, pz_22, pz_24, pz_25, pz_30, pz_31, pz_32, pz_35, pz_40, pz_41, pz_42, pz_43, pz_45, pz_47, pz_48, pz_52, pz_57, pz_58, pz_59, pz_60, pz_61, pz_62, pz_63, pz_65, pz_85, pz_90, pz_97, pz_98, pz_99, pz_100, pz_101, pz_102, pz_103, pz_104, pz_105, pz_107, pz_108, pz_109, pz_110, pz_111, pz_112, pz_114, pz_115, pz_116, pz_119, pz_120, pz_121, pz_122, pz_125, pz_127, pz_153, pz_200, pz_201, pz_202, pz_203, pz_204, pz_205, pz_206, pz_207, pz_208, pz_209, pz_210, pz_211, pz_212, pz_213, pz_214, pz_215, pz_216, pz_217, pz_218, pz_219, pz_220, pz_221, pz_222, pz_223, pz_224, pz_225, pz_255, pz_256, pz_271, pz_300, pz_301, pz_302, pz_303, pz_304, pz_400, pz_401, pz_521, pz_705, pz_1000, pz_1508, pz_1661, pz_1691, pz_2400, pz_3125, pz_9999, pz_10000, pz_30703, pz_65536, pz_99999, pz_1000000, pz_lt, pz_ck, pz_u2, pz_u3, pz_u4, pz_bs, pz_ix, pz_inb, pz_add, pz_mul, pz_sub, nI_leI, nI_ltI, nI_eq, pz_bIt, pz_bIf, pz_isb, pz_isb0, pz_isb1, pz_bI0, pz_bI1, Nat.zero_le, true_and, and_true, decide_true, decide_false, Bool.true_eq_false, Bool.false_eq_true, if_true, if_false, Nat.reduceAdd, Nat.reduceMul, Nat.reduceSub, Nat.reduceEqDiff, Nat.reduceLeDiff, Nat.reduceLT, Nat.one_ne_zero, Nat.zero_ne_one, m_isIn_s, k1, m2, hf, pz_row, pz_at, pz_no, Nat.add_sub_cancel]
    · refine h.step ((fxU (by omega)).tr (fxU (by omega))) ((fmU (by omega)).tr (fmU (by omega))) ?_ (xrU (xrU hX k (by omega)) (s 2 2 + 1) (by omega)) ?_ (by simp (disch := omega) only [pz_row, pz_at, pz_no]) (h.lea.of (by simp (disch := omega) only [pz_row, pz_at, pz_no]) (by simp (disch := omega) only [pz_row, pz_at, pz_no]) (by simp (disch := omega) only [pz_row, pz_at, pz_no]))
      · refine ⟨?_, ?_, ?_, fun i hi => ?_, ?_, ?_, ?_⟩
        · refine ⟨?_, ?_, ?_, ?_, ?_, ?_, ?_, ?_⟩ <;> (first | (simp (disch := omega) only [pz_row, pz_at, pz_no]; done) | (simp (disch := omega) only [pz_row, pz_at, pz_no]; assumption) | (simp (disch := omega) only [pz_row, pz_at, pz_no]; omega))
        · simp (disch := omega) only [pz_row, pz_at, pz_no]
          exact vr
        · simp (disch := omega) only [pz_row, pz_at, pz_no]
          exact vf
        · simp (disch := omega) only [pz_row, pz_at, pz_no] at hi
          by_cases e : i = s 2 2
          · simp (disch := omega) only [pz_row, pz_at, pz_no]
            omega
          · simp (disch := omega) only [pz_row, pz_at, pz_no]
            exact vs i (by omega)
        · simp (disch := omega) only [pz_row, pz_at, pz_no]
          exact va
        · simp (disch := omega) only [pz_row, pz_at, pz_no]
          exact ve
        · simp (disch := omega) only [pz_row, pz_at, pz_no]
          exact vt
      · refine ⟨?_, ?_, ?_, fun i hi => ?_, ?_, ?_, ?_, ?_⟩
        · refine ⟨?_, ?_, ?_, ?_, ?_, ?_, ?_, ?_, ?_, ?_, ?_⟩ <;> (first | (simp (disch := omega) only [pz_row, pz_at, pz_no]; done) | (simp (disch := omega) only [pz_row, pz_at, pz_no]; assumption) | (simp (disch := omega) only [pz_row, pz_at, pz_no]; omega))
        · exact mp.c v1 (by simp (disch := omega) only [pz_row, pz_at, pz_no]) (by simp (disch := omega) only [pz_row, pz_at, pz_no]) (fun i h1 h2 => (by simp (disch := omega) only [pz_row, pz_at, pz_no]))
        · exact mf.c (by simp (disch := omega) only [pz_row, pz_at, pz_no]) (by simp (disch := omega) only [pz_row, pz_at, pz_no]) (fun i h1 h2 => (by simp (disch := omega) only [pz_row, pz_at, pz_no]))
        · simp (disch := omega) only [pz_row, pz_at, pz_no] at hi
          by_cases e : i = s 2 2
          · simp (disch := omega) only [pz_row, pz_at, pz_no]
          · simp (disch := omega) only [pz_row, pz_at, pz_no]
            exact ms i (by omega)
        · exact ma.c v6 (by simp (disch := omega) only [pz_row, pz_at, pz_no]) (fun i hi => (by simp (disch := omega) only [pz_row, pz_at, pz_no])) (fun i h1 h2 => (by simp (disch := omega) only [pz_row, pz_at, pz_no]))
        · exact me.c v7 (by simp (disch := omega) only [pz_row, pz_at, pz_no]) (fun i hi => (by simp (disch := omega) only [pz_row, pz_at, pz_no])) (fun i h1 h2 => (by simp (disch := omega) only [pz_row, pz_at, pz_no]))
        · exact mb.c vr.2.2.1 (by simp (disch := omega) only [pz_row, pz_at, pz_no]) (fun i h1 h2 => (by simp (disch := omega) only [pz_row, pz_at, pz_no]))
        · exact mt.c hV (by simp (disch := omega) only [pz_row, pz_at, pz_no]) (by simp (disch := omega) only [pz_row, pz_at, pz_no]) (fun i hi => (by simp (disch := omega) only [pz_row, pz_at, pz_no])) (fun i h1 h2 => (by simp (disch := omega) only [pz_row, pz_at, pz_no])) (fun p w h1 h2 h3 => (by simp (disch := omega) only [pz_row, pz_at, pz_no]))
theorem pu_fault (h : CC s si I T X tN I' J') (a : Int32) : x_fault I a = m_fault I' a ∧ ∃ r, x_fault I a = some r := by
  obtain ⟨r1, r2⟩ := h.2.2.1
  have e : x_fault I a = m_fault I' a := by
    unfold x_fault m_fault
    rw [r1, r2]
  refine ⟨e, ?_⟩
  unfold x_fault
  by_cases h1 : a = 0
  · rw [if_pos h1]; exact ⟨_, rfl⟩
  · rw [if_neg h1]
    by_cases h2 : a = 1
    · rw [if_pos h2]; exact ⟨_, rfl⟩
    · rw [if_neg h2]; exact ⟨_, rfl⟩
end OPB
