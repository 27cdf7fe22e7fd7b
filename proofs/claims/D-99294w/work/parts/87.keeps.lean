/-! members one by one, 12: say; a step is kept -/
section OPM
variable {s si : SN} {I : PI} {T : PT} {X : TS} {tN : XCo} {I' : PI} {J' : PJ}
theorem pu_say (h : CC s si I T X tN I' J') (a b c : Int32) : ∃ (r : Int32) (s1 : SN) (I1 I1' : PI), x_say I a b c = some (r, I1) ∧ m_say I' a b c = some (r, I1') ∧ CC s1 si I1 T X tN I1' J' := by
  have hV := h.1.1
  have hX := h.1.2.2.1
  have hM := h.1.2.2.2.2.1
  obtain ⟨⟨v0, v1, v2, v3, v4, v5, v6, v7⟩, vr, vf, vs, va, ve, vt⟩ := id hV
  obtain ⟨⟨m0, m1, m2, m3, m4, m5, m6, m7, m8, m9, m10⟩, mp, mf, ms, ma, me, mb, mt⟩ := id hM
  have hx := hX.1
  unfold x_say m_say xs_clears xs_copyT
  by_cases c1 : a = -nI 1
  · refine ⟨nI 0, u2 s 2 6 0, u2 I 2 6 (nI 0), u2 I' 1 6 (nI 0), by simp (disch := omega) only [pz_0, pz_1, pz_2, pz_3, pz_4, pz_5, pz_6, pz_7, pz_8, pz_9, pz_10, pz_11, pz_12, pz_13, pz_14, pz_15, pz_16, pz_20, pz_21, pz_22, pz_24, pz_25, pz_30, pz_31, pz_32, pz_35, pz_40, pz_41, pz_42, pz_43, pz_45, pz_47, pz_48, pz_52, pz_57, pz_58, pz_59, pz_60, pz_61, pz_62, pz_63, pz_65, pz_85, pz_90, pz_97, pz_98, pz_99, pz_100, pz_101, pz_102, pz_103, pz_104, pz_105, pz_107, pz_108, pz_109, pz_110, pz_111, pz_112, pz_114, pz_115, pz_116, pz_119, pz_120, pz_121, pz_122, pz_125, pz_127, pz_153, pz_200, pz_201, pz_202, pz_203, pz_204, pz_205, pz_206, pz_207, pz_208, pz_209, pz_210, pz_211, pz_212, pz_213, pz_214, pz_215, pz_216, pz_217, pz_218, pz_219, pz_220, pz_221, pz_222, pz_223, pz_224, pz_225, pz_255, pz_256, pz_271, pz_300, pz_301, pz_302, pz_303, pz_304, pz_400, pz_401, pz_521, pz_705, pz_1000, pz_1508, pz_1661, pz_1691, pz_2400, pz_3125, pz_9999, pz_10000, pz_30703, pz_65536, pz_99999, pz_1000000, pz_lt, pz_ck, pz_u2, pz_u3, pz_u4, pz_bs, pz_ix, pz_inb, pz_add, pz_mul, pz_sub, nI_leI, nI_ltI, nI_eq, pz_bIt, pz_bIf, pz_isb, pz_isb0, pz_isb1, pz_bI0, pz_bI1, Nat.zero_le, true_and, and_true, decide_true, decide_false, Bool.true_eq_false, Bool.false_eq_true, if_true, if_false, Nat.reduceAdd, Nat.reduceMul, Nat.reduceSub, Nat.reduceEqDiff, Nat.reduceLeDiff, Nat.reduceLT, Nat.one_ne_zero, Nat.zero_ne_one, c1], by simp (disch := omega) only [pz_0, pz_1, pz_2, pz_3, pz_4, pz_5, pz_6, pz_7, pz_8, pz_9, pz_10, pz_11, pz_12, pz_13, pz_14, pz_15, pz_16, pz_20, pz_21, pz_22, pz_24, pz_25, pz_30, pz_31, pz_32, pz_35, pz_40, pz_41, pz_42, pz_43, pz_45, pz_47, pz_48, pz_52, pz_57, pz_58, pz_59, pz_60, pz_61, pz_62, pz_63, pz_65, pz_85, pz_90, pz_97, pz_98, pz_99, pz_100, pz_101, pz_102, pz_103, pz_104, pz_105, pz_107, pz_108, pz_109, pz_110, pz_111, pz_112, pz_114, pz_115, pz_116, pz_119, pz_120, pz_121, pz_122, pz_125, pz_127, pz_153, pz_200, pz_201, pz_202, pz_203, pz_204, pz_205, pz_206, pz_207, pz_208, pz_209, pz_210, pz_211, pz_212, pz_213, pz_214, pz_215, pz_216, pz_217, pz_218, pz_219, pz_220, pz_221, pz_222, pz_223, pz_224, pz_225, pz_255, pz_256, pz_271, pz_300, pz_301, pz_302, pz_303, pz_304, pz_400, pz_401, pz_521, pz_705, pz_1000, pz_1508, pz_1661, pz_1691, pz_2400, pz_3125, pz_9999, pz_10000, pz_30703, pz_65536, pz_99999, pz_1000000, pz_lt, pz_ck, pz_u2, pz_u3, pz_u4, pz_bs, pz_ix, pz_inb, pz_add, pz_mul, pz_sub, nI_leI, nI_ltI, nI_eq, pz_bIt, pz_bIf, pz_isb, pz_isb0, pz_isb1, pz_bI0, pz_bI1, Nat.zero_le, true_and, and_true, decide_true, decide_false, Bool.true_eq_false, Bool.false_eq_true, if_true, if_false, Nat.reduceAdd, Nat.reduceMul, Nat.reduceSub, Nat.reduceEqDiff, Nat.reduceLeDiff, Nat.reduceLT, Nat.one_ne_zero, Nat.zero_ne_one, c1], ?_⟩
    refine h.step (fxU (by omega)) (fmU (by omega)) ?_ (xrU hX 0 (by omega)) ?_ (by simp (disch := omega) only [pz_row, pz_at, pz_no]) (h.lea.of (by simp (disch := omega) only [pz_row, pz_at, pz_no]) (by simp (disch := omega) only [pz_row, pz_at, pz_no]) (by simp (disch := omega) only [pz_row, pz_at, pz_no]))
    · refine ⟨?_, ?_, ?_, ?_, fun i hi => ?_, ?_, ?_⟩
      · refine ⟨?_, ?_, ?_, ?_, ?_, ?_, ?_, ?_⟩ <;> (first | (simp (disch := omega) only [pz_row, pz_at, pz_no]; done) | (simp (disch := omega) only [pz_row, pz_at, pz_no]; assumption) | (simp (disch := omega) only [pz_row, pz_at, pz_no]; omega))
      · simp (disch := omega) only [pz_row, pz_at, pz_no]
        exact vr
      · simp (disch := omega) only [pz_row, pz_at, pz_no]
        exact vf
      · simp (disch := omega) only [pz_row, pz_at, pz_no]
        exact vs
      · simp (disch := omega) only [pz_row, pz_at, pz_no] at hi
        omega
      · simp (disch := omega) only [pz_row, pz_at, pz_no]
        exact ve
      · simp (disch := omega) only [pz_row, pz_at, pz_no]
        exact vt
    · refine ⟨?_, ?_, ?_, ?_, fun i j hi hj => ?_, ?_, ?_, ?_⟩
      · refine ⟨?_, ?_, ?_, ?_, ?_, ?_, ?_, ?_, ?_, ?_, ?_⟩ <;> (first | (simp (disch := omega) only [pz_row, pz_at, pz_no]; done) | (simp (disch := omega) only [pz_row, pz_at, pz_no]; assumption) | (simp (disch := omega) only [pz_row, pz_at, pz_no]; omega))
      · exact mp.c v1 (by simp (disch := omega) only [pz_row, pz_at, pz_no]) (by simp (disch := omega) only [pz_row, pz_at, pz_no]) (fun i h1 h2 => (by simp (disch := omega) only [pz_row, pz_at, pz_no]))
      · exact mf.c (by simp (disch := omega) only [pz_row, pz_at, pz_no]) (by simp (disch := omega) only [pz_row, pz_at, pz_no]) (fun i h1 h2 => (by simp (disch := omega) only [pz_row, pz_at, pz_no]))
      · exact ms.c v2 (by simp (disch := omega) only [pz_row, pz_at, pz_no]) (by simp (disch := omega) only [pz_row, pz_at, pz_no]) (fun i h1 h2 => (by simp (disch := omega) only [pz_row, pz_at, pz_no]))
      · simp (disch := omega) only [pz_row, pz_at, pz_no] at hi
        omega
      · exact me.c v7 (by simp (disch := omega) only [pz_row, pz_at, pz_no]) (fun i hi => (by simp (disch := omega) only [pz_row, pz_at, pz_no])) (fun i h1 h2 => (by simp (disch := omega) only [pz_row, pz_at, pz_no]))
      · exact mb.c vr.2.2.1 (by simp (disch := omega) only [pz_row, pz_at, pz_no]) (fun i h1 h2 => (by simp (disch := omega) only [pz_row, pz_at, pz_no]))
      · exact mt.c hV (by simp (disch := omega) only [pz_row, pz_at, pz_no]) (by simp (disch := omega) only [pz_row, pz_at, pz_no]) (fun i hi => (by simp (disch := omega) only [pz_row, pz_at, pz_no])) (fun i h1 h2 => (by simp (disch := omega) only [pz_row, pz_at, pz_no])) (fun p w h1 h2 h3 => (by simp (disch := omega) only [pz_row, pz_at, pz_no]))
  · obtain ⟨z, e1, e2, qz⟩ := pe_isSaying a b c
    cases z with
    | false => exact ⟨-nI 2, s, I, I', by simp (disch := omega) only [pz_0, pz_1, pz_3, pz_4, pz_9, pz_60, pz_99, pz_119, pz_lt, pz_bs, pz_isb, pz_isb0, pz_isb1, pz_bI0, pz_bIf, if_true, Bool.true_eq_false, if_false, pz_ck, pz_2, c1, e1], by simp (disch := omega) only [pz_0, pz_1, pz_3, pz_4, pz_9, pz_60, pz_99, pz_119, pz_lt, pz_bs, pz_isb, pz_isb0, pz_isb1, pz_bI0, pz_bIf, if_true, Bool.true_eq_false, if_false, pz_ck, pz_2, c1, e2], h⟩
    | true =>
    obtain ⟨p, q, r, hp, hq, hr, rfl, rfl, rfl, -⟩ := qz rfl
    have np := pz_ne1 (n := p) (by omega)
    by_cases c8 : s 2 6 = 8
    · exact ⟨-nI 2, s, I, I', by simp (disch := omega) only [pz_0, pz_1, pz_2, pz_3, pz_4, pz_5, pz_6, pz_7, pz_8, pz_9, pz_10, pz_11, pz_12, pz_13, pz_14, pz_15, pz_16, pz_20, pz_21, pz_22, pz_24, pz_25, pz_30, pz_31, pz_32, pz_35, pz_40, pz_41, pz_42, pz_43, pz_45, pz_47, pz_48, pz_52, pz_57, pz_58, pz_59, pz_60, pz_61, pz_62, pz_63, pz_65, pz_85, pz_90, pz_97, pz_98, pz_99, pz_100, pz_101, pz_102, pz_103, pz_104, pz_105, pz_107, pz_108, pz_109, pz_110, pz_111, pz_112, pz_114, pz_115, pz_116, pz_119, pz_120, pz_121, pz_122, pz_125, pz_127, pz_153, pz_200, pz_201, pz_202, pz_203, pz_204, pz_205, pz_206, pz_207, pz_208, pz_209, pz_210, pz_211, pz_212, pz_213, pz_214, pz_215, pz_216, pz_217, pz_218, pz_219, pz_220, pz_221, pz_222, pz_223, pz_224, pz_225, pz_255, pz_256, pz_271, pz_300, pz_301, pz_302, pz_303, pz_304, pz_400, pz_401, pz_521, pz_705, pz_1000, pz_1508, pz_1661, pz_1691, pz_2400, pz_3125, pz_9999, pz_10000, pz_30703, pz_65536, pz_99999, pz_1000000, pz_lt, pz_ck, pz_u2, pz_u3, pz_u4, pz_bs, pz_ix, pz_inb, pz_add, pz_mul, pz_sub, nI_leI, nI_ltI, nI_eq, pz_bIt, pz_bIf, pz_isb, pz_isb0, pz_isb1, pz_bI0, pz_bI1, Nat.zero_le, true_and, and_true, decide_true, decide_false, Bool.true_eq_false, Bool.false_eq_true, if_true, if_false, Nat.reduceAdd, Nat.reduceMul, Nat.reduceSub, Nat.reduceEqDiff, Nat.reduceLeDiff, Nat.reduceLT, Nat.one_ne_zero, Nat.zero_ne_one, np, e1, hx, c8], by simp (disch := omega) only [pz_0, pz_1, pz_2, pz_3, pz_4, pz_5, pz_6, pz_7, pz_8, pz_9, pz_10, pz_11, pz_12, pz_13, pz_14, pz_15, pz_16, pz_20, pz_21, pz_22, pz_24, pz_25, pz_30, pz_31, pz_32, pz_35, pz_40, pz_41, pz_42, pz_43, pz_45, pz_47, pz_48, pz_52, pz_57, pz_58, pz_59, pz_60, pz_61, pz_62, pz_63, pz_65, pz_85, pz_90, pz_97, pz_98, pz_99, pz_100, pz_101, pz_102, pz_103, pz_104, pz_105, pz_107, pz_108, pz_109, pz_110, pz_111, pz_112, pz_114, pz_115, pz_116, pz_119, pz_120, pz_121, pz_122, pz_125, pz_127, pz_153, pz_200, pz_201, pz_202, pz_203, pz_204, pz_205, pz_206, pz_207, pz_208, pz_209, pz_210, pz_211, pz_212, pz_213, pz_214, pz_215, pz_216, pz_217, pz_218, pz_219, pz_220, pz_221, pz_222, pz_223, pz_224, pz_225, pz_255, pz_256, pz_271, pz_300, pz_301, pz_302, pz_303, pz_304, pz_400, pz_401, pz_521, pz_705, pz_1000, pz_1508, pz_1661, pz_1691, pz_2400, pz_3125, pz_9999, pz_10000, pz_30703, pz_65536, pz_99999, pz_1000000, pz_lt, pz_ck, pz_u2, pz_u3, pz_u4, pz_bs, pz_ix, pz_inb, pz_add, pz_mul, pz_sub, nI_leI, nI_ltI, nI_eq, pz_bIt, pz_bIf, pz_isb, pz_isb0, pz_isb1, pz_bI0, pz_bI1, Nat.zero_le, true_and, and_true, decide_true, decide_false, Bool.true_eq_false, Bool.false_eq_true, if_true, if_false, Nat.reduceAdd, Nat.reduceMul, Nat.reduceSub, Nat.reduceEqDiff, Nat.reduceLeDiff, Nat.reduceLT, Nat.one_ne_zero, Nat.zero_ne_one, np, e2, m6, c8], h⟩
    · have hck : cpk (nI 0) (nI 0) (Int32.ofNat 3) 3 3 = true := by decide
      have e3 : ix (Int32.ofNat 3) = 3 := by decide
      obtain ⟨f, ef⟩ : ∃ f : Nat → Int32, f = upd (upd (upd (fun _ => nI 0) 0 (nI p)) 1 (nI q)) 2 (nI r) := ⟨_, rfl⟩
      have f0 : f 0 = nI p := by rw [ef]; rfl
      have f1 : f 1 = nI q := by rw [ef]; rfl
      have f2 : f 2 = nI r := by rw [ef]; rfl
      have hcell : ∀ j, ucf I f (11 + s 2 6) 0 0 3 (11 + s 2 6) j = nI (u2 (u2 (u2 s (11 + s 2 6) 0 p) (11 + s 2 6) 1 q) (11 + s 2 6) 2 r (11 + s 2 6) j) := by
        intro j
        have e : ucf I f (11 + s 2 6) 0 0 3 (11 + s 2 6) = va_cpy f (I (11 + s 2 6)) 0 0 3 := by
          unfold ucf
          rw [if_pos rfl]
        rw [e]
        by_cases z : j < 3
        · rw [pk_cpy_in (Nat.zero_le _) (by omega)]
          have hc : j = 0 ∨ j = 1 ∨ j = 2 := by omega
          rcases hc with w | w | w <;> subst w
          · simp (disch := omega) only [pz_row, pz_at, pz_no]
            exact f0
          · simp (disch := omega) only [pz_row, pz_at, pz_no]
            exact f1
          · simp (disch := omega) only [pz_row, pz_at, pz_no]
            exact f2
        · rw [pk_cpy_out (by omega)]
          simp (disch := omega) only [pz_row, pz_at, pz_no]
          exact hx _ _ (by omega) (by omega)
      have hrow : ∀ k, k ≠ 11 + s 2 6 → ucf I f (11 + s 2 6) 0 0 3 k = I k := by
        intro k hk
        unfold ucf
        rw [if_neg hk]
      have e4 : ucf I f (11 + s 2 6) 0 0 3 2 6 = nI (s 2 6) := by
        rw [hrow 2 (by omega)]
        exact hx 2 6 (by omega) (by omega)
      refine ⟨nI (s 2 6 + 1), u2 (u2 (u2 (u2 s (11 + s 2 6) 0 p) (11 + s 2 6) 1 q) (11 + s 2 6) 2 r) 2 6 (s 2 6 + 1), u2 (ucf I f (11 + s 2 6) 0 0 3) 2 6 (nI (s 2 6 + 1)), u2 (u2 (u2 (u2 I' 1 (61 + 3 * s 2 6) (nI p)) 1 (61 + 3 * s 2 6 + 1) (nI q)) 1 (61 + 3 * s 2 6 + 2) (nI r)) 1 6 (nI (s 2 6 + 1)), ?_, ?_, ?_⟩
      · simp (disch := omega) only [pz_0, pz_1, pz_2, pz_3, pz_4, pz_5, pz_6, pz_7, pz_8, pz_9, pz_10, pz_11, pz_12, pz_13, pz_14, pz_15, pz_16, pz_20, pz_21, pz_22, pz_24, pz_25, pz_30, pz_31, pz_32, pz_35, pz_40, pz_41, pz_42, pz_43, pz_45, pz_47, pz_48, pz_52, pz_57, pz_58, pz_59, pz_60, pz_61, pz_62, pz_63, pz_65, pz_85, pz_90, pz_97, pz_98, pz_99, pz_100, pz_101, pz_102, pz_103, pz_104, pz_105, pz_107, pz_108, pz_109, pz_110, pz_111, pz_112, pz_114, pz_115, pz_116, pz_119, pz_120, pz_121, pz_122, pz_125, pz_127, pz_153, pz_200, pz_201, pz_202, pz_203, pz_204, pz_205, pz_206, pz_207, pz_208, pz_209, pz_210, pz_211, pz_212, pz_213, pz_214, pz_215, pz_216, pz_217, pz_218, pz_219, pz_220, pz_221, pz_222, pz_223, pz_224, pz_225, pz_255, pz_256, pz_271, pz_300, pz_301, pz_302, pz_303, pz_304, pz_400, pz_401, pz_521, pz_705, pz_1000, pz_1508, pz_1661, pz_1691, pz_2400, pz_3125, pz_9999, pz_10000, pz_30703, pz_65536, pz_99999, pz_1000000, pz_lt, pz_ck, pz_u2, pz_u3, pz_u4, pz_bs, pz_ix, pz_inb, pz_add, pz_mul, pz_sub, nI_leI, nI_ltI, nI_eq, pz_bIt, pz_bIf, pz_isb, pz_isb0, pz_isb1, pz_bI0, pz_bI1, Nat.zero_le, true_and, and_true, decide_true, decide_false, Bool.true_eq_false, Bool.false_eq_true, if_true, if_false, Nat.reduceAdd, Nat.reduceMul, Nat.reduceSub, Nat.reduceEqDiff, Nat.reduceLeDiff, Nat.reduceLT, Nat.one_ne_zero, Nat.zero_ne_one, np, e1, hx, c8, ← ef, hck, e3, e4, pz_row, pz_at, pz_no]
      · simp (disch := omega) only [pz_0, pz_1, pz_2, pz_3, pz_4, pz_5, pz_6, pz_7, pz_8, pz_9, pz_10, pz_11, pz_12, pz_13, pz_14, pz_15, pz_16, pz_20, pz_21, pz_22, pz_24, pz_25, pz_30, pz_31, pz_32, pz_35, pz_40, pz_41, pz_42, pz_43, pz_45, pz_47, pz_48, pz_52, pz_57, pz_58, pz_59, pz_60, pz_61, pz_62, pz_63, pz_65, pz_85, pz_90, pz_97, pz_98, pz_99, pz_100, pz_101, pz_102, pz_103, pz_104, pz_105, pz_107, pz_108, pz_109, pz_110, pz_111, pz_112, pz_114, pz_115, pz_116, pz_119, pz_120, pz_121, pz_122, pz_125, pz_127, pz_153, pz_200, pz_201, pz_202, pz_203, pz_204, pz_205, pz_206, pz_207, pz_208, pz_209, pz_210, pz_211, pz_212, pz_213, pz_214, pz_215, pz_216, pz_217, pz_218, pz_219, pz_220, pz_221, pz_222, pz_223, pz_224, pz_225, pz_255, pz_256, pz_271, pz_300, pz_301, pz_302, pz_303, pz_304, pz_400, pz_401, pz_521, pz_705, pz_1000, pz_1508, pz_1661, pz_1691, pz_2400, pz_3125, pz_9999, pz_10000, pz_30703, pz_65536, pz_99999, pz_1000000, pz_lt, pz_ck, pz_u2, pz_u3, pz_u4, pz_bs, pz_ix, pz_inb, pz_add, pz_mul, pz_sub, nI_leI, nI_ltI, nI_eq, pz_bIt, pz_bIf, pz_isb, pz_isb0, pz_isb1, pz_bI0, pz_bI1, Nat.zero_le, true_and, and_true, decide_true, decide_false, Bool.true_eq_false, Bool.false_eq_true, if_true, if_false, Nat.reduceAdd, Nat.reduceMul, Nat.reduceSub, Nat.reduceEqDiff, Nat.reduceLeDiff, Nat.reduceLT, Nat.one_ne_zero, Nat.zero_ne_one, np, e2, m6, c8, pz_row, pz_at, pz_no]
      · have hX1 : XR (u2 (u2 (u2 s (11 + s 2 6) 0 p) (11 + s 2 6) 1 q) (11 + s 2 6) 2 r) (ucf I f (11 + s 2 6) 0 0 3) := by
          refine ⟨fun k j hk hj => ?_, ?_⟩
          · by_cases z : k = 11 + s 2 6
            · subst z
              exact hcell j
            · rw [hrow k z]
              simp (disch := omega) only [pz_row, pz_at, pz_no]
              exact hx k j hk hj
          · rw [hrow 2 (by omega)]
            simp (disch := omega) only [pz_row, pz_at, pz_no]
            exact hX.2
        refine h.step (Fx.tr ⟨fun k hk => hrow k (by omega), by rw [hrow 0 (by omega)], by rw [hrow 0 (by omega)], by rw [hrow 0 (by omega)]⟩ (fxU (by omega))) ((((fmU (by omega)).tr (fmU (by omega))).tr (fmU (by omega))).tr (fmU (by omega))) ?_ (xrU hX1 (s 2 6 + 1) (by omega)) ?_ (by simp (disch := omega) only [pz_row, pz_at, pz_no]) (h.lea.of (by simp (disch := omega) only [pz_row, pz_at, pz_no]) (by simp (disch := omega) only [pz_row, pz_at, pz_no]) (by simp (disch := omega) only [pz_row, pz_at, pz_no]))
        · refine ⟨?_, ?_, ?_, ?_, fun i hi => ?_, fun i hi => ?_, fun k hk => ?_⟩
          · refine ⟨?_, ?_, ?_, ?_, ?_, ?_, ?_, ?_⟩ <;> (first | (simp (disch := omega) only [pz_row, pz_at, pz_no]; done) | (simp (disch := omega) only [pz_row, pz_at, pz_no]; assumption) | (simp (disch := omega) only [pz_row, pz_at, pz_no]; omega))
          · simp (disch := omega) only [pz_row, pz_at, pz_no]
            exact vr
          · simp (disch := omega) only [pz_row, pz_at, pz_no]
            exact vf
          · simp (disch := omega) only [pz_row, pz_at, pz_no]
            exact vs
          · simp (disch := omega) only [pz_row, pz_at, pz_no] at hi
            by_cases z : i = s 2 6
            · subst z
              simp (disch := omega) only [pz_row, pz_at, pz_no]
              exact ⟨hp, hq, hr⟩
            · simp (disch := omega) only [pz_row, pz_at, pz_no]
              exact va i (by omega)
          · simp (disch := omega) only [pz_row, pz_at, pz_no] at hi
            simp (disch := omega) only [pz_row, pz_at, pz_no]
            exact ve i hi
          · simp (disch := omega) only [pz_row, pz_at, pz_no] at hk
            simp (disch := omega) only [pz_row, pz_at, pz_no]
            exact vt k hk
        · refine ⟨?_, ?_, ?_, ?_, fun i j hi hj => ?_, ?_, ?_, ?_⟩
          · refine ⟨?_, ?_, ?_, ?_, ?_, ?_, ?_, ?_, ?_, ?_, ?_⟩ <;> (first | (simp (disch := omega) only [pz_row, pz_at, pz_no]; done) | (simp (disch := omega) only [pz_row, pz_at, pz_no]; assumption) | (simp (disch := omega) only [pz_row, pz_at, pz_no]; omega))
          · exact mp.c v1 (by simp (disch := omega) only [pz_row, pz_at, pz_no]) (by simp (disch := omega) only [pz_row, pz_at, pz_no]) (fun i h1 h2 => (by simp (disch := omega) only [pz_row, pz_at, pz_no]))
          · exact mf.c (by simp (disch := omega) only [pz_row, pz_at, pz_no]) (by simp (disch := omega) only [pz_row, pz_at, pz_no]) (fun i h1 h2 => (by simp (disch := omega) only [pz_row, pz_at, pz_no]))
          · exact ms.c v2 (by simp (disch := omega) only [pz_row, pz_at, pz_no]) (by simp (disch := omega) only [pz_row, pz_at, pz_no]) (fun i h1 h2 => (by simp (disch := omega) only [pz_row, pz_at, pz_no]))
          · simp (disch := omega) only [pz_row, pz_at, pz_no] at hi
            by_cases z : i = s 2 6
            · subst z
              have hc : j = 0 ∨ j = 1 ∨ j = 2 := by omega
              rcases hc with e | e | e <;> subst e <;> simp (disch := omega) only [pz_row, pz_at, pz_no]
            · simp (disch := omega) only [pz_row, pz_at, pz_no]
              exact ma i j (by omega) hj
          · exact me.c v7 (by simp (disch := omega) only [pz_row, pz_at, pz_no]) (fun i hi => (by simp (disch := omega) only [pz_row, pz_at, pz_no])) (fun i h1 h2 => (by simp (disch := omega) only [pz_row, pz_at, pz_no]))
          · exact mb.c vr.2.2.1 (by simp (disch := omega) only [pz_row, pz_at, pz_no]) (fun i h1 h2 => (by simp (disch := omega) only [pz_row, pz_at, pz_no]))
          · exact mt.c hV (by simp (disch := omega) only [pz_row, pz_at, pz_no]) (by simp (disch := omega) only [pz_row, pz_at, pz_no]) (fun i hi => (by simp (disch := omega) only [pz_row, pz_at, pz_no])) (fun i h1 h2 => (by simp (disch := omega) only [pz_row, pz_at, pz_no])) (fun p w h1 h2 h3 => (by simp (disch := omega) only [pz_row, pz_at, pz_no]))
end OPM
theorem VRow.c {r r1 : Nat → Nat} {nF nP : Nat} (h : VRow r nF nP) (hP : nP ≤ 6) (e : ∀ j, j < 141 → r1 j = r j) : VRow r1 nF nP := by
  obtain ⟨h1, h2, h3, h4, h5, h6⟩ := h
  refine ⟨by rw [e 0 (by omega)]; exact h1, by rw [e 1 (by omega)]; exact h2, by rw [e 20 (by omega)]; exact h3, fun p hp => ?_, fun p h7 h8 => ?_, fun i hi => ?_⟩
  · rw [e _ (by omega), e _ (by omega), e _ (by omega)]
    exact h4 p hp
  · rw [e _ (by omega), e _ (by omega), e _ (by omega)]
    exact h5 p h7 h8
  · rw [e 20 (by omega)] at hi
    rw [e _ (by omega), e _ (by omega), e _ (by omega), e _ (by omega)]
    exact h6 i hi
theorem page_c {r r1 : Nat → Nat} {i : Nat} (hi : i < 30) (e : ∀ j, j < 141 → r1 j = r j) : page r1 i = page r i := by
  unfold page
  rw [e _ (by omega), e _ (by omega), e _ (by omega), e _ (by omega)]
theorem MStp.r {r r1 : Nat → Nat} {nP x c : Nat} {A : Nat → Int32} (h : MStp r nP A x c) (hP : nP ≤ 6) (hr : r 20 ≤ 30) (e : ∀ j, j < 141 → r1 j = r j) : MStp r1 nP A x c := by
  obtain ⟨h1, h2, h3, h4, h5, h6, h7, h8⟩ := h
  refine ⟨h1, h2, by rw [e 0 (by omega)]; exact h3, by rw [e 1 (by omega)]; exact h4, by rw [e 20 (by omega)]; exact h5, fun p hp => ?_, fun p hp hp2 => ?_, fun i hi => ?_⟩
  · rw [e _ (by omega), e _ (by omega), e _ (by omega)]
    exact h6 p hp
  · rw [e _ (by omega), e _ (by omega), e _ (by omega)]
    exact h7 p hp hp2
  · rw [e 20 (by omega)] at hi
    rw [page_c (by omega) e]
    exact h8 i hi
theorem uc_j {α : Type} (f : Nat → Nat → α) {k0 k1 n j : Nat} (h : j < n) : uc f k0 k1 0 0 n k1 j = f k0 j := by
  have e : uc f k0 k1 0 0 n k1 = va_cpy (f k0) (f k1) 0 0 n := by
    unfold uc
    rw [if_pos rfl]
  rw [e, pk_cpy_in (Nat.zero_le _) (by omega)]
  congr 1
  omega
theorem uc_ne {α : Type} (f : Nat → Nat → α) {k0 k1 n k : Nat} (h : k ≠ k1) : uc f k0 k1 0 0 n k = f k := by
  unfold uc
  rw [if_neg h]
theorem xrC {s : SN} {I : PI} (h : XR s I) {k0 k1 n : Nat} (h0 : (3 ≤ k0 ∧ k0 < 7) ∨ (11 ≤ k0 ∧ k0 < 57)) (h1 : k1 ≠ 2) : XR (uc s k0 k1 0 0 n) (uc I k0 k1 0 0 n) := by
  refine ⟨fun k j hk hj => ?_, ?_⟩
  · by_cases e : k = k1
    · subst e
      have e1 : uc I k0 k 0 0 n k = va_cpy (I k0) (I k) 0 0 n := by unfold uc; rw [if_pos rfl]
      have e2 : uc s k0 k 0 0 n k = va_cpy (s k0) (s k) 0 0 n := by unfold uc; rw [if_pos rfl]
      rw [e1, e2]
      by_cases z : j < n
      · rw [pk_cpy_in (Nat.zero_le _) (by omega), pk_cpy_in (Nat.zero_le _) (by omega)]
        exact h.1 k0 _ (by omega) (by omega)
      · rw [pk_cpy_out (by omega), pk_cpy_out (by omega)]
        exact h.1 k j hk hj
    · rw [uc_ne _ e, uc_ne _ e]
      exact h.1 k j hk hj
  · rw [uc_ne _ (Ne.symm h1), uc_ne _ (Ne.symm h1)]
    exact h.2
theorem px_copy (I : PI) (k0 k1 : Nat) : xs_copy I k0 141 k1 141 = some (uc I k0 k1 0 0 141) := by
  have h1 : cpk (0 : Int32) (0 : Int32) (Int32.ofNat 141) 141 141 = true := by decide
  have h2 : ix (Int32.ofNat 141) = 141 := by decide
  have h3 : ix (0 : Int32) = 0 := by decide
  unfold xs_copy
  rw [h1, pz_ck, pz_lt, h2, h3]
