/-! members one by one, 16: keep -/
theorem kb_0 {r : Nat → Nat} {f : Nat} : ∀ {n : Nat}, kb r f n = 0 → ∀ p, p < n → (r (8 + p)).testBit f = false
  | 0, _, p, hp => absurd hp (Nat.not_lt_zero p)
  | n + 1, h, p, hp => by
    have h : kb r f n ||| (if (r (8 + n)).testBit f then 2 ^ n else 0) = 0 := h
    obtain ⟨h1, h2⟩ := Nat.or_eq_zero_iff.mp h
    by_cases e : p = n
    · subst e
      cases c : (r (8 + p)).testBit f with
      | false => rfl
      | true =>
        rw [c, if_pos rfl] at h2
        have := Nat.two_pow_pos p
        omega
    · exact kb_0 h1 p (by omega)
section KEP
variable {s si : SN} {I : PI} {T : PT} {X : TS} {tN : XCo} {I' : PI} {J' : PJ}
theorem tw_or (n : Nat) (a b : Bool) : tw n a ||| tw n b = tw n (a || b) := by
  cases a <;> cases b <;> simp [tw]
theorem px_toldWithout (h : CC s si I T X tN I' J') (J : PJ) {m : Int32} {g : Nat → Nat} (hm : (m = -nI 1 ∧ ∀ p, p < s 2 1 → g p = s 3 (8 + p)) ∨ ∃ f, f < 8 ∧ m = nI f ∧ ∀ p, p < s 2 1 → g p = clr (s 3 (8 + p)) f) : ∃ I1 J1, x_toldWithout I J m = some (nI (tw (s 2 2) (anyE s g (s 2 1))), I1, J1) ∧ FxS I I1 := by
  have hV := h.1.1
  have hX := h.1.2.2.1
  have hM := h.1.2.2.2.2.1
  obtain ⟨⟨v0, v1, v2, v3, v4, v5, v6, v7⟩, vr, vf, vs, va, ve, vt⟩ := id hV
  obtain ⟨⟨m0, m1, m2, m3, m4, m5, m6, m7, m8, m9, m10⟩, mp, mf, ms, ma, me, mb, mt⟩ := id hM
  have hx := hX.1
  obtain ⟨⟨A, B⟩, h1, h2⟩ := pz_loop (fun k v (x : PI × PJ) => x_toldWithout_l4 m k (nI (tw (s 2 2) (anyE s g v))) (nI v) x.1 x.2) (s 2 1) (fun x => some (nI (tw (s 2 2) (anyE s g (s 2 1))), x.1, x.2)) (fun v x => FxS I x.1) (fun k x hP => by
      have e : x.1 2 1 = nI (s 2 1) := by rw [hP.1 2 (by omega) (by omega)]; exact hx 2 1 (by omega) (by omega)
      show x_toldWithout_b4 m (x_toldWithout_l4 m k) _ (nI (s 2 1)) x.1 x.2 = _
      unfold x_toldWithout_b4
      simp (disch := omega) only [pz_0, pz_1, pz_2, pz_3, pz_4, pz_5, pz_6, pz_7, pz_8, pz_9, pz_10, pz_11, pz_12, pz_13, pz_14, pz_15, pz_16, pz_20, pz_21, pz_22, pz_24, pz_25, pz_30, pz_31, pz_32, pz_35, pz_40, pz_41, pz_42, pz_43, pz_45, pz_47, pz_48, pz_52, pz_57, pz_58, pz_59, pz_60, pz_61, pz_62, pz_63, pz_65, pz_85, pz_90, pz_97, pz_98, pz_99, pz_100, pz_101, pz_102, pz_103, pz_104, pz_105, pz_107, pz_108, pz_109, pz_110, pz_111, pz_112, pz_114, pz_115, pz_116, pz_119, pz_120, pz_121, pz_122, pz_125, pz_127, pz_153, pz_200, pz_201, pz_202, pz_203, pz_204, pz_205, pz_206, pz_207, pz_208, pz_209, pz_210, pz_211, pz_212, pz_213, pz_214, pz_215, pz_216, pz_217, pz_218, pz_219, pz_220, pz_221, pz_222, pz_223, pz_224, pz_225, pz_255, pz_256, pz_271, pz_300, pz_301, pz_302, pz_303, pz_304, pz_400, pz_401, pz_521, pz_705, pz_1000, pz_1508, pz_1661, pz_1691, pz_2400, pz_3125, pz_9999, pz_10000, pz_30703, pz_65536, pz_99999, pz_1000000, pz_lt, pz_ck, pz_u2, pz_u3, pz_u4, pz_bs, pz_ix, pz_inb, pz_add, pz_mul, pz_sub, nI_leI, nI_ltI, nI_eq, pz_bIt, pz_bIf, pz_isb, pz_isb0, pz_isb1, pz_bI0, pz_bI1, Nat.zero_le, true_and, and_true, decide_true, decide_false, Bool.true_eq_false, Bool.false_eq_true, if_true, if_false, Nat.reduceAdd, Nat.reduceMul, Nat.reduceSub, Nat.reduceEqDiff, Nat.reduceLeDiff, Nat.reduceLT, Nat.one_ne_zero, Nat.zero_ne_one, e, Nat.le_refl]) (fun k v x hv hP => by
      obtain ⟨A, B⟩ := x
      have hP : FxS I A := hP
      have hC := h.xs hP
      have e : A 2 1 = nI (s 2 1) := by rw [hP.1 2 (by omega) (by omega)]; exact hx 2 1 (by omega) (by omega)
      have g1 := px_formsOf hC.1.2.2.1 (p := v) (by omega)
      have hf := lt256 hV (vr.2.2.2.1 v hv).2.1
      have hg : g v < 256 := by
        rcases hm with ⟨-, q⟩ | ⟨f, q0, -, q⟩
        · rw [q v hv]; exact hf
        · rw [q v hv]; exact clr_256 _ hf f q0
      obtain ⟨I1, J1, t1, d⟩ := px_toldBy hC B hg
      have t2 : tb s (s 2 2) (g v) = tw (s 2 2) (en s (g v)) := rfl
      refine ⟨(I1, J1), ?_, hP.tr d⟩
      show x_toldWithout_b4 m (x_toldWithout_l4 m k) (nI (tw (s 2 2) (anyE s g v))) (nI v) A B = _
      have fin : x_toldWithout_j43 (x_toldWithout_l4 m k) (nI (tw (s 2 2) (anyE s g v))) (nI v) A B (nI (g v)) = x_toldWithout_l4 m k (nI (tw (s 2 2) (anyE s g (v + 1)))) (nI (v + 1)) I1 J1 := by
        unfold x_toldWithout_j43
        rw [t2] at t1
        simp (disch := omega) only [pz_0, pz_1, pz_2, pz_3, pz_4, pz_5, pz_6, pz_7, pz_8, pz_9, pz_10, pz_11, pz_12, pz_13, pz_14, pz_15, pz_16, pz_20, pz_21, pz_22, pz_24, pz_25, pz_30, pz_31, pz_32, pz_35, pz_40, pz_41, pz_42, pz_43, pz_45, pz_47, pz_48, pz_52, pz_57, pz_58, pz_59, pz_60, pz_61, pz_62, pz_63, pz_65, pz_85, pz_90, pz_97, pz_98, pz_99, pz_100, pz_101, pz_102, pz_103, pz_104, pz_105, pz_107, pz_108, pz_109, pz_110, pz_111, pz_112, pz_114, pz_115, pz_116, pz_119, pz_120, pz_121, pz_122, pz_125, pz_127, pz_153, pz_200, pz_201, pz_202, pz_203, pz_204, pz_205, pz_206, pz_207, pz_208, pz_209, pz_210, pz_211, pz_212, pz_213, pz_214, pz_215, pz_216, pz_217, pz_218, pz_219, pz_220, pz_221, pz_222, pz_223, pz_224, pz_225, pz_255, pz_256, pz_271, pz_300, pz_301, pz_302, pz_303, pz_304, pz_400, pz_401, pz_521, pz_705, pz_1000, pz_1508, pz_1661, pz_1691, pz_2400, pz_3125, pz_9999, pz_10000, pz_30703, pz_65536, pz_99999, pz_1000000, pz_lt, pz_ck, pz_u2, pz_u3, pz_u4, pz_bs, pz_ix, pz_inb, pz_add, pz_mul, pz_sub, nI_leI, nI_ltI, nI_eq, pz_bIt, pz_bIf, pz_isb, pz_isb0, pz_isb1, pz_bI0, pz_bI1, Nat.zero_le, true_and, and_true, decide_true, decide_false, Bool.true_eq_false, Bool.false_eq_true, if_true, if_false, Nat.reduceAdd, Nat.reduceMul, Nat.reduceSub, Nat.reduceEqDiff, Nat.reduceLeDiff, Nat.reduceLT, Nat.one_ne_zero, Nat.zero_ne_one, t1, pz_or, tw_or]
        rfl
      unfold x_toldWithout_b4
      rcases hm with ⟨rfl, q⟩ | ⟨f, q0, rfl, q⟩
      · rw [q v hv] at fin
        simp (disch := omega) only [pz_0, pz_1, pz_2, pz_3, pz_4, pz_5, pz_6, pz_7, pz_8, pz_9, pz_10, pz_11, pz_12, pz_13, pz_14, pz_15, pz_16, pz_20, pz_21, pz_22, pz_24, pz_25, pz_30, pz_31, pz_32, pz_35, pz_40, pz_41, pz_42, pz_43, pz_45, pz_47, pz_48, pz_52, pz_57, pz_58, pz_59, pz_60, pz_61, pz_62, pz_63, pz_65, pz_85, pz_90, pz_97, pz_98, pz_99, pz_100, pz_101, pz_102, pz_103, pz_104, pz_105, pz_107, pz_108, pz_109, pz_110, pz_111, pz_112, pz_114, pz_115, pz_116, pz_119, pz_120, pz_121, pz_122, pz_125, pz_127, pz_153, pz_200, pz_201, pz_202, pz_203, pz_204, pz_205, pz_206, pz_207, pz_208, pz_209, pz_210, pz_211, pz_212, pz_213, pz_214, pz_215, pz_216, pz_217, pz_218, pz_219, pz_220, pz_221, pz_222, pz_223, pz_224, pz_225, pz_255, pz_256, pz_271, pz_300, pz_301, pz_302, pz_303, pz_304, pz_400, pz_401, pz_521, pz_705, pz_1000, pz_1508, pz_1661, pz_1691, pz_2400, pz_3125, pz_9999, pz_10000, pz_30703, pz_65536, pz_99999, pz_1000000, pz_lt, pz_ck, pz_u2, pz_u3, pz_u4, pz_bs, pz_ix, pz_inb, pz_add, pz_mul, pz_sub, nI_leI, nI_ltI, nI_eq, pz_bIt, pz_bIf, pz_isb, pz_isb0, pz_isb1, pz_bI0, pz_bI1, Nat.zero_le, true_and, and_true, decide_true, decide_false, Bool.true_eq_false, Bool.false_eq_true, if_true, if_false, Nat.reduceAdd, Nat.reduceMul, Nat.reduceSub, Nat.reduceEqDiff, Nat.reduceLeDiff, Nat.reduceLT, Nat.one_ne_zero, Nat.zero_ne_one, e, Nat.not_le.mpr hv, g1, fin]
      · rw [q v hv] at fin
        have n1 := pz_ne1 (n := f) (by omega)
        have hc := pz_clr _ hf f q0
        simp (disch := omega) only [pz_0, pz_1, pz_2, pz_3, pz_4, pz_5, pz_6, pz_7, pz_8, pz_9, pz_10, pz_11, pz_12, pz_13, pz_14, pz_15, pz_16, pz_20, pz_21, pz_22, pz_24, pz_25, pz_30, pz_31, pz_32, pz_35, pz_40, pz_41, pz_42, pz_43, pz_45, pz_47, pz_48, pz_52, pz_57, pz_58, pz_59, pz_60, pz_61, pz_62, pz_63, pz_65, pz_85, pz_90, pz_97, pz_98, pz_99, pz_100, pz_101, pz_102, pz_103, pz_104, pz_105, pz_107, pz_108, pz_109, pz_110, pz_111, pz_112, pz_114, pz_115, pz_116, pz_119, pz_120, pz_121, pz_122, pz_125, pz_127, pz_153, pz_200, pz_201, pz_202, pz_203, pz_204, pz_205, pz_206, pz_207, pz_208, pz_209, pz_210, pz_211, pz_212, pz_213, pz_214, pz_215, pz_216, pz_217, pz_218, pz_219, pz_220, pz_221, pz_222, pz_223, pz_224, pz_225, pz_255, pz_256, pz_271, pz_300, pz_301, pz_302, pz_303, pz_304, pz_400, pz_401, pz_521, pz_705, pz_1000, pz_1508, pz_1661, pz_1691, pz_2400, pz_3125, pz_9999, pz_10000, pz_30703, pz_65536, pz_99999, pz_1000000, pz_lt, pz_ck, pz_u2, pz_u3, pz_u4, pz_bs, pz_ix, pz_inb, pz_add, pz_mul, pz_sub, nI_leI, nI_ltI, nI_eq, pz_bIt, pz_bIf, pz_isb, pz_isb0, pz_isb1, pz_bI0, pz_bI1, Nat.zero_le, true_and, and_true, decide_true, decide_false, Bool.true_eq_false, Bool.false_eq_true, if_true, if_false, Nat.reduceAdd, Nat.reduceMul, Nat.reduceSub, Nat.reduceEqDiff, Nat.reduceLeDiff, Nat.reduceLT, Nat.one_ne_zero, Nat.zero_ne_one, e, Nat.not_le.mpr hv, g1, n1, hc, fin]) (s 2 1) fu 0 (I, J) (by omega) (fu_gt (by omega)) FxS.rf
  refine ⟨A, B, ?_, h1⟩
  unfold x_toldWithout
  have h2 : x_toldWithout_l4 m fu (nI 0) (nI 0) I J = _ := h2
  simp (disch := omega) only [pz_0, h2, pz_bs, pz_u3]
theorem pm_isTold (h : CC s si I T X tN I' J') {m : Int32} {g : Nat → Nat} (hm : ∀ p, p < s 2 1 → nI (s 3 (8 + p)) &&& (m ^^^ -nI 1) = nI (g p) ∧ g p < 256) : ∃ I1, m_isTold I' J' m = some (bI (anyE s g (s 2 1)), I1) ∧ CC s si I T X tN I1 J' := by
  have hV := h.1.1
  have hX := h.1.2.2.1
  have hM := h.1.2.2.2.2.1
  obtain ⟨⟨v0, v1, v2, v3, v4, v5, v6, v7⟩, vr, vf, vs, va, ve, vt⟩ := id hV
  obtain ⟨⟨m0, m1, m2, m3, m4, m5, m6, m7, m8, m9, m10⟩, mp, mf, ms, ma, me, mb, mt⟩ := id hM
  have hx := hX.1
  have key := pz_loopE (fun k v (A : PI) => m_isTold_l2 J' m k (nI v) A) (s 2 1) (fun v A => anyE s g v = false ∧ CC s si I T X tN A J') (fun o => (∃ A, o = some (.inr A) ∧ anyE s g (s 2 1) = false ∧ CC s si I T X tN A J') ∨ ∃ A, o = some (.inl (nI 1, A)) ∧ anyE s g (s 2 1) = true ∧ CC s si I T X tN A J') (fun k A hP => Or.inl ⟨A, by
      have em := hP.2.1.2.2.2.2.1.1.2.1
      show m_isTold_b2 J' m (m_isTold_l2 J' m k) (nI (s 2 1)) A = _
      unfold m_isTold_b2
      simp (disch := omega) only [pz_0, pz_1, pz_2, pz_3, pz_4, pz_5, pz_6, pz_7, pz_8, pz_9, pz_10, pz_11, pz_12, pz_13, pz_14, pz_15, pz_16, pz_20, pz_21, pz_22, pz_24, pz_25, pz_30, pz_31, pz_32, pz_35, pz_40, pz_41, pz_42, pz_43, pz_45, pz_47, pz_48, pz_52, pz_57, pz_58, pz_59, pz_60, pz_61, pz_62, pz_63, pz_65, pz_85, pz_90, pz_97, pz_98, pz_99, pz_100, pz_101, pz_102, pz_103, pz_104, pz_105, pz_107, pz_108, pz_109, pz_110, pz_111, pz_112, pz_114, pz_115, pz_116, pz_119, pz_120, pz_121, pz_122, pz_125, pz_127, pz_153, pz_200, pz_201, pz_202, pz_203, pz_204, pz_205, pz_206, pz_207, pz_208, pz_209, pz_210, pz_211, pz_212, pz_213, pz_214, pz_215, pz_216, pz_217, pz_218, pz_219, pz_220, pz_221, pz_222, pz_223, pz_224, pz_225, pz_255, pz_256, pz_271, pz_300, pz_301, pz_302, pz_303, pz_304, pz_400, pz_401, pz_521, pz_705, pz_1000, pz_1508, pz_1661, pz_1691, pz_2400, pz_3125, pz_9999, pz_10000, pz_30703, pz_65536, pz_99999, pz_1000000, pz_lt, pz_ck, pz_u2, pz_u3, pz_u4, pz_bs, pz_ix, pz_inb, pz_add, pz_mul, pz_sub, nI_leI, nI_ltI, nI_eq, pz_bIt, pz_bIf, pz_isb, pz_isb0, pz_isb1, pz_bI0, pz_bI1, Nat.zero_le, true_and, and_true, decide_true, decide_false, Bool.true_eq_false, Bool.false_eq_true, if_true, if_false, Nat.reduceAdd, Nat.reduceMul, Nat.reduceSub, Nat.reduceEqDiff, Nat.reduceLeDiff, Nat.reduceLT, Nat.one_ne_zero, Nat.zero_ne_one, em, Nat.le_refl], hP⟩) (fun k v A hv hP => by
      obtain ⟨hP1, hC⟩ := hP
      have hM' := hC.1.2.2.2.2.1
      have em := hM'.1.2.1
      have g1' := pm_get A (p := v) (w := 1) (by omega) (by omega)
      rw [(hM'.2.1 v hv).2.1] at g1'
      obtain ⟨m1, m2⟩ := hm v hv
      obtain ⟨I1, e1, d⟩ := pm_isEnough hC m2
      have st : m_isTold_b2 J' m (m_isTold_l2 J' m k) (nI v) A = if en s (g v) = false then m_isTold_l2 J' m k (nI (v + 1)) I1 else some (.inl (nI 1, I1)) := by
        unfold m_isTold_b2
        simp (disch := omega) only [pz_0, pz_1, pz_2, pz_3, pz_4, pz_5, pz_6, pz_7, pz_8, pz_9, pz_10, pz_11, pz_12, pz_13, pz_14, pz_15, pz_16, pz_20, pz_21, pz_22, pz_24, pz_25, pz_30, pz_31, pz_32, pz_35, pz_40, pz_41, pz_42, pz_43, pz_45, pz_47, pz_48, pz_52, pz_57, pz_58, pz_59, pz_60, pz_61, pz_62, pz_63, pz_65, pz_85, pz_90, pz_97, pz_98, pz_99, pz_100, pz_101, pz_102, pz_103, pz_104, pz_105, pz_107, pz_108, pz_109, pz_110, pz_111, pz_112, pz_114, pz_115, pz_116, pz_119, pz_120, pz_121, pz_122, pz_125, pz_127, pz_153, pz_200, pz_201, pz_202, pz_203, pz_204, pz_205, pz_206, pz_207, pz_208, pz_209, pz_210, pz_211, pz_212, pz_213, pz_214, pz_215, pz_216, pz_217, pz_218, pz_219, pz_220, pz_221, pz_222, pz_223, pz_224, pz_225, pz_255, pz_256, pz_271, pz_300, pz_301, pz_302, pz_303, pz_304, pz_400, pz_401, pz_521, pz_705, pz_1000, pz_1508, pz_1661, pz_1691, pz_2400, pz_3125, pz_9999, pz_10000, pz_30703, pz_65536, pz_99999, pz_1000000, pz_lt, pz_ck, pz_u2, pz_u3, pz_u4, pz_bs, pz_ix, pz_inb, pz_add, pz_mul, pz_sub, nI_leI, nI_ltI, nI_eq, pz_bIt, pz_bIf, pz_isb, pz_isb0, pz_isb1, pz_bI0, pz_bI1, Nat.zero_le, true_and, and_true, decide_true, decide_false, Bool.true_eq_false, Bool.false_eq_true, if_true, if_false, Nat.reduceAdd, Nat.reduceMul, Nat.reduceSub, Nat.reduceEqDiff, Nat.reduceLeDiff, Nat.reduceLT, Nat.one_ne_zero, Nat.zero_ne_one, em, Nat.not_le.mpr hv, g1', m1, e1]
      cases c : en s (g v) with
      | false =>
        exact Or.inr ⟨I1, st.trans (if_pos c), by show (anyE s g v || en s (g v)) = false; rw [hP1, c]; rfl, hC.cs d⟩
      | true =>
        exact Or.inl (Or.inr ⟨I1, st.trans (if_neg (by rw [c]; decide)), anyE_stop hv c, hC.cs d⟩)) (s 2 1) fu 0 I' (by omega) (fu_gt (by omega)) ⟨rfl, h⟩
  unfold m_isTold
  rcases key with ⟨A, e, q, hC⟩ | ⟨A, e, q, hC⟩
  · have e : m_isTold_l2 J' m fu (nI 0) I' = some (.inr A) := e
    refine ⟨A, ?_, hC⟩
    simp (disch := omega) only [pz_0, e, pz_lbr, q, pz_bIf]
  · have e : m_isTold_l2 J' m fu (nI 0) I' = some (.inl (nI 1, A)) := e
    refine ⟨A, ?_, hC⟩
    simp (disch := omega) only [pz_0, e, pz_lbl, q, pz_bIt]
theorem and_m1 (a : Int32) : a &&& (nI 0 ^^^ -nI 1) = a := by
  have : nI 0 ^^^ -nI 1 = -1 := by decide
  rw [this]
  exact Int32.and_neg_one
theorem pu_keep (h : CC s si I T X tN I' J') (J : PJ) : ∃ (r : Int32) (I1 : PI) (J1 : PJ) (I1' : PI), x_keep I J = some (r, I1, J1) ∧ m_keep I' J' = some (r, I1') ∧ CC s si I1 T X tN I1' J' := by
  have hV := h.1.1
  have hX := h.1.2.2.1
  have hM := h.1.2.2.2.2.1
  obtain ⟨⟨v0, v1, v2, v3, v4, v5, v6, v7⟩, vr, vf, vs, va, ve, vt⟩ := id hV
  obtain ⟨⟨m0, m1, m2, m3, m4, m5, m6, m7, m8, m9, m10⟩, mp, mf, ms, ma, me, mb, mt⟩ := id hM
  have hx := hX.1
  have f256 : ∀ p, p < s 2 1 → s 3 (8 + p) < 256 := fun p hp => lt256 hV (vr.2.2.2.1 p hp).2.1
  obtain ⟨I0, J0, t0, d0⟩ := px_toldWithout h J (m := -nI 1) (g := fun p => s 3 (8 + p)) (Or.inl ⟨rfl, fun _ _ => rfl⟩)
  generalize hA : anyE s (fun p => s 3 (8 + p)) (s 2 1) = b0 at t0
  have h0 := h.xs d0
  have key := pz_lock (fun k v (x : Int32 × PI × PJ) => x_keep_l10 (nI (tw (s 2 2) b0)) k x.1 (nI v) x.2.1 x.2.2) (fun k v (y : Int32 × PI) => m_keep_l4 J' k y.1 (nI v) y.2) (s 2 0) (fun v x y => x.1 = y.1 ∧ CC s si x.2.1 T X tN y.2 J') (fun o o' => ∃ r I1 J1 I1', o = some (r, I1, J1) ∧ o' = some (r, I1') ∧ CC s si I1 T X tN I1' J') (fun k k' x y hP => by
      obtain ⟨v, A, B⟩ := x
      obtain ⟨v', A'⟩ := y
      obtain ⟨e, hC⟩ := hP
      have e : v = v' := e
      subst e
      have hC : CC s si A T X tN A' J' := hC
      have ex := hC.1.2.2.1.1
      have em := hC.1.2.2.2.2.1.1.1
      refine ⟨v, A, B, A', ?_, ?_, hC⟩
      · show x_keep_b10 (nI (tw (s 2 2) b0)) (x_keep_l10 (nI (tw (s 2 2) b0)) k) v (nI (s 2 0)) A B = _
        unfold x_keep_b10
        simp (disch := omega) only [pz_0, pz_1, pz_2, pz_3, pz_4, pz_5, pz_6, pz_7, pz_8, pz_9, pz_10, pz_11, pz_12, pz_13, pz_14, pz_15, pz_16, pz_20, pz_21, pz_22, pz_24, pz_25, pz_30, pz_31, pz_32, pz_35, pz_40, pz_41, pz_42, pz_43, pz_45, pz_47, pz_48, pz_52, pz_57, pz_58, pz_59, pz_60, pz_61, pz_62, pz_63, pz_65, pz_85, pz_90, pz_97, pz_98, pz_99, pz_100, pz_101, pz_102, pz_103, pz_104, pz_105, pz_107, pz_108, pz_109, pz_110, pz_111, pz_112, pz_114, pz_115, pz_116, pz_119, pz_120, pz_121, pz_122, pz_125, pz_127, pz_153, pz_200, pz_201, pz_202, pz_203, pz_204, pz_205, pz_206, pz_207, pz_208, pz_209, pz_210, pz_211, pz_212, pz_213, pz_214, pz_215, pz_216, pz_217, pz_218, pz_219, pz_220, pz_221, pz_222, pz_223, pz_224, pz_225, pz_255, pz_256, pz_271, pz_300, pz_301, pz_302, pz_303, pz_304, pz_400, pz_401, pz_521, pz_705, pz_1000, pz_1508, pz_1661, pz_1691, pz_2400, pz_3125, pz_9999, pz_10000, pz_30703, pz_65536, pz_99999, pz_1000000, pz_lt, pz_ck, pz_u2, pz_u3, pz_u4, pz_bs, pz_ix, pz_inb, pz_add, pz_mul, pz_sub, nI_leI, nI_ltI, nI_eq, pz_bIt, pz_bIf, pz_isb, pz_isb0, pz_isb1, pz_bI0, pz_bI1, Nat.zero_le, true_and, and_true, decide_true, decide_false, Bool.true_eq_false, Bool.false_eq_true, if_true, if_false, Nat.reduceAdd, Nat.reduceMul, Nat.reduceSub, Nat.reduceEqDiff, Nat.reduceLeDiff, Nat.reduceLT, Nat.one_ne_zero, Nat.zero_ne_one, ex, Nat.le_refl]
      · show m_keep_b4 J' (m_keep_l4 J' k') v (nI (s 2 0)) A' = _
        unfold m_keep_b4
        simp (disch := omega) only [pz_0, pz_1, pz_2, pz_3, pz_4, pz_5, pz_6, pz_7, pz_8, pz_9, pz_10, pz_11, pz_12, pz_13, pz_14, pz_15, pz_16, pz_20, pz_21, pz_22, pz_24, pz_25, pz_30, pz_31, pz_32, pz_35, pz_40, pz_41, pz_42, pz_43, pz_45, pz_47, pz_48, pz_52, pz_57, pz_58, pz_59, pz_60, pz_61, pz_62, pz_63, pz_65, pz_85, pz_90, pz_97, pz_98, pz_99, pz_100, pz_101, pz_102, pz_103, pz_104, pz_105, pz_107, pz_108, pz_109, pz_110, pz_111, pz_112, pz_114, pz_115, pz_116, pz_119, pz_120, pz_121, pz_122, pz_125, pz_127, pz_153, pz_200, pz_201, pz_202, pz_203, pz_204, pz_205, pz_206, pz_207, pz_208, pz_209, pz_210, pz_211, pz_212, pz_213, pz_214, pz_215, pz_216, pz_217, pz_218, pz_219, pz_220, pz_221, pz_222, pz_223, pz_224, pz_225, pz_255, pz_256, pz_271, pz_300, pz_301, pz_302, pz_303, pz_304, pz_400, pz_401, pz_521, pz_705, pz_1000, pz_1508, pz_1661, pz_1691, pz_2400, pz_3125, pz_9999, pz_10000, pz_30703, pz_65536, pz_99999, pz_1000000, pz_lt, pz_ck, pz_u2, pz_u3, pz_u4, pz_bs, pz_ix, pz_inb, pz_add, pz_mul, pz_sub, nI_leI, nI_ltI, nI_eq, pz_bIt, pz_bIf, pz_isb, pz_isb0, pz_isb1, pz_bI0, pz_bI1, Nat.zero_le, true_and, and_true, decide_true, decide_false, Bool.true_eq_false, Bool.false_eq_true, if_true, if_false, Nat.reduceAdd, Nat.reduceMul, Nat.reduceSub, Nat.reduceEqDiff, Nat.reduceLeDiff, Nat.reduceLT, Nat.one_ne_zero, Nat.zero_ne_one, em, Nat.le_refl]) (fun k k' v x y hv hP => by
      obtain ⟨w, A, B⟩ := x
      obtain ⟨w', A'⟩ := y
      obtain ⟨e, hC⟩ := hP
      have e : w = w' := e
      subst e
      have hC : CC s si A T X tN A' J' := hC
      have ex := hC.1.2.2.1.1
      have hM' := hC.1.2.2.2.2.1
      have em := hM'.1.1
      have em2 := hM'.1.2.2.1
      obtain ⟨I1, J1, t1, d⟩ := px_toldWithout hC B (m := nI v) (g := fun p => clr (s 3 (8 + p)) v) (Or.inr ⟨v, by omega, rfl, fun _ _ => rfl⟩)
      have hs := pz_shl v (by omega)
      have hbv : ∀ b, tw (s 2 2) b < 256 := fun b => by
        have hp2 := pow8 (s 2 2) (by omega)
        unfold tw
        split <;> omega
      have hb0 := hbv b0
      have hb1 := hbv (anyE s (fun p => clr (s 3 (8 + p)) v) (s 2 1))
      have stx : x_keep_b10 (nI (tw (s 2 2) b0)) (x_keep_l10 (nI (tw (s 2 2) b0)) k) w (nI v) A B = x_keep_l10 (nI (tw (s 2 2) b0)) k (w ||| (if tw (s 2 2) (anyE s (fun p => clr (s 3 (8 + p)) v) (s 2 1)) = tw (s 2 2) b0 then nI 0 else nI (2 ^ v))) (nI (v + 1)) I1 J1 := by
        unfold x_keep_b10 x_keep_j40
        simp (disch := omega) only [pz_0, pz_1, pz_2, pz_3, pz_4, pz_5, pz_6, pz_7, pz_8, pz_9, pz_10, pz_11, pz_12, pz_13, pz_14, pz_15, pz_16, pz_20, pz_21, pz_22, pz_24, pz_25, pz_30, pz_31, pz_32, pz_35, pz_40, pz_41, pz_42, pz_43, pz_45, pz_47, pz_48, pz_52, pz_57, pz_58, pz_59, pz_60, pz_61, pz_62, pz_63, pz_65, pz_85, pz_90, pz_97, pz_98, pz_99, pz_100, pz_101, pz_102, pz_103, pz_104, pz_105, pz_107, pz_108, pz_109, pz_110, pz_111, pz_112, pz_114, pz_115, pz_116, pz_119, pz_120, pz_121, pz_122, pz_125, pz_127, pz_153, pz_200, pz_201, pz_202, pz_203, pz_204, pz_205, pz_206, pz_207, pz_208, pz_209, pz_210, pz_211, pz_212, pz_213, pz_214, pz_215, pz_216, pz_217, pz_218, pz_219, pz_220, pz_221, pz_222, pz_223, pz_224, pz_225, pz_255, pz_256, pz_271, pz_300, pz_301, pz_302, pz_303, pz_304, pz_400, pz_401, pz_521, pz_705, pz_1000, pz_1508, pz_1661, pz_1691, pz_2400, pz_3125, pz_9999, pz_10000, pz_30703, pz_65536, pz_99999, pz_1000000, pz_lt, pz_ck, pz_u2, pz_u3, pz_u4, pz_bs, pz_ix, pz_inb, pz_add, pz_mul, pz_sub, nI_leI, nI_ltI, nI_eq, pz_bIt, pz_bIf, pz_isb, pz_isb0, pz_isb1, pz_bI0, pz_bI1, Nat.zero_le, true_and, and_true, decide_true, decide_false, Bool.true_eq_false, Bool.false_eq_true, if_true, if_false, Nat.reduceAdd, Nat.reduceMul, Nat.reduceSub, Nat.reduceEqDiff, Nat.reduceLeDiff, Nat.reduceLT, Nat.one_ne_zero, Nat.zero_ne_one, ex, Nat.not_le.mpr hv, t1, hs]
        by_cases c : tw (s 2 2) (anyE s (fun p => clr (s 3 (8 + p)) v) (s 2 1)) = tw (s 2 2) b0
        · rw [if_pos c, if_pos c]
        · rw [if_neg c, if_neg c]
      -- what the reference does, by cases
      obtain ⟨-, kn'⟩ := pe_knownBy hV hC.1.2.2.1 hM' (f := v) (by omega)
      have mono : anyE s (fun p => clr (s 3 (8 + p)) v) (s 2 1) = true → b0 = true := fun q => by
        rw [← hA]
        obtain ⟨p, p1, p2⟩ := anyE_iff.mp q
        exact anyE_iff.mpr ⟨p, p1, en_mono hV (fun g hg => clr_bit _ (f256 p p1) v (by omega) g hg) p2⟩
      have done : ∀ (A1' : PI) (bit : Bool), CC s si I1 T X tN A1' J' → (bit = false ↔ tw (s 2 2) (anyE s (fun p => clr (s 3 (8 + p)) v) (s 2 1)) = tw (s 2 2) b0) → m_keep_b4 J' (m_keep_l4 J' k') w (nI v) A' = m_keep_l4 J' k' (w ||| (if bit = false then nI 0 else nI (2 ^ v))) (nI (v + 1)) A1' → ∃ (s' : Int32 × PI × PJ) (t' : Int32 × PI), x_keep_b10 (nI (tw (s 2 2) b0)) (x_keep_l10 (nI (tw (s 2 2) b0)) k) w (nI v) A B = x_keep_l10 (nI (tw (s 2 2) b0)) k s'.1 (nI (v + 1)) s'.2.1 s'.2.2 ∧ m_keep_b4 J' (m_keep_l4 J' k') w (nI v) A' = m_keep_l4 J' k' t'.1 (nI (v + 1)) t'.2 ∧ s'.1 = t'.1 ∧ CC s si s'.2.1 T X tN t'.2 J' := fun A1' bit q1 q2 q3 => ⟨(w ||| (if bit = false then nI 0 else nI (2 ^ v)), I1, J1), (w ||| (if bit = false then nI 0 else nI (2 ^ v)), A1'), by
          rw [stx]
          simp only [q2], q3, rfl, q1⟩
      have hC1 := hC.xs d
      by_cases z : s 2 2 = 0
      · refine done A' false hC1 ⟨fun _ => ?_, fun _ => rfl⟩ ?_
        · rw [z]
          unfold tw
          split <;> split <;> rfl
        · unfold m_keep_b4 m_keep_j56 m_keep_j57
          rw [z] at em2
          simp (disch := omega) only [pz_0, pz_1, pz_2, pz_3, pz_4, pz_5, pz_6, pz_7, pz_8, pz_9, pz_10, pz_11, pz_12, pz_13, pz_14, pz_15, pz_16, pz_20, pz_21, pz_22, pz_24, pz_25, pz_30, pz_31, pz_32, pz_35, pz_40, pz_41, pz_42, pz_43, pz_45, pz_47, pz_48, pz_52, pz_57, pz_58, pz_59, pz_60, pz_61, pz_62, pz_63, pz_65, pz_85, pz_90, pz_97, pz_98, pz_99, pz_100, pz_101, pz_102, pz_103, pz_104, pz_105, pz_107, pz_108, pz_109, pz_110, pz_111, pz_112, pz_114, pz_115, pz_116, pz_119, pz_120, pz_121, pz_122, pz_125, pz_127, pz_153, pz_200, pz_201, pz_202, pz_203, pz_204, pz_205, pz_206, pz_207, pz_208, pz_209, pz_210, pz_211, pz_212, pz_213, pz_214, pz_215, pz_216, pz_217, pz_218, pz_219, pz_220, pz_221, pz_222, pz_223, pz_224, pz_225, pz_255, pz_256, pz_271, pz_300, pz_301, pz_302, pz_303, pz_304, pz_400, pz_401, pz_521, pz_705, pz_1000, pz_1508, pz_1661, pz_1691, pz_2400, pz_3125, pz_9999, pz_10000, pz_30703, pz_65536, pz_99999, pz_1000000, pz_lt, pz_ck, pz_u2, pz_u3, pz_u4, pz_bs, pz_ix, pz_inb, pz_add, pz_mul, pz_sub, nI_leI, nI_ltI, nI_eq, pz_bIt, pz_bIf, pz_isb, pz_isb0, pz_isb1, pz_bI0, pz_bI1, Nat.zero_le, true_and, and_true, decide_true, decide_false, Bool.true_eq_false, Bool.false_eq_true, if_true, if_false, Nat.reduceAdd, Nat.reduceMul, Nat.reduceSub, Nat.reduceEqDiff, Nat.reduceLeDiff, Nat.reduceLT, Nat.one_ne_zero, Nat.zero_ne_one, em, em2, Nat.not_le.mpr hv, Nat.le_refl]
      · have z2 : ¬ s 2 2 ≤ 0 := by omega
        have hp3 : 2 ≤ 2 ^ s 2 2 := Nat.pow_le_pow_right (n := 2) (by decide) (show 1 ≤ s 2 2 by omega)
        have twi : ∀ a b, tw (s 2 2) a = tw (s 2 2) b ↔ a = b := fun a b => by
          refine ⟨fun q => ?_, fun q => by rw [q]⟩
          cases a <;> cases b
          · rfl
          · exfalso
            have q : 0 = 2 ^ s 2 2 - 1 := q
            omega
          · exfalso
            have q : 2 ^ s 2 2 - 1 = 0 := q
            omega
          · rfl
        have kl := kb_lt (s 3) v (s 2 1)
        have kl2 := pow64 (s 2 1) (by omega)
        by_cases kz : kb (s 3) v (s 2 1) = 0
        · refine done A' false hC1 ⟨fun _ => ?_, fun _ => rfl⟩ ?_
          · rw [twi, ← hA]
            refine Bool.eq_iff_iff.mpr ?_
            rw [anyE_iff, anyE_iff]
            have e : ∀ p, p < s 2 1 → clr (s 3 (8 + p)) v = s 3 (8 + p) := fun p hp => clr_no _ (f256 p hp) v (by omega) (kb_0 kz p hp)
            exact ⟨fun ⟨p, p1, p2⟩ => ⟨p, p1, by rw [← e p p1]; exact p2⟩, fun ⟨p, p1, p2⟩ => ⟨p, p1, by show en s (clr (s 3 (8 + p)) v) = true; rw [e p p1]; exact p2⟩⟩
          · unfold m_keep_b4 m_keep_j56 m_keep_j57
            rw [kz] at kn'
            simp (disch := omega) only [pz_0, pz_1, pz_2, pz_3, pz_4, pz_5, pz_6, pz_7, pz_8, pz_9, pz_10, pz_11, pz_12, pz_13, pz_14, pz_15, pz_16, pz_20, pz_21, pz_22, pz_24, pz_25, pz_30, pz_31, pz_32, pz_35, pz_40, pz_41, pz_42, pz_43, pz_45, pz_47, pz_48, pz_52, pz_57, pz_58, pz_59, pz_60, pz_61, pz_62, pz_63, pz_65, pz_85, pz_90, pz_97, pz_98, pz_99, pz_100, pz_101, pz_102, pz_103, pz_104, pz_105, pz_107, pz_108, pz_109, pz_110, pz_111, pz_112, pz_114, pz_115, pz_116, pz_119, pz_120, pz_121, pz_122, pz_125, pz_127, pz_153, pz_200, pz_201, pz_202, pz_203, pz_204, pz_205, pz_206, pz_207, pz_208, pz_209, pz_210, pz_211, pz_212, pz_213, pz_214, pz_215, pz_216, pz_217, pz_218, pz_219, pz_220, pz_221, pz_222, pz_223, pz_224, pz_225, pz_255, pz_256, pz_271, pz_300, pz_301, pz_302, pz_303, pz_304, pz_400, pz_401, pz_521, pz_705, pz_1000, pz_1508, pz_1661, pz_1691, pz_2400, pz_3125, pz_9999, pz_10000, pz_30703, pz_65536, pz_99999, pz_1000000, pz_lt, pz_ck, pz_u2, pz_u3, pz_u4, pz_bs, pz_ix, pz_inb, pz_add, pz_mul, pz_sub, nI_leI, nI_ltI, nI_eq, pz_bIt, pz_bIf, pz_isb, pz_isb0, pz_isb1, pz_bI0, pz_bI1, Nat.zero_le, true_and, and_true, decide_true, decide_false, Bool.true_eq_false, Bool.false_eq_true, if_true, if_false, Nat.reduceAdd, Nat.reduceMul, Nat.reduceSub, Nat.reduceEqDiff, Nat.reduceLeDiff, Nat.reduceLT, Nat.one_ne_zero, Nat.zero_ne_one, em, em2, z2, kn', Nat.not_le.mpr hv]
        · obtain ⟨A1, u1, hC2⟩ := pm_isTold hC1 (m := nI 0) (g := fun p => s 3 (8 + p)) (fun p hp => ⟨and_m1 _, f256 p hp⟩)
          rw [hA] at u1
          rcases Bool.eq_false_or_eq_true b0 with hb | hb
          rotate_left
          · rw [hb] at u1
            refine done A1 false hC2 ⟨fun _ => ?_, fun _ => rfl⟩ ?_
            · rw [twi, hb]
              cases q : anyE s (fun p => clr (s 3 (8 + p)) v) (s 2 1) with
              | false => rfl
              | true =>
                have := mono q
                rw [hb] at this
                cases this
            · unfold m_keep_b4 m_keep_j56 m_keep_j57
              simp (disch := omega) only [pz_0, pz_1, pz_2, pz_3, pz_4, pz_5, pz_6, pz_7, pz_8, pz_9, pz_10, pz_11, pz_12, pz_13, pz_14, pz_15, pz_16, pz_20, pz_21, pz_22, pz_24, pz_25, pz_30, pz_31, pz_32, pz_35, pz_40, pz_41, pz_42, pz_43, pz_45, pz_47, pz_48, pz_52, pz_57, pz_58, pz_59, pz_60, pz_61, pz_62, pz_63, pz_65, pz_85, pz_90, pz_97, pz_98, pz_99, pz_100, pz_101, pz_102, pz_103, pz_104, pz_105, pz_107, pz_108, pz_109, pz_110, pz_111, pz_112, pz_114, pz_115, pz_116, pz_119, pz_120, pz_121, pz_122, pz_125, pz_127, pz_153, pz_200, pz_201, pz_202, pz_203, pz_204, pz_205, pz_206, pz_207, pz_208, pz_209, pz_210, pz_211, pz_212, pz_213, pz_214, pz_215, pz_216, pz_217, pz_218, pz_219, pz_220, pz_221, pz_222, pz_223, pz_224, pz_225, pz_255, pz_256, pz_271, pz_300, pz_301, pz_302, pz_303, pz_304, pz_400, pz_401, pz_521, pz_705, pz_1000, pz_1508, pz_1661, pz_1691, pz_2400, pz_3125, pz_9999, pz_10000, pz_30703, pz_65536, pz_99999, pz_1000000, pz_lt, pz_ck, pz_u2, pz_u3, pz_u4, pz_bs, pz_ix, pz_inb, pz_add, pz_mul, pz_sub, nI_leI, nI_ltI, nI_eq, pz_bIt, pz_bIf, pz_isb, pz_isb0, pz_isb1, pz_bI0, pz_bI1, Nat.zero_le, true_and, and_true, decide_true, decide_false, Bool.true_eq_false, Bool.false_eq_true, if_true, if_false, Nat.reduceAdd, Nat.reduceMul, Nat.reduceSub, Nat.reduceEqDiff, Nat.reduceLeDiff, Nat.reduceLT, Nat.one_ne_zero, Nat.zero_ne_one, em, em2, z2, kn', kz, u1, Nat.not_le.mpr hv]
          · rw [hb] at u1
            obtain ⟨A2, u2, hC3⟩ := pm_isTold hC2 (m := nI (2 ^ v)) (g := fun p => clr (s 3 (8 + p)) v) (fun p hp => ⟨by rw [← hs]; exact pz_clr _ (f256 p hp) v (by omega), clr_256 _ (f256 p hp) v (by omega)⟩)
            refine done A2 (!anyE s (fun p => clr (s 3 (8 + p)) v) (s 2 1)) hC3 ?_ ?_
            · rw [twi, hb]
              cases anyE s (fun p => clr (s 3 (8 + p)) v) (s 2 1) <;> decide
            · unfold m_keep_b4 m_keep_j56 m_keep_j57
              simp (disch := omega) only [pz_0, pz_1, pz_2, pz_3, pz_4, pz_5, pz_6, pz_7, pz_8, pz_9, pz_10, pz_11, pz_12, pz_13, pz_14, pz_15, pz_16, pz_20, pz_21, pz_22, pz_24, pz_25, pz_30, pz_31, pz_32, pz_35, pz_40, pz_41, pz_42, pz_43, pz_45, pz_47, pz_48, pz_52, pz_57, pz_58, pz_59, pz_60, pz_61, pz_62, pz_63, pz_65, pz_85, pz_90, pz_97, pz_98, pz_99, pz_100, pz_101, pz_102, pz_103, pz_104, pz_105, pz_107, pz_108, pz_109, pz_110, pz_111, pz_112, pz_114, pz_115, pz_116, pz_119, pz_120, pz_121, pz_122, pz_125, pz_127, pz_153, pz_200, pz_201, pz_202, pz_203, pz_204, pz_205, pz_206, pz_207, pz_208, pz_209, pz_210, pz_211, pz_212, pz_213, pz_214, pz_215, pz_216, pz_217, pz_218, pz_219, pz_220, pz_221, pz_222, pz_223, pz_224, pz_225, pz_255, pz_256, pz_271, pz_300, pz_301, pz_302, pz_303, pz_304, pz_400, pz_401, pz_521, pz_705, pz_1000, pz_1508, pz_1661, pz_1691, pz_2400, pz_3125, pz_9999, pz_10000, pz_30703, pz_65536, pz_99999, pz_1000000, pz_lt, pz_ck, pz_u2, pz_u3, pz_u4, pz_bs, pz_ix, pz_inb, pz_add, pz_mul, pz_sub, nI_leI, nI_ltI, nI_eq, pz_bIt, pz_bIf, pz_isb, pz_isb0, pz_isb1, pz_bI0, pz_bI1, Nat.zero_le, true_and, and_true, decide_true, decide_false, Bool.true_eq_false, Bool.false_eq_true, if_true, if_false, Nat.reduceAdd, Nat.reduceMul, Nat.reduceSub, Nat.reduceEqDiff, Nat.reduceLeDiff, Nat.reduceLT, Nat.one_ne_zero, Nat.zero_ne_one, em, em2, z2, kn', kz, u1, hs, u2, Nat.not_le.mpr hv]
              cases anyE s (fun p => clr (s 3 (8 + p)) v) (s 2 1) <;> rfl) (s 2 0) fu fu 0 (nI 0, I0, J0) (nI 0, I') (by omega) (fu_gt (by omega)) (fu_gt (by omega)) ⟨rfl, h0⟩
  obtain ⟨r, I1, J1, I1', e1, e2, hC⟩ := key
  have e1 : x_keep_l10 (nI (tw (s 2 2) b0)) fu (nI 0) (nI 0) I0 J0 = some (r, I1, J1) := e1
  have e2 : m_keep_l4 J' fu (nI 0) (nI 0) I' = some (r, I1') := e2
  refine ⟨r, I1, J1, I1', ?_, ?_, hC⟩
  · unfold x_keep
    have t0 : x_toldWithout I J (-1) = some (nI (tw (s 2 2) b0), I0, J0) := t0
    rw [t0, pz_bs, pz_u3, pz_0, e1, pz_bs, pz_u3]
  · unfold m_keep
    simp (disch := omega) only [pz_0, e2, pz_bs, pz_u2]
end KEP
