/-! members one by one, 17: cover -/
/-- the lengths of some forms -/
def lgF (s : SN) (a : Nat) : Nat → Nat
  | 0 => 0
  | f + 1 => lgF s a f + (if a.testBit f then s 5 f else 0)
theorem lgF_le {s : SN} (hV : VSt s) (a : Nat) : ∀ n, n ≤ s 2 0 → lgF s a n ≤ 9 * n
  | 0, _ => Nat.le_refl _
  | n + 1, h => by
    have h1 := lgF_le hV a n (by omega)
    have h2 := (hV.2.2.1 n (by omega)).2.2
    show lgF s a n + (if a.testBit n then s 5 n else 0) ≤ _
    split <;> omega
theorem sg73 : ∀ a, a < 73 → ∀ b, b < 73 → (nI a - nI b = nI 0 ↔ a = b) ∧ (nI 0 ≤ nI a - nI b ↔ b ≤ a) := by decide +kernel
section COV
variable {s si : SN} {I : PI} {T : PT} {X : TS} {tN : XCo} {I' : PI} {J' : PJ}
theorem px_lengthOf (hV : VSt s) (hX : XR s I) {a : Nat} (ha : a < 256) : x_lengthOf I (nI a) = some (nI (lgF s a (s 2 0))) := by
  have hl := lgF_le hV a
  obtain ⟨⟨v0, v1, v2, v3, v4, v5, v6, v7⟩, vr, vf, vs, va, ve, vt⟩ := hV
  have hx := hX.1
  obtain ⟨c, h1, h2⟩ := pz_loop (fun k v (c : Nat) => x_lengthOf_l4 I (nI a) k (nI c) (nI v)) (s 2 0) (fun c => some (nI c)) (fun v c => c = lgF s a v) (fun k c _ => by
      show x_lengthOf_b4 I (nI a) (x_lengthOf_l4 I (nI a) k) (nI c) (nI (s 2 0)) = _
      unfold x_lengthOf_b4
      simp (disch := omega) only [pz_0, pz_1, pz_2, pz_3, pz_4, pz_5, pz_6, pz_7, pz_8, pz_9, pz_10, pz_11, pz_12, pz_13, pz_14, pz_15, pz_16, pz_20, pz_21, pz_22, pz_24, pz_25, pz_30, pz_31, pz_32, pz_35, pz_40, pz_41, pz_42, pz_43, pz_45, pz_47, pz_48, pz_52, pz_57, pz_58, pz_59, pz_60, pz_61, pz_62, pz_63, pz_65, pz_85, pz_90, pz_97, pz_98, pz_99, pz_100, pz_101, pz_102, pz_103, pz_104, pz_105, pz_107, pz_108, pz_109, pz_110, pz_111, pz_112, pz_114, pz_115, pz_116, pz_119, pz_120, pz_121, pz_122, pz_125, pz_127, pz_153, pz_200, pz_201, pz_202, pz_203, pz_204, pz_205, pz_206, pz_207, pz_208, pz_209, pz_210, pz_211, pz_212, pz_213, pz_214, pz_215, pz_216, pz_217, pz_218, pz_219, pz_220, pz_221, pz_222, pz_223, pz_224, pz_225, pz_255, pz_256, pz_271, pz_300, pz_301, pz_302, pz_303, pz_304, pz_400, pz_401, pz_521, pz_705, pz_1000, pz_1508, pz_1661, pz_1691, pz_2400, pz_3125, pz_9999, pz_10000, pz_30703, pz_65536, pz_99999, pz_1000000, pz_lt, pz_ck, pz_u2, pz_u3, pz_u4, pz_bs, pz_ix, pz_inb, pz_add, pz_mul, pz_sub, nI_leI, nI_ltI, nI_eq, pz_bIt, pz_bIf, pz_isb, pz_isb0, pz_isb1, pz_bI0, pz_bI1, Nat.zero_le, true_and, and_true, decide_true, decide_false, Bool.true_eq_false, Bool.false_eq_true, if_true, if_false, Nat.reduceAdd, Nat.reduceMul, Nat.reduceSub, Nat.reduceEqDiff, Nat.reduceLeDiff, Nat.reduceLT, Nat.one_ne_zero, Nat.zero_ne_one, hx, Nat.le_refl]) (fun k v c hv hP => by
      have hb := px_has a ha v (by omega)
      refine ⟨lgF s a (v + 1), ?_, rfl⟩
      show x_lengthOf_b4 I (nI a) (x_lengthOf_l4 I (nI a) k) (nI c) (nI v) = x_lengthOf_l4 I (nI a) k (nI (lgF s a v + (if a.testBit v then s 5 v else 0))) (nI (v + 1))
      subst hP
      unfold x_lengthOf_b4 x_lengthOf_j39
      simp (disch := omega) only [pz_0, pz_1, pz_2, pz_3, pz_4, pz_5, pz_6, pz_7, pz_8, pz_9, pz_10, pz_11, pz_12, pz_13, pz_14, pz_15, pz_16, pz_20, pz_21, pz_22, pz_24, pz_25, pz_30, pz_31, pz_32, pz_35, pz_40, pz_41, pz_42, pz_43, pz_45, pz_47, pz_48, pz_52, pz_57, pz_58, pz_59, pz_60, pz_61, pz_62, pz_63, pz_65, pz_85, pz_90, pz_97, pz_98, pz_99, pz_100, pz_101, pz_102, pz_103, pz_104, pz_105, pz_107, pz_108, pz_109, pz_110, pz_111, pz_112, pz_114, pz_115, pz_116, pz_119, pz_120, pz_121, pz_122, pz_125, pz_127, pz_153, pz_200, pz_201, pz_202, pz_203, pz_204, pz_205, pz_206, pz_207, pz_208, pz_209, pz_210, pz_211, pz_212, pz_213, pz_214, pz_215, pz_216, pz_217, pz_218, pz_219, pz_220, pz_221, pz_222, pz_223, pz_224, pz_225, pz_255, pz_256, pz_271, pz_300, pz_301, pz_302, pz_303, pz_304, pz_400, pz_401, pz_521, pz_705, pz_1000, pz_1508, pz_1661, pz_1691, pz_2400, pz_3125, pz_9999, pz_10000, pz_30703, pz_65536, pz_99999, pz_1000000, pz_lt, pz_ck, pz_u2, pz_u3, pz_u4, pz_bs, pz_ix, pz_inb, pz_add, pz_mul, pz_sub, nI_leI, nI_ltI, nI_eq, pz_bIt, pz_bIf, pz_isb, pz_isb0, pz_isb1, pz_bI0, pz_bI1, Nat.zero_le, true_and, and_true, decide_true, decide_false, Bool.true_eq_false, Bool.false_eq_true, if_true, if_false, Nat.reduceAdd, Nat.reduceMul, Nat.reduceSub, Nat.reduceEqDiff, Nat.reduceLeDiff, Nat.reduceLT, Nat.one_ne_zero, Nat.zero_ne_one, hx, Nat.not_le.mpr hv, hb]
      cases a.testBit v <;> rfl) (s 2 0) fu 0 0 (by omega) (fu_gt (by omega)) rfl
  unfold x_lengthOf
  have h2 : x_lengthOf_l4 I (nI a) fu 0 0 = some (nI c) := h2
  rw [h2, h1]
  rfl
theorem pm_lengthsOf (hV : VSt s) (hM : MR s (I' 1)) {a : Nat} (ha : a < 256) : m_lengthsOf I' (nI a) = some (nI (lgF s a (s 2 0))) := by
  have hl := lgF_le hV a
  obtain ⟨⟨v0, v1, v2, v3, v4, v5, v6, v7⟩, vr, vf, vs, va, ve, vt⟩ := hV
  obtain ⟨⟨m0, m1, m2, m3, m4, m5, m6, m7, m8, m9, m10⟩, mp, mf, ms, ma, me, mb, mt⟩ := hM
  obtain ⟨c, h1, h2⟩ := pz_loop (fun k v (c : Nat) => m_lengthsOf_l4 I' (nI a) k (nI c) (nI v)) (s 2 0) (fun c => some (nI c)) (fun v c => c = lgF s a v) (fun k c _ => by
      show m_lengthsOf_b4 I' (nI a) (m_lengthsOf_l4 I' (nI a) k) (nI c) (nI (s 2 0)) = _
      unfold m_lengthsOf_b4
      simp (disch := omega) only [pz_0, pz_1, pz_2, pz_3, pz_4, pz_5, pz_6, pz_7, pz_8, pz_9, pz_10, pz_11, pz_12, pz_13, pz_14, pz_15, pz_16, pz_20, pz_21, pz_22, pz_24, pz_25, pz_30, pz_31, pz_32, pz_35, pz_40, pz_41, pz_42, pz_43, pz_45, pz_47, pz_48, pz_52, pz_57, pz_58, pz_59, pz_60, pz_61, pz_62, pz_63, pz_65, pz_85, pz_90, pz_97, pz_98, pz_99, pz_100, pz_101, pz_102, pz_103, pz_104, pz_105, pz_107, pz_108, pz_109, pz_110, pz_111, pz_112, pz_114, pz_115, pz_116, pz_119, pz_120, pz_121, pz_122, pz_125, pz_127, pz_153, pz_200, pz_201, pz_202, pz_203, pz_204, pz_205, pz_206, pz_207, pz_208, pz_209, pz_210, pz_211, pz_212, pz_213, pz_214, pz_215, pz_216, pz_217, pz_218, pz_219, pz_220, pz_221, pz_222, pz_223, pz_224, pz_225, pz_255, pz_256, pz_271, pz_300, pz_301, pz_302, pz_303, pz_304, pz_400, pz_401, pz_521, pz_705, pz_1000, pz_1508, pz_1661, pz_1691, pz_2400, pz_3125, pz_9999, pz_10000, pz_30703, pz_65536, pz_99999, pz_1000000, pz_lt, pz_ck, pz_u2, pz_u3, pz_u4, pz_bs, pz_ix, pz_inb, pz_add, pz_mul, pz_sub, nI_leI, nI_ltI, nI_eq, pz_bIt, pz_bIf, pz_isb, pz_isb0, pz_isb1, pz_bI0, pz_bI1, Nat.zero_le, true_and, and_true, decide_true, decide_false, Bool.true_eq_false, Bool.false_eq_true, if_true, if_false, Nat.reduceAdd, Nat.reduceMul, Nat.reduceSub, Nat.reduceEqDiff, Nat.reduceLeDiff, Nat.reduceLT, Nat.one_ne_zero, Nat.zero_ne_one, m0, Nat.le_refl]) (fun k v c hv hP => by
      have hb := pm_has a ha v (by omega)
      have hln := pm_lengthOf I' (f := v) (by omega)
      rw [(mf v (by omega)).2] at hln
      refine ⟨lgF s a (v + 1), ?_, rfl⟩
      show m_lengthsOf_b4 I' (nI a) (m_lengthsOf_l4 I' (nI a) k) (nI c) (nI v) = m_lengthsOf_l4 I' (nI a) k (nI (lgF s a v + (if a.testBit v then s 5 v else 0))) (nI (v + 1))
      subst hP
      unfold m_lengthsOf_b4 m_lengthsOf_j32
      simp (disch := omega) only [pz_0, pz_1, pz_2, pz_3, pz_4, pz_5, pz_6, pz_7, pz_8, pz_9, pz_10, pz_11, pz_12, pz_13, pz_14, pz_15, pz_16, pz_20, pz_21, pz_22, pz_24, pz_25, pz_30, pz_31, pz_32, pz_35, pz_40, pz_41, pz_42, pz_43, pz_45, pz_47, pz_48, pz_52, pz_57, pz_58, pz_59, pz_60, pz_61, pz_62, pz_63, pz_65, pz_85, pz_90, pz_97, pz_98, pz_99, pz_100, pz_101, pz_102, pz_103, pz_104, pz_105, pz_107, pz_108, pz_109, pz_110, pz_111, pz_112, pz_114, pz_115, pz_116, pz_119, pz_120, pz_121, pz_122, pz_125, pz_127, pz_153, pz_200, pz_201, pz_202, pz_203, pz_204, pz_205, pz_206, pz_207, pz_208, pz_209, pz_210, pz_211, pz_212, pz_213, pz_214, pz_215, pz_216, pz_217, pz_218, pz_219, pz_220, pz_221, pz_222, pz_223, pz_224, pz_225, pz_255, pz_256, pz_271, pz_300, pz_301, pz_302, pz_303, pz_304, pz_400, pz_401, pz_521, pz_705, pz_1000, pz_1508, pz_1661, pz_1691, pz_2400, pz_3125, pz_9999, pz_10000, pz_30703, pz_65536, pz_99999, pz_1000000, pz_lt, pz_ck, pz_u2, pz_u3, pz_u4, pz_bs, pz_ix, pz_inb, pz_add, pz_mul, pz_sub, nI_leI, nI_ltI, nI_eq, pz_bIt, pz_bIf, pz_isb, pz_isb0, pz_isb1, pz_bI0, pz_bI1, Nat.zero_le, true_and, and_true, decide_true, decide_false, Bool.true_eq_false, Bool.false_eq_true, if_true, if_false, Nat.reduceAdd, Nat.reduceMul, Nat.reduceSub, Nat.reduceEqDiff, Nat.reduceLeDiff, Nat.reduceLT, Nat.one_ne_zero, Nat.zero_ne_one, m0, Nat.not_le.mpr hv, hb, hln]
      cases a.testBit v <;> rfl) (s 2 0) fu 0 0 (by omega) (fu_gt (by omega)) rfl
  unfold m_lengthsOf
  have h2 : m_lengthsOf_l4 I' (nI a) fu 0 0 = some (nI c) := h2
  rw [h2, h1]
  rfl
theorem px_toLearn (hV : VSt s) (hX : XR s I) {a : Nat} (ha : a < 256) : x_toLearn I (nI a) = some (nI (100 * pop a + lgF s a (s 2 0))) := by
  have h1 := px_lengthOf hV hX ha
  have h2 := px_bitCount a ha
  unfold x_toLearn
  simp (disch := omega) only [pz_0, pz_1, pz_2, pz_3, pz_4, pz_5, pz_6, pz_7, pz_8, pz_9, pz_10, pz_11, pz_12, pz_13, pz_14, pz_15, pz_16, pz_20, pz_21, pz_22, pz_24, pz_25, pz_30, pz_31, pz_32, pz_35, pz_40, pz_41, pz_42, pz_43, pz_45, pz_47, pz_48, pz_52, pz_57, pz_58, pz_59, pz_60, pz_61, pz_62, pz_63, pz_65, pz_85, pz_90, pz_97, pz_98, pz_99, pz_100, pz_101, pz_102, pz_103, pz_104, pz_105, pz_107, pz_108, pz_109, pz_110, pz_111, pz_112, pz_114, pz_115, pz_116, pz_119, pz_120, pz_121, pz_122, pz_125, pz_127, pz_153, pz_200, pz_201, pz_202, pz_203, pz_204, pz_205, pz_206, pz_207, pz_208, pz_209, pz_210, pz_211, pz_212, pz_213, pz_214, pz_215, pz_216, pz_217, pz_218, pz_219, pz_220, pz_221, pz_222, pz_223, pz_224, pz_225, pz_255, pz_256, pz_271, pz_300, pz_301, pz_302, pz_303, pz_304, pz_400, pz_401, pz_521, pz_705, pz_1000, pz_1508, pz_1661, pz_1691, pz_2400, pz_3125, pz_9999, pz_10000, pz_30703, pz_65536, pz_99999, pz_1000000, pz_lt, pz_ck, pz_u2, pz_u3, pz_u4, pz_bs, pz_ix, pz_inb, pz_add, pz_mul, pz_sub, nI_leI, nI_ltI, nI_eq, pz_bIt, pz_bIf, pz_isb, pz_isb0, pz_isb1, pz_bI0, pz_bI1, Nat.zero_le, true_and, and_true, decide_true, decide_false, Bool.true_eq_false, Bool.false_eq_true, if_true, if_false, Nat.reduceAdd, Nat.reduceMul, Nat.reduceSub, Nat.reduceEqDiff, Nat.reduceLeDiff, Nat.reduceLT, Nat.one_ne_zero, Nat.zero_ne_one, h1, h2]
/-- what is better -/
def btr (s : SN) (v b : Nat) : Bool := decide (100 * pop v + lgF s v (s 2 0) < 100 * pop b + lgF s b (s 2 0))
theorem m_j84 (hV : VSt s) (hM : MR s (I' 1)) {v b : Nat} (hv : v < 256) (hb : b < 256) (self : Int32 → Int32 → PI → Option (Int32 × PI)) : m_cover_j84 self (nI b) (nI v) I' (nI (pop v) - nI (pop b)) = if btr s v b = true then self (nI v) (nI (v + 1)) I' else self (nI b) (nI (v + 1)) I' := by
  have p1 := pop_le v hv
  have p2 := pop_le b hb
  have l1 := lgF_le hV v _ (Nat.le_refl _)
  have l2 := lgF_le hV b _ (Nat.le_refl _)
  have v0 := hV.1.1
  have q1 := pm_lengthsOf hV hM hv
  have q2 := pm_lengthsOf hV hM hb
  obtain ⟨g1, g2⟩ := sg73 (pop v) (by omega) (pop b) (by omega)
  obtain ⟨g3, g4⟩ := sg73 (lgF s v (s 2 0)) (by omega) (lgF s b (s 2 0)) (by omega)
  unfold m_cover_j84 m_cover_j104 m_cover_j111 btr
  rw [pz_0]
  by_cases c : pop v = pop b
  · rw [if_pos (g1.mpr c), q1, q2, pz_bs, pz_bs, pz_lt]
    by_cases y : lgF s b (s 2 0) ≤ lgF s v (s 2 0)
    · rw [if_pos (g4.mpr y), if_neg (by rw [decide_eq_true_eq]; omega)]
      simp (disch := omega) only [pz_lt, pz_1, pz_add]
    · rw [if_neg (fun z => y (g4.mp z)), if_pos (by rw [decide_eq_true_eq]; omega)]
      simp (disch := omega) only [pz_lt, pz_1, pz_add]
  · rw [if_neg (fun z => c (g1.mp z))]
    by_cases y : pop b ≤ pop v
    · rw [if_pos (g2.mpr y), if_neg (by rw [decide_eq_true_eq]; omega)]
      simp (disch := omega) only [pz_lt, pz_1, pz_add]
    · rw [if_neg (fun z => y (g2.mp z)), if_pos (by rw [decide_eq_true_eq]; omega)]
      simp (disch := omega) only [pz_lt, pz_1, pz_add]
/-- the class's look at one set of forms -/
theorem x_j60 (h : CC s si I T X tN I' J') (J : PJ) {p v : Nat} {b : Int32} (hp : p < s 2 1) (hv : v < 2 ^ s 2 0) (self : Int32 → Int32 → PI → PJ → Option (Int32 × PI × PJ)) : ∃ I1 J1, x_cover_j60 self (nI p) b (nI v) I J = (if en s (v ||| s 3 (8 + p)) = true ∨ s 2 2 = 0 then self (nI v) (nI (v + 1)) I1 J1 else self b (nI (v + 1)) I1 J1) ∧ FxS I I1 := by
  have hV := h.1.1
  have hX := h.1.2.2.1
  have hM := h.1.2.2.2.2.1
  obtain ⟨⟨v0, v1, v2, v3, v4, v5, v6, v7⟩, vr, vf, vs, va, ve, vt⟩ := id hV
  obtain ⟨⟨m0, m1, m2, m3, m4, m5, m6, m7, m8, m9, m10⟩, mp, mf, ms, ma, me, mb, mt⟩ := id hM
  have hx := hX.1
  have g1 := px_formsOf hX (p := p) (by omega)
  have ff := (vr.2.2.2.1 p hp).2.1
  have hf := lt256 hV (Nat.or_lt_two_pow hv ff)
  obtain ⟨I1, J1, t1, d⟩ := px_toldBy h J hf
  have e2 : I1 2 2 = nI (s 2 2) := by rw [d.1 2 (by decide) (by decide)]; exact hx 2 2 (by omega) (by omega)
  have hs := pz_shl (s 2 2) (by omega)
  have hp2 := pow8 (s 2 2) (by omega)
  have hp1 := Nat.two_pow_pos (s 2 2)
  have htb : tb s (s 2 2) (v ||| s 3 (8 + p)) < 256 := by unfold tb; split <;> omega
  refine ⟨I1, J1, ?_, d⟩
  unfold x_cover_j60 x_allStories x_cover_j80
  simp (disch := omega) only [pz_0, pz_1, pz_2, pz_3, pz_4, pz_5, pz_6, pz_7, pz_8, pz_9, pz_10, pz_11, pz_12, pz_13, pz_14, pz_15, pz_16, pz_20, pz_21, pz_22, pz_24, pz_25, pz_30, pz_31, pz_32, pz_35, pz_40, pz_41, pz_42, pz_43, pz_45, pz_47, pz_48, pz_52, pz_57, pz_58, pz_59, pz_60, pz_61, pz_62, pz_63, pz_65, pz_85, pz_90, pz_97, pz_98, pz_99, pz_100, pz_101, pz_102, pz_103, pz_104, pz_105, pz_107, pz_108, pz_109, pz_110, pz_111, pz_112, pz_114, pz_115, pz_116, pz_119, pz_120, pz_121, pz_122, pz_125, pz_127, pz_153, pz_200, pz_201, pz_202, pz_203, pz_204, pz_205, pz_206, pz_207, pz_208, pz_209, pz_210, pz_211, pz_212, pz_213, pz_214, pz_215, pz_216, pz_217, pz_218, pz_219, pz_220, pz_221, pz_222, pz_223, pz_224, pz_225, pz_255, pz_256, pz_271, pz_300, pz_301, pz_302, pz_303, pz_304, pz_400, pz_401, pz_521, pz_705, pz_1000, pz_1508, pz_1661, pz_1691, pz_2400, pz_3125, pz_9999, pz_10000, pz_30703, pz_65536, pz_99999, pz_1000000, pz_lt, pz_ck, pz_u2, pz_u3, pz_u4, pz_bs, pz_ix, pz_inb, pz_add, pz_mul, pz_sub, nI_leI, nI_ltI, nI_eq, pz_bIt, pz_bIf, pz_isb, pz_isb0, pz_isb1, pz_bI0, pz_bI1, Nat.zero_le, true_and, and_true, decide_true, decide_false, Bool.true_eq_false, Bool.false_eq_true, if_true, if_false, Nat.reduceAdd, Nat.reduceMul, Nat.reduceSub, Nat.reduceEqDiff, Nat.reduceLeDiff, Nat.reduceLT, Nat.one_ne_zero, Nat.zero_ne_one, g1, pz_or, t1, e2, hs]
  have e : (tb s (s 2 2) (v ||| s 3 (8 + p)) = 2 ^ s 2 2 - 1) ↔ (en s (v ||| s 3 (8 + p)) = true ∨ s 2 2 = 0) := by
    unfold tb
    by_cases z : s 2 2 = 0
    · rw [z]
      cases en s (v ||| s 3 (8 + p)) <;> simp
    · have hp3 : 2 ≤ 2 ^ s 2 2 := Nat.pow_le_pow_right (n := 2) (by decide) (show 1 ≤ s 2 2 by omega)
      cases en s (v ||| s 3 (8 + p)) with
      | false =>
        simp [z]
        omega
      | true => simp
  by_cases c : en s (v ||| s 3 (8 + p)) = true ∨ s 2 2 = 0
  · rw [if_pos c, if_pos (e.mpr c)]
  · rw [if_neg c, if_neg (fun q => c (e.mp q))]
/-- no stories: nothing is lacking -/
theorem px_cover0 (h : CC s si I T X tN I' J') (J : PJ) {p : Nat} (hp : p < s 2 1) (z : s 2 2 = 0) : ∃ I1 J1, x_cover_l14 (nI p) fu (-nI 1) (nI 0) I J = some (nI 0, I1, J1) ∧ FxS I I1 := by
  have hV := h.1.1
  have hX := h.1.2.2.1
  have hM := h.1.2.2.2.2.1
  obtain ⟨⟨v0, v1, v2, v3, v4, v5, v6, v7⟩, vr, vf, vs, va, ve, vt⟩ := id hV
  obtain ⟨⟨m0, m1, m2, m3, m4, m5, m6, m7, m8, m9, m10⟩, mp, mf, ms, ma, me, mb, mt⟩ := id hM
  have hx := hX.1
  have hs := pz_shl (s 2 0) (by omega)
  have hp2 := pow8 (s 2 0) (by omega)
  have hp1 := Nat.two_pow_pos (s 2 0)
  have ff := lt256 hV (vr.2.2.2.1 p hp).2.1
  obtain ⟨⟨b, A, B⟩, h1, h2⟩ := pz_loop (fun k v (x : Int32 × PI × PJ) => x_cover_l14 (nI p) k x.1 (nI v) x.2.1 x.2.2) (2 ^ s 2 0) (fun x => some x) (fun v x => ((v = 0 ∧ x.1 = -nI 1) ∨ (1 ≤ v ∧ x.1 = nI 0)) ∧ FxS I x.2.1) (fun k x hP => by
      have e0 : x.2.1 2 0 = nI (s 2 0) := by rw [hP.2.1 2 (by decide) (by decide)]; exact hx 2 0 (by omega) (by omega)
      show x_cover_b14 (nI p) (x_cover_l14 (nI p) k) x.1 (nI (2 ^ s 2 0)) x.2.1 x.2.2 = _
      unfold x_cover_b14
      simp (disch := omega) only [pz_0, pz_1, pz_2, pz_3, pz_4, pz_5, pz_6, pz_7, pz_8, pz_9, pz_10, pz_11, pz_12, pz_13, pz_14, pz_15, pz_16, pz_20, pz_21, pz_22, pz_24, pz_25, pz_30, pz_31, pz_32, pz_35, pz_40, pz_41, pz_42, pz_43, pz_45, pz_47, pz_48, pz_52, pz_57, pz_58, pz_59, pz_60, pz_61, pz_62, pz_63, pz_65, pz_85, pz_90, pz_97, pz_98, pz_99, pz_100, pz_101, pz_102, pz_103, pz_104, pz_105, pz_107, pz_108, pz_109, pz_110, pz_111, pz_112, pz_114, pz_115, pz_116, pz_119, pz_120, pz_121, pz_122, pz_125, pz_127, pz_153, pz_200, pz_201, pz_202, pz_203, pz_204, pz_205, pz_206, pz_207, pz_208, pz_209, pz_210, pz_211, pz_212, pz_213, pz_214, pz_215, pz_216, pz_217, pz_218, pz_219, pz_220, pz_221, pz_222, pz_223, pz_224, pz_225, pz_255, pz_256, pz_271, pz_300, pz_301, pz_302, pz_303, pz_304, pz_400, pz_401, pz_521, pz_705, pz_1000, pz_1508, pz_1661, pz_1691, pz_2400, pz_3125, pz_9999, pz_10000, pz_30703, pz_65536, pz_99999, pz_1000000, pz_lt, pz_ck, pz_u2, pz_u3, pz_u4, pz_bs, pz_ix, pz_inb, pz_add, pz_mul, pz_sub, nI_leI, nI_ltI, nI_eq, pz_bIt, pz_bIf, pz_isb, pz_isb0, pz_isb1, pz_bI0, pz_bI1, Nat.zero_le, true_and, and_true, decide_true, decide_false, Bool.true_eq_false, Bool.false_eq_true, if_true, if_false, Nat.reduceAdd, Nat.reduceMul, Nat.reduceSub, Nat.reduceEqDiff, Nat.reduceLeDiff, Nat.reduceLT, Nat.one_ne_zero, Nat.zero_ne_one, e0, hs, Nat.le_refl]) (fun k v x hv hP => by
      obtain ⟨b, A, B⟩ := x
      obtain ⟨hb, hF⟩ := hP
      have hF : FxS I A := hF
      have hC := h.xs hF
      have e0 : A 2 0 = nI (s 2 0) := by rw [hF.1 2 (by decide) (by decide)]; exact hx 2 0 (by omega) (by omega)
      have g1 := px_formsOf hC.1.2.2.1 (p := p) (by omega)
      have hand : v &&& s 3 (8 + p) ≤ v := Nat.and_le_left
      obtain ⟨I1, J1, q1, q2⟩ := x_j60 hC B (b := b) hp hv (x_cover_l14 (nI p) k)
      rw [if_pos (Or.inr z)] at q1
      rcases hb with ⟨rfl, hb⟩ | ⟨v1, hb⟩
      · have hb : b = -nI 1 := hb
        subst hb
        refine ⟨(nI 0, I1, J1), ?_, Or.inr ⟨Nat.le_refl _, rfl⟩, hF.tr q2⟩
        show x_cover_b14 (nI p) (x_cover_l14 (nI p) k) (-nI 1) (nI 0) A B = _
        unfold x_cover_b14
        simp (disch := omega) only [pz_0, pz_1, pz_2, pz_3, pz_4, pz_5, pz_6, pz_7, pz_8, pz_9, pz_10, pz_11, pz_12, pz_13, pz_14, pz_15, pz_16, pz_20, pz_21, pz_22, pz_24, pz_25, pz_30, pz_31, pz_32, pz_35, pz_40, pz_41, pz_42, pz_43, pz_45, pz_47, pz_48, pz_52, pz_57, pz_58, pz_59, pz_60, pz_61, pz_62, pz_63, pz_65, pz_85, pz_90, pz_97, pz_98, pz_99, pz_100, pz_101, pz_102, pz_103, pz_104, pz_105, pz_107, pz_108, pz_109, pz_110, pz_111, pz_112, pz_114, pz_115, pz_116, pz_119, pz_120, pz_121, pz_122, pz_125, pz_127, pz_153, pz_200, pz_201, pz_202, pz_203, pz_204, pz_205, pz_206, pz_207, pz_208, pz_209, pz_210, pz_211, pz_212, pz_213, pz_214, pz_215, pz_216, pz_217, pz_218, pz_219, pz_220, pz_221, pz_222, pz_223, pz_224, pz_225, pz_255, pz_256, pz_271, pz_300, pz_301, pz_302, pz_303, pz_304, pz_400, pz_401, pz_521, pz_705, pz_1000, pz_1508, pz_1661, pz_1691, pz_2400, pz_3125, pz_9999, pz_10000, pz_30703, pz_65536, pz_99999, pz_1000000, pz_lt, pz_ck, pz_u2, pz_u3, pz_u4, pz_bs, pz_ix, pz_inb, pz_add, pz_mul, pz_sub, nI_leI, nI_ltI, nI_eq, pz_bIt, pz_bIf, pz_isb, pz_isb0, pz_isb1, pz_bI0, pz_bI1, Nat.zero_le, true_and, and_true, decide_true, decide_false, Bool.true_eq_false, Bool.false_eq_true, if_true, if_false, Nat.reduceAdd, Nat.reduceMul, Nat.reduceSub, Nat.reduceEqDiff, Nat.reduceLeDiff, Nat.reduceLT, Nat.one_ne_zero, Nat.zero_ne_one, e0, hs, Nat.not_le.mpr hv, g1, pz_and 0 (s 3 (8 + p)), Nat.zero_and, q1]
      · have hb : b = nI 0 := hb
        subst hb
        refine ⟨(nI 0, A, B), ?_, Or.inr ⟨by omega, rfl⟩, hF⟩
        have t1 := px_toLearn hV hC.1.2.2.1 (a := v) (by omega)
        have t0 := px_toLearn hV hC.1.2.2.1 (a := 0) (by omega)
        have l1 := lgF_le hV v _ (Nat.le_refl _)
        have pl := pop_le v (by omega)
        have z0 : 100 * pop 0 + lgF s 0 (s 2 0) = 0 := by
          have : ∀ n, lgF s 0 n = 0 := fun n => by
            induction n with
            | zero => rfl
            | succ n ih =>
              show lgF s 0 n + (if (0 : Nat).testBit n then s 5 n else 0) = 0
              rw [ih, Nat.zero_testBit]
              rfl
          rw [this]
          decide
        rw [z0] at t0
        have n1 := pz_ne1 (n := 0) (by omega)
        show x_cover_b14 (nI p) (x_cover_l14 (nI p) k) (nI 0) (nI v) A B = _
        unfold x_cover_b14 x_cover_j80
        simp (disch := omega) only [pz_0, pz_1, pz_2, pz_3, pz_4, pz_5, pz_6, pz_7, pz_8, pz_9, pz_10, pz_11, pz_12, pz_13, pz_14, pz_15, pz_16, pz_20, pz_21, pz_22, pz_24, pz_25, pz_30, pz_31, pz_32, pz_35, pz_40, pz_41, pz_42, pz_43, pz_45, pz_47, pz_48, pz_52, pz_57, pz_58, pz_59, pz_60, pz_61, pz_62, pz_63, pz_65, pz_85, pz_90, pz_97, pz_98, pz_99, pz_100, pz_101, pz_102, pz_103, pz_104, pz_105, pz_107, pz_108, pz_109, pz_110, pz_111, pz_112, pz_114, pz_115, pz_116, pz_119, pz_120, pz_121, pz_122, pz_125, pz_127, pz_153, pz_200, pz_201, pz_202, pz_203, pz_204, pz_205, pz_206, pz_207, pz_208, pz_209, pz_210, pz_211, pz_212, pz_213, pz_214, pz_215, pz_216, pz_217, pz_218, pz_219, pz_220, pz_221, pz_222, pz_223, pz_224, pz_225, pz_255, pz_256, pz_271, pz_300, pz_301, pz_302, pz_303, pz_304, pz_400, pz_401, pz_521, pz_705, pz_1000, pz_1508, pz_1661, pz_1691, pz_2400, pz_3125, pz_9999, pz_10000, pz_30703, pz_65536, pz_99999, pz_1000000, pz_lt, pz_ck, pz_u2, pz_u3, pz_u4, pz_bs, pz_ix, pz_inb, pz_add, pz_mul, pz_sub, nI_leI, nI_ltI, nI_eq, pz_bIt, pz_bIf, pz_isb, pz_isb0, pz_isb1, pz_bI0, pz_bI1, Nat.zero_le, true_and, and_true, decide_true, decide_false, Bool.true_eq_false, Bool.false_eq_true, if_true, if_false, Nat.reduceAdd, Nat.reduceMul, Nat.reduceSub, Nat.reduceEqDiff, Nat.reduceLeDiff, Nat.reduceLT, Nat.one_ne_zero, Nat.zero_ne_one, e0, hs, Nat.not_le.mpr hv, g1, pz_and v (s 3 (8 + p)), n1, t1, t0, Nat.not_lt_zero]
        split <;> rfl) (2 ^ s 2 0) fu 0 (-nI 1, I, J) (by omega) (fu_gt (by omega)) ⟨Or.inl ⟨rfl, rfl⟩, FxS.rf⟩
  obtain ⟨hb, hF⟩ := h1
  rcases hb with ⟨q, -⟩ | ⟨-, hb⟩
  · omega
  · have hb : b = nI 0 := hb
    subst hb
    exact ⟨A, B, h2, hF⟩
theorem pu_cover (h : CC s si I T X tN I' J') (J : PJ) (a : Int32) : ∃ (r : Int32) (I1 : PI) (J1 : PJ) (I1' : PI), x_cover I J a = some (r, I1, J1) ∧ m_cover I' J' a = some (r, I1') ∧ CC s si I1 T X tN I1' J' := by
  have hV := h.1.1
  have hX := h.1.2.2.1
  have hM := h.1.2.2.2.2.1
  obtain ⟨⟨v0, v1, v2, v3, v4, v5, v6, v7⟩, vr, vf, vs, va, ve, vt⟩ := id hV
  obtain ⟨⟨m0, m1, m2, m3, m4, m5, m6, m7, m8, m9, m10⟩, mp, mf, ms, ma, me, mb, mt⟩ := id hM
  have hx := hX.1
  obtain ⟨b1, e1, e1', q1⟩ := pe_isPerson hV hX hM a
  unfold x_cover m_cover
  cases b1 with
  | false => exact ⟨-nI 1, I, J, I', by simp (disch := omega) only [pz_0, pz_1, pz_3, pz_4, pz_9, pz_60, pz_99, pz_119, pz_lt, pz_bs, pz_isb, pz_isb0, pz_isb1, pz_bI0, pz_bIf, if_true, Bool.true_eq_false, if_false, pz_ck, e1], by simp (disch := omega) only [pz_0, pz_1, pz_3, pz_4, pz_9, pz_60, pz_99, pz_119, pz_lt, pz_bs, pz_isb, pz_isb0, pz_isb1, pz_bI0, pz_bIf, if_true, Bool.true_eq_false, if_false, pz_ck, e1'], h⟩
  | true =>
  obtain ⟨p, hp, rfl⟩ := q1 rfl
  by_cases z : s 2 2 = 0
  · obtain ⟨I1, J1, f1, d⟩ := px_cover0 h J hp z
    refine ⟨nI 0, I1, J1, I', ?_, ?_, h.xs d⟩
    · simp (disch := omega) only [pz_0, pz_1, pz_2, pz_3, pz_4, pz_5, pz_6, pz_7, pz_8, pz_9, pz_10, pz_11, pz_12, pz_13, pz_14, pz_15, pz_16, pz_20, pz_21, pz_22, pz_24, pz_25, pz_30, pz_31, pz_32, pz_35, pz_40, pz_41, pz_42, pz_43, pz_45, pz_47, pz_48, pz_52, pz_57, pz_58, pz_59, pz_60, pz_61, pz_62, pz_63, pz_65, pz_85, pz_90, pz_97, pz_98, pz_99, pz_100, pz_101, pz_102, pz_103, pz_104, pz_105, pz_107, pz_108, pz_109, pz_110, pz_111, pz_112, pz_114, pz_115, pz_116, pz_119, pz_120, pz_121, pz_122, pz_125, pz_127, pz_153, pz_200, pz_201, pz_202, pz_203, pz_204, pz_205, pz_206, pz_207, pz_208, pz_209, pz_210, pz_211, pz_212, pz_213, pz_214, pz_215, pz_216, pz_217, pz_218, pz_219, pz_220, pz_221, pz_222, pz_223, pz_224, pz_225, pz_255, pz_256, pz_271, pz_300, pz_301, pz_302, pz_303, pz_304, pz_400, pz_401, pz_521, pz_705, pz_1000, pz_1508, pz_1661, pz_1691, pz_2400, pz_3125, pz_9999, pz_10000, pz_30703, pz_65536, pz_99999, pz_1000000, pz_lt, pz_ck, pz_u2, pz_u3, pz_u4, pz_bs, pz_ix, pz_inb, pz_add, pz_mul, pz_sub, nI_leI, nI_ltI, nI_eq, pz_bIt, pz_bIf, pz_isb, pz_isb0, pz_isb1, pz_bI0, pz_bI1, Nat.zero_le, true_and, and_true, decide_true, decide_false, Bool.true_eq_false, Bool.false_eq_true, if_true, if_false, Nat.reduceAdd, Nat.reduceMul, Nat.reduceSub, Nat.reduceEqDiff, Nat.reduceLeDiff, Nat.reduceLT, Nat.one_ne_zero, Nat.zero_ne_one, e1, f1]
    · rw [z] at m2
      simp (disch := omega) only [pz_0, pz_1, pz_2, pz_3, pz_4, pz_5, pz_6, pz_7, pz_8, pz_9, pz_10, pz_11, pz_12, pz_13, pz_14, pz_15, pz_16, pz_20, pz_21, pz_22, pz_24, pz_25, pz_30, pz_31, pz_32, pz_35, pz_40, pz_41, pz_42, pz_43, pz_45, pz_47, pz_48, pz_52, pz_57, pz_58, pz_59, pz_60, pz_61, pz_62, pz_63, pz_65, pz_85, pz_90, pz_97, pz_98, pz_99, pz_100, pz_101, pz_102, pz_103, pz_104, pz_105, pz_107, pz_108, pz_109, pz_110, pz_111, pz_112, pz_114, pz_115, pz_116, pz_119, pz_120, pz_121, pz_122, pz_125, pz_127, pz_153, pz_200, pz_201, pz_202, pz_203, pz_204, pz_205, pz_206, pz_207, pz_208, pz_209, pz_210, pz_211, pz_212, pz_213, pz_214, pz_215, pz_216, pz_217, pz_218, pz_219, pz_220, pz_221, pz_222, pz_223, pz_224, pz_225, pz_255, pz_256, pz_271, pz_300, pz_301, pz_302, pz_303, pz_304, pz_400, pz_401, pz_521, pz_705, pz_1000, pz_1508, pz_1661, pz_1691, pz_2400, pz_3125, pz_9999, pz_10000, pz_30703, pz_65536, pz_99999, pz_1000000, pz_lt, pz_ck, pz_u2, pz_u3, pz_u4, pz_bs, pz_ix, pz_inb, pz_add, pz_mul, pz_sub, nI_leI, nI_ltI, nI_eq, pz_bIt, pz_bIf, pz_isb, pz_isb0, pz_isb1, pz_bI0, pz_bI1, Nat.zero_le, true_and, and_true, decide_true, decide_false, Bool.true_eq_false, Bool.false_eq_true, if_true, if_false, Nat.reduceAdd, Nat.reduceMul, Nat.reduceSub, Nat.reduceEqDiff, Nat.reduceLeDiff, Nat.reduceLT, Nat.one_ne_zero, Nat.zero_ne_one, e1', m2]
  have hs := pz_shl (s 2 0) (by omega)
  have hp2 := pow8 (s 2 0) (by omega)
  have hp1 := Nat.two_pow_pos (s 2 0)
  have ff := (vr.2.2.2.1 p hp).2.1
  have key := pz_lock (fun k v (x : Int32 × PI × PJ) => x_cover_l14 (nI p) k x.1 (nI v) x.2.1 x.2.2) (fun k v (y : Int32 × PI) => m_cover_l25 J' (nI p) k y.1 (nI v) y.2) (2 ^ s 2 0) (fun v x y => x.1 = y.1 ∧ (x.1 = -nI 1 ∨ ∃ b, b < 256 ∧ x.1 = nI b) ∧ CC s si x.2.1 T X tN y.2 J') (fun o o' => ∃ r I1 J1 I1', o = some (r, I1, J1) ∧ o' = some (r, I1') ∧ CC s si I1 T X tN I1' J') (fun k k' x y hP => by
      obtain ⟨w, A, B⟩ := x
      obtain ⟨w', A'⟩ := y
      obtain ⟨e, -, hC⟩ := hP
      have e : w = w' := e
      subst e
      have hC : CC s si A T X tN A' J' := hC
      have ex := hC.1.2.2.1.1
      have em := hC.1.2.2.2.2.1.1.1
      refine ⟨w, A, B, A', ?_, ?_, hC⟩
      · show x_cover_b14 (nI p) (x_cover_l14 (nI p) k) w (nI (2 ^ s 2 0)) A B = _
        unfold x_cover_b14
        simp (disch := omega) only [pz_0, pz_1, pz_2, pz_3, pz_4, pz_5, pz_6, pz_7, pz_8, pz_9, pz_10, pz_11, pz_12, pz_13, pz_14, pz_15, pz_16, pz_20, pz_21, pz_22, pz_24, pz_25, pz_30, pz_31, pz_32, pz_35, pz_40, pz_41, pz_42, pz_43, pz_45, pz_47, pz_48, pz_52, pz_57, pz_58, pz_59, pz_60, pz_61, pz_62, pz_63, pz_65, pz_85, pz_90, pz_97, pz_98, pz_99, pz_100, pz_101, pz_102, pz_103, pz_104, pz_105, pz_107, pz_108, pz_109, pz_110, pz_111, pz_112, pz_114, pz_115, pz_116, pz_119, pz_120, pz_121, pz_122, pz_125, pz_127, pz_153, pz_200, pz_201, pz_202, pz_203, pz_204, pz_205, pz_206, pz_207, pz_208, pz_209, pz_210, pz_211, pz_212, pz_213, pz_214, pz_215, pz_216, pz_217, pz_218, pz_219, pz_220, pz_221, pz_222, pz_223, pz_224, pz_225, pz_255, pz_256, pz_271, pz_300, pz_301, pz_302, pz_303, pz_304, pz_400, pz_401, pz_521, pz_705, pz_1000, pz_1508, pz_1661, pz_1691, pz_2400, pz_3125, pz_9999, pz_10000, pz_30703, pz_65536, pz_99999, pz_1000000, pz_lt, pz_ck, pz_u2, pz_u3, pz_u4, pz_bs, pz_ix, pz_inb, pz_add, pz_mul, pz_sub, nI_leI, nI_ltI, nI_eq, pz_bIt, pz_bIf, pz_isb, pz_isb0, pz_isb1, pz_bI0, pz_bI1, Nat.zero_le, true_and, and_true, decide_true, decide_false, Bool.true_eq_false, Bool.false_eq_true, if_true, if_false, Nat.reduceAdd, Nat.reduceMul, Nat.reduceSub, Nat.reduceEqDiff, Nat.reduceLeDiff, Nat.reduceLT, Nat.one_ne_zero, Nat.zero_ne_one, ex, hs, Nat.le_refl]
      · show m_cover_b25 J' (nI p) (m_cover_l25 J' (nI p) k') w (nI (2 ^ s 2 0)) A' = _
        unfold m_cover_b25
        simp (disch := omega) only [pz_0, pz_1, pz_2, pz_3, pz_4, pz_5, pz_6, pz_7, pz_8, pz_9, pz_10, pz_11, pz_12, pz_13, pz_14, pz_15, pz_16, pz_20, pz_21, pz_22, pz_24, pz_25, pz_30, pz_31, pz_32, pz_35, pz_40, pz_41, pz_42, pz_43, pz_45, pz_47, pz_48, pz_52, pz_57, pz_58, pz_59, pz_60, pz_61, pz_62, pz_63, pz_65, pz_85, pz_90, pz_97, pz_98, pz_99, pz_100, pz_101, pz_102, pz_103, pz_104, pz_105, pz_107, pz_108, pz_109, pz_110, pz_111, pz_112, pz_114, pz_115, pz_116, pz_119, pz_120, pz_121, pz_122, pz_125, pz_127, pz_153, pz_200, pz_201, pz_202, pz_203, pz_204, pz_205, pz_206, pz_207, pz_208, pz_209, pz_210, pz_211, pz_212, pz_213, pz_214, pz_215, pz_216, pz_217, pz_218, pz_219, pz_220, pz_221, pz_222, pz_223, pz_224, pz_225, pz_255, pz_256, pz_271, pz_300, pz_301, pz_302, pz_303, pz_304, pz_400, pz_401, pz_521, pz_705, pz_1000, pz_1508, pz_1661, pz_1691, pz_2400, pz_3125, pz_9999, pz_10000, pz_30703, pz_65536, pz_99999, pz_1000000, pz_lt, pz_ck, pz_u2, pz_u3, pz_u4, pz_bs, pz_ix, pz_inb, pz_add, pz_mul, pz_sub, nI_leI, nI_ltI, nI_eq, pz_bIt, pz_bIf, pz_isb, pz_isb0, pz_isb1, pz_bI0, pz_bI1, Nat.zero_le, true_and, and_true, decide_true, decide_false, Bool.true_eq_false, Bool.false_eq_true, if_true, if_false, Nat.reduceAdd, Nat.reduceMul, Nat.reduceSub, Nat.reduceEqDiff, Nat.reduceLeDiff, Nat.reduceLT, Nat.one_ne_zero, Nat.zero_ne_one, em, hs, Nat.le_refl]) (fun k k' v x y hv hP => by
      obtain ⟨w, A, B⟩ := x
      obtain ⟨w', A'⟩ := y
      obtain ⟨e, hw, hC⟩ := hP
      have e : w = w' := e
      subst e
      have hC : CC s si A T X tN A' J' := hC
      have ex := hC.1.2.2.1.1
      have hM' := hC.1.2.2.2.2.1
      have em := hM'.1.1
      have g1 := px_formsOf hC.1.2.2.1 (p := p) (by omega)
      have g1' := pm_get A' (p := p) (w := 1) (by omega) (by omega)
      rw [(hM'.2.1 p hp).2.1] at g1'
      have hand : v &&& s 3 (8 + p) ≤ v := Nat.and_le_left
      have hv8 : v < 256 := by omega
      have hf := lt256 hV (Nat.or_lt_two_pow hv ff)
      obtain ⟨I1, J1, q1, q2⟩ := x_j60 hC B (b := w) hp hv (x_cover_l14 (nI p) k)
      obtain ⟨A1, u1, d'⟩ := pm_isEnough hC hf
      have hz : (en s (v ||| s 3 (8 + p)) = true ∨ s 2 2 = 0) ↔ en s (v ||| s 3 (8 + p)) = true := ⟨fun q => q.elim id (fun y => absurd y z), Or.inl⟩
      simp only [hz] at q1
      by_cases c0 : v &&& s 3 (8 + p) = 0
      · rcases hw with hw | ⟨b, hb, hw⟩
        · have hw : w = -nI 1 := hw
          subst hw
          have stx : x_cover_b14 (nI p) (x_cover_l14 (nI p) k) (-nI 1) (nI v) A B = x_cover_j60 (x_cover_l14 (nI p) k) (nI p) (-nI 1) (nI v) A B := by
            unfold x_cover_b14
            simp (disch := omega) only [pz_0, pz_1, pz_2, pz_3, pz_4, pz_5, pz_6, pz_7, pz_8, pz_9, pz_10, pz_11, pz_12, pz_13, pz_14, pz_15, pz_16, pz_20, pz_21, pz_22, pz_24, pz_25, pz_30, pz_31, pz_32, pz_35, pz_40, pz_41, pz_42, pz_43, pz_45, pz_47, pz_48, pz_52, pz_57, pz_58, pz_59, pz_60, pz_61, pz_62, pz_63, pz_65, pz_85, pz_90, pz_97, pz_98, pz_99, pz_100, pz_101, pz_102, pz_103, pz_104, pz_105, pz_107, pz_108, pz_109, pz_110, pz_111, pz_112, pz_114, pz_115, pz_116, pz_119, pz_120, pz_121, pz_122, pz_125, pz_127, pz_153, pz_200, pz_201, pz_202, pz_203, pz_204, pz_205, pz_206, pz_207, pz_208, pz_209, pz_210, pz_211, pz_212, pz_213, pz_214, pz_215, pz_216, pz_217, pz_218, pz_219, pz_220, pz_221, pz_222, pz_223, pz_224, pz_225, pz_255, pz_256, pz_271, pz_300, pz_301, pz_302, pz_303, pz_304, pz_400, pz_401, pz_521, pz_705, pz_1000, pz_1508, pz_1661, pz_1691, pz_2400, pz_3125, pz_9999, pz_10000, pz_30703, pz_65536, pz_99999, pz_1000000, pz_lt, pz_ck, pz_u2, pz_u3, pz_u4, pz_bs, pz_ix, pz_inb, pz_add, pz_mul, pz_sub, nI_leI, nI_ltI, nI_eq, pz_bIt, pz_bIf, pz_isb, pz_isb0, pz_isb1, pz_bI0, pz_bI1, Nat.zero_le, true_and, and_true, decide_true, decide_false, Bool.true_eq_false, Bool.false_eq_true, if_true, if_false, Nat.reduceAdd, Nat.reduceMul, Nat.reduceSub, Nat.reduceEqDiff, Nat.reduceLeDiff, Nat.reduceLT, Nat.one_ne_zero, Nat.zero_ne_one, ex, hs, Nat.not_le.mpr hv, g1, pz_and v (s 3 (8 + p)), c0]
          have stm : m_cover_b25 J' (nI p) (m_cover_l25 J' (nI p) k') (-nI 1) (nI v) A' = if en s (v ||| s 3 (8 + p)) = true then m_cover_l25 J' (nI p) k' (nI v) (nI (v + 1)) A1 else m_cover_l25 J' (nI p) k' (-nI 1) (nI (v + 1)) A1 := by
            have hj : m_cover_j84 (m_cover_l25 J' (nI p) k') (-nI 1) (nI v) A1 (-nI 1) = m_cover_l25 J' (nI p) k' (nI v) (nI (v + 1)) A1 := by
              unfold m_cover_j84 m_cover_j104 m_cover_j111
              rw [if_neg (by decide), if_neg (by decide)]
              simp (disch := omega) only [pz_lt, pz_1, pz_add]
            unfold m_cover_b25 m_cover_j111
            simp (disch := omega) only [pz_0, pz_1, pz_2, pz_3, pz_4, pz_5, pz_6, pz_7, pz_8, pz_9, pz_10, pz_11, pz_12, pz_13, pz_14, pz_15, pz_16, pz_20, pz_21, pz_22, pz_24, pz_25, pz_30, pz_31, pz_32, pz_35, pz_40, pz_41, pz_42, pz_43, pz_45, pz_47, pz_48, pz_52, pz_57, pz_58, pz_59, pz_60, pz_61, pz_62, pz_63, pz_65, pz_85, pz_90, pz_97, pz_98, pz_99, pz_100, pz_101, pz_102, pz_103, pz_104, pz_105, pz_107, pz_108, pz_109, pz_110, pz_111, pz_112, pz_114, pz_115, pz_116, pz_119, pz_120, pz_121, pz_122, pz_125, pz_127, pz_153, pz_200, pz_201, pz_202, pz_203, pz_204, pz_205, pz_206, pz_207, pz_208, pz_209, pz_210, pz_211, pz_212, pz_213, pz_214, pz_215, pz_216, pz_217, pz_218, pz_219, pz_220, pz_221, pz_222, pz_223, pz_224, pz_225, pz_255, pz_256, pz_271, pz_300, pz_301, pz_302, pz_303, pz_304, pz_400, pz_401, pz_521, pz_705, pz_1000, pz_1508, pz_1661, pz_1691, pz_2400, pz_3125, pz_9999, pz_10000, pz_30703, pz_65536, pz_99999, pz_1000000, pz_lt, pz_ck, pz_u2, pz_u3, pz_u4, pz_bs, pz_ix, pz_inb, pz_add, pz_mul, pz_sub, nI_leI, nI_ltI, nI_eq, pz_bIt, pz_bIf, pz_isb, pz_isb0, pz_isb1, pz_bI0, pz_bI1, Nat.zero_le, true_and, and_true, decide_true, decide_false, Bool.true_eq_false, Bool.false_eq_true, if_true, if_false, Nat.reduceAdd, Nat.reduceMul, Nat.reduceSub, Nat.reduceEqDiff, Nat.reduceLeDiff, Nat.reduceLT, Nat.one_ne_zero, Nat.zero_ne_one, em, hs, Nat.not_le.mpr hv, g1', pz_and v (s 3 (8 + p)), pz_or, c0, u1, hj]
            cases en s (v ||| s 3 (8 + p)) <;> rfl
          by_cases ce : en s (v ||| s 3 (8 + p)) = true
          · exact ⟨(nI v, I1, J1), (nI v, A1), stx.trans (q1.trans (if_pos ce)), stm.trans (if_pos ce), rfl, Or.inr ⟨v, hv8, rfl⟩, (hC.xs q2).cs d'⟩
          · exact ⟨(-nI 1, I1, J1), (-nI 1, A1), stx.trans (q1.trans (if_neg ce)), stm.trans (if_neg ce), rfl, Or.inl rfl, (hC.xs q2).cs d'⟩
        · have hw : w = nI b := hw
          subst hw
          have n1 := pz_ne1 (n := b) (by omega)
          have t1 := px_toLearn hV hC.1.2.2.1 (a := v) hv8
          have t0 := px_toLearn hV hC.1.2.2.1 (a := b) hb
          have l1 := lgF_le hV v _ (Nat.le_refl _)
          have l2 := lgF_le hV b _ (Nat.le_refl _)
          have p1 := pop_le v hv8
          have p2 := pop_le b hb
          have stx : x_cover_b14 (nI p) (x_cover_l14 (nI p) k) (nI b) (nI v) A B = if btr s v b = true then x_cover_j60 (x_cover_l14 (nI p) k) (nI p) (nI b) (nI v) A B else x_cover_l14 (nI p) k (nI b) (nI (v + 1)) A B := by
            unfold x_cover_b14 x_cover_j80 btr
            simp (disch := omega) only [pz_0, pz_1, pz_2, pz_3, pz_4, pz_5, pz_6, pz_7, pz_8, pz_9, pz_10, pz_11, pz_12, pz_13, pz_14, pz_15, pz_16, pz_20, pz_21, pz_22, pz_24, pz_25, pz_30, pz_31, pz_32, pz_35, pz_40, pz_41, pz_42, pz_43, pz_45, pz_47, pz_48, pz_52, pz_57, pz_58, pz_59, pz_60, pz_61, pz_62, pz_63, pz_65, pz_85, pz_90, pz_97, pz_98, pz_99, pz_100, pz_101, pz_102, pz_103, pz_104, pz_105, pz_107, pz_108, pz_109, pz_110, pz_111, pz_112, pz_114, pz_115, pz_116, pz_119, pz_120, pz_121, pz_122, pz_125, pz_127, pz_153, pz_200, pz_201, pz_202, pz_203, pz_204, pz_205, pz_206, pz_207, pz_208, pz_209, pz_210, pz_211, pz_212, pz_213, pz_214, pz_215, pz_216, pz_217, pz_218, pz_219, pz_220, pz_221, pz_222, pz_223, pz_224, pz_225, pz_255, pz_256, pz_271, pz_300, pz_301, pz_302, pz_303, pz_304, pz_400, pz_401, pz_521, pz_705, pz_1000, pz_1508, pz_1661, pz_1691, pz_2400, pz_3125, pz_9999, pz_10000, pz_30703, pz_65536, pz_99999, pz_1000000, pz_lt, pz_ck, pz_u2, pz_u3, pz_u4, pz_bs, pz_ix, pz_inb, pz_add, pz_mul, pz_sub, nI_leI, nI_ltI, nI_eq, pz_bIt, pz_bIf, pz_isb, pz_isb0, pz_isb1, pz_bI0, pz_bI1, Nat.zero_le, true_and, and_true, decide_true, decide_false, Bool.true_eq_false, Bool.false_eq_true, if_true, if_false, Nat.reduceAdd, Nat.reduceMul, Nat.reduceSub, Nat.reduceEqDiff, Nat.reduceLeDiff, Nat.reduceLT, Nat.one_ne_zero, Nat.zero_ne_one, ex, hs, Nat.not_le.mpr hv, g1, pz_and v (s 3 (8 + p)), c0, n1, t1, t0, decide_eq_true_eq]
          have hj := m_j84 (I' := A1) hV (by rw [d'.2 1 (by decide)]; exact hM') hv8 hb (m_cover_l25 J' (nI p) k')
          have pb1 := pm_bits v hv8
          have pb2 := pm_bits b hb
          have stm : m_cover_b25 J' (nI p) (m_cover_l25 J' (nI p) k') (nI b) (nI v) A' = if en s (v ||| s 3 (8 + p)) = true then (if btr s v b = true then m_cover_l25 J' (nI p) k' (nI v) (nI (v + 1)) A1 else m_cover_l25 J' (nI p) k' (nI b) (nI (v + 1)) A1) else m_cover_l25 J' (nI p) k' (nI b) (nI (v + 1)) A1 := by
            rw [← hj]
            unfold m_cover_b25 m_cover_j111
            simp (disch := omega) only [pz_0, pz_1, pz_31, pz_lt, pz_ck, pz_bs, pz_u2, pz_ix, pz_inb, pz_add, nI_leI, nI_eq, pz_bI0, if_true, if_false, em, hs, Nat.not_le.mpr hv, g1', pz_and v (s 3 (8 + p)), pz_or, c0, u1, n1, pb1, pb2]
            cases en s (v ||| s 3 (8 + p)) <;> rfl
          by_cases cb : btr s v b = true
          · by_cases ce : en s (v ||| s 3 (8 + p)) = true
            · exact ⟨(nI v, I1, J1), (nI v, A1), stx.trans ((if_pos cb).trans (q1.trans (if_pos ce))), stm.trans ((if_pos ce).trans (if_pos cb)), rfl, Or.inr ⟨v, hv8, rfl⟩, (hC.xs q2).cs d'⟩
            · exact ⟨(nI b, I1, J1), (nI b, A1), stx.trans ((if_pos cb).trans (q1.trans (if_neg ce))), stm.trans (if_neg ce), rfl, Or.inr ⟨b, hb, rfl⟩, (hC.xs q2).cs d'⟩
          · refine ⟨(nI b, A, B), (nI b, A1), stx.trans (if_neg cb), stm.trans ?_, rfl, Or.inr ⟨b, hb, rfl⟩, hC.cs d'⟩
            rw [if_neg cb]
            split <;> rfl
      · refine ⟨(w, A, B), (w, A'), ?_, ?_, rfl, hw, hC⟩
        · show x_cover_b14 (nI p) (x_cover_l14 (nI p) k) w (nI v) A B = _
          unfold x_cover_b14 x_cover_j80
          simp (disch := omega) only [pz_0, pz_1, pz_2, pz_3, pz_4, pz_5, pz_6, pz_7, pz_8, pz_9, pz_10, pz_11, pz_12, pz_13, pz_14, pz_15, pz_16, pz_20, pz_21, pz_22, pz_24, pz_25, pz_30, pz_31, pz_32, pz_35, pz_40, pz_41, pz_42, pz_43, pz_45, pz_47, pz_48, pz_52, pz_57, pz_58, pz_59, pz_60, pz_61, pz_62, pz_63, pz_65, pz_85, pz_90, pz_97, pz_98, pz_99, pz_100, pz_101, pz_102, pz_103, pz_104, pz_105, pz_107, pz_108, pz_109, pz_110, pz_111, pz_112, pz_114, pz_115, pz_116, pz_119, pz_120, pz_121, pz_122, pz_125, pz_127, pz_153, pz_200, pz_201, pz_202, pz_203, pz_204, pz_205, pz_206, pz_207, pz_208, pz_209, pz_210, pz_211, pz_212, pz_213, pz_214, pz_215, pz_216, pz_217, pz_218, pz_219, pz_220, pz_221, pz_222, pz_223, pz_224, pz_225, pz_255, pz_256, pz_271, pz_300, pz_301, pz_302, pz_303, pz_304, pz_400, pz_401, pz_521, pz_705, pz_1000, pz_1508, pz_1661, pz_1691, pz_2400, pz_3125, pz_9999, pz_10000, pz_30703, pz_65536, pz_99999, pz_1000000, pz_lt, pz_ck, pz_u2, pz_u3, pz_u4, pz_bs, pz_ix, pz_inb, pz_add, pz_mul, pz_sub, nI_leI, nI_ltI, nI_eq, pz_bIt, pz_bIf, pz_isb, pz_isb0, pz_isb1, pz_bI0, pz_bI1, Nat.zero_le, true_and, and_true, decide_true, decide_false, Bool.true_eq_false, Bool.false_eq_true, if_true, if_false, Nat.reduceAdd, Nat.reduceMul, Nat.reduceSub, Nat.reduceEqDiff, Nat.reduceLeDiff, Nat.reduceLT, Nat.one_ne_zero, Nat.zero_ne_one, ex, hs, Nat.not_le.mpr hv, g1, pz_and v (s 3 (8 + p)), c0]
        · show m_cover_b25 J' (nI p) (m_cover_l25 J' (nI p) k') w (nI v) A' = _
          unfold m_cover_b25 m_cover_j111
          simp (disch := omega) only [pz_0, pz_1, pz_2, pz_3, pz_4, pz_5, pz_6, pz_7, pz_8, pz_9, pz_10, pz_11, pz_12, pz_13, pz_14, pz_15, pz_16, pz_20, pz_21, pz_22, pz_24, pz_25, pz_30, pz_31, pz_32, pz_35, pz_40, pz_41, pz_42, pz_43, pz_45, pz_47, pz_48, pz_52, pz_57, pz_58, pz_59, pz_60, pz_61, pz_62, pz_63, pz_65, pz_85, pz_90, pz_97, pz_98, pz_99, pz_100, pz_101, pz_102, pz_103, pz_104, pz_105, pz_107, pz_108, pz_109, pz_110, pz_111, pz_112, pz_114, pz_115, pz_116, pz_119, pz_120, pz_121, pz_122, pz_125, pz_127, pz_153, pz_200, pz_201, pz_202, pz_203, pz_204, pz_205, pz_206, pz_207, pz_208, pz_209, pz_210, pz_211, pz_212, pz_213, pz_214, pz_215, pz_216, pz_217, pz_218, pz_219, pz_220, pz_221, pz_222, pz_223, pz_224, pz_225, pz_255, pz_256, pz_271, pz_300, pz_301, pz_302, pz_303, pz_304, pz_400, pz_401, pz_521, pz_705, pz_1000, pz_1508, pz_1661, pz_1691, pz_2400, pz_3125, pz_9999, pz_10000, pz_30703, pz_65536, pz_99999, pz_1000000, pz_lt, pz_ck, pz_u2, pz_u3, pz_u4, pz_bs, pz_ix, pz_inb, pz_add, pz_mul, pz_sub, nI_leI, nI_ltI, nI_eq, pz_bIt, pz_bIf, pz_isb, pz_isb0, pz_isb1, pz_bI0, pz_bI1, Nat.zero_le, true_and, and_true, decide_true, decide_false, Bool.true_eq_false, Bool.false_eq_true, if_true, if_false, Nat.reduceAdd, Nat.reduceMul, Nat.reduceSub, Nat.reduceEqDiff, Nat.reduceLeDiff, Nat.reduceLT, Nat.one_ne_zero, Nat.zero_ne_one, em, hs, Nat.not_le.mpr hv, g1', pz_and v (s 3 (8 + p)), c0]) (2 ^ s 2 0) fu fu 0 (-nI 1, I, J) (-nI 1, I') (by omega) (fu_gt (by omega)) (fu_gt (by omega)) ⟨rfl, Or.inl rfl, h⟩
  obtain ⟨r, I1, J1, I1', f1, f2, hC⟩ := key
  have f1 : x_cover_l14 (nI p) fu (-nI 1) (nI 0) I J = some (r, I1, J1) := f1
  have f2 : m_cover_l25 J' (nI p) fu (-nI 1) (nI 0) I' = some (r, I1') := f2
  refine ⟨r, I1, J1, I1', ?_, ?_, hC⟩
  · simp (disch := omega) only [pz_0, pz_1, pz_2, pz_3, pz_4, pz_5, pz_6, pz_7, pz_8, pz_9, pz_10, pz_11, pz_12, pz_13, pz_14, pz_15, pz_16, pz_20, pz_21, pz_22, pz_24, pz_25, pz_30, pz_31, pz_32, pz_35, pz_40, pz_41, pz_42, pz_43, pz_45, pz_47, pz_48, pz_52, pz_57, pz_58, pz_59, pz_60, pz_61, pz_62, pz_63, pz_65, pz_85, pz_90, pz_97, pz_98, pz_99, pz_100, pz_101, pz_102, pz_103, pz_104, pz_105, pz_107, pz_108, pz_109, pz_110, pz_111, pz_112, pz_114, pz_115, pz_116, pz_119, pz_120, pz_121, pz_122, pz_125, pz_127, pz_153, pz_200, pz_201, pz_202, pz_203, pz_204, pz_205, pz_206, pz_207, pz_208, pz_209, pz_210, pz_211, pz_212, pz_213, pz_214, pz_215, pz_216, pz_217, pz_218, pz_219, pz_220, pz_221, pz_222, pz_223, pz_224, pz_225, pz_255, pz_256, pz_271, pz_300, pz_301, pz_302, pz_303, pz_304, pz_400, pz_401, pz_521, pz_705, pz_1000, pz_1508, pz_1661, pz_1691, pz_2400, pz_3125, pz_9999, pz_10000, pz_30703, pz_65536, pz_99999, pz_1000000, pz_lt, pz_ck, pz_u2, pz_u3, pz_u4, pz_bs, pz_ix, pz_inb, pz_add, pz_mul, pz_sub, nI_leI, nI_ltI, nI_eq, pz_bIt, pz_bIf, pz_isb, pz_isb0, pz_isb1, pz_bI0, pz_bI1, Nat.zero_le, true_and, and_true, decide_true, decide_false, Bool.true_eq_false, Bool.false_eq_true, if_true, if_false, Nat.reduceAdd, Nat.reduceMul, Nat.reduceSub, Nat.reduceEqDiff, Nat.reduceLeDiff, Nat.reduceLT, Nat.one_ne_zero, Nat.zero_ne_one, e1, f1]
  · simp (disch := omega) only [pz_0, pz_1, pz_2, pz_3, pz_4, pz_5, pz_6, pz_7, pz_8, pz_9, pz_10, pz_11, pz_12, pz_13, pz_14, pz_15, pz_16, pz_20, pz_21, pz_22, pz_24, pz_25, pz_30, pz_31, pz_32, pz_35, pz_40, pz_41, pz_42, pz_43, pz_45, pz_47, pz_48, pz_52, pz_57, pz_58, pz_59, pz_60, pz_61, pz_62, pz_63, pz_65, pz_85, pz_90, pz_97, pz_98, pz_99, pz_100, pz_101, pz_102, pz_103, pz_104, pz_105, pz_107, pz_108, pz_109, pz_110, pz_111, pz_112, pz_114, pz_115, pz_116, pz_119, pz_120, pz_121, pz_122, pz_125, pz_127, pz_153, pz_200, pz_201, pz_202, pz_203, pz_204, pz_205, pz_206, pz_207, pz_208, pz_209, pz_210, pz_211, pz_212, pz_213, pz_214, pz_215, pz_216, pz_217, pz_218, pz_219, pz_220, pz_221, pz_222, pz_223, pz_224, pz_225, pz_255, pz_256, pz_271, pz_300, pz_301, pz_302, pz_303, pz_304, pz_400, pz_401, pz_521, pz_705, pz_1000, pz_1508, pz_1661, pz_1691, pz_2400, pz_3125, pz_9999, pz_10000, pz_30703, pz_65536, pz_99999, pz_1000000, pz_lt, pz_ck, pz_u2, pz_u3, pz_u4, pz_bs, pz_ix, pz_inb, pz_add, pz_mul, pz_sub, nI_leI, nI_ltI, nI_eq, pz_bIt, pz_bIf, pz_isb, pz_isb0, pz_isb1, pz_bI0, pz_bI1, Nat.zero_le, true_and, and_true, decide_true, decide_false, Bool.true_eq_false, Bool.false_eq_true, if_true, if_false, Nat.reduceAdd, Nat.reduceMul, Nat.reduceSub, Nat.reduceEqDiff, Nat.reduceLeDiff, Nat.reduceLT, Nat.one_ne_zero, Nat.zero_ne_one, e1', m2, z, f2]
end COV
