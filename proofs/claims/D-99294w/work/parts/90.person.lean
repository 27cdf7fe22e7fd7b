/-! members one by one, 13: person -/
def tlS (s : SN) (a v : Nat) : SN := itN (fun k z => u2 z (27 + k) a v) (s 2 5) (u2 s 3 a v)
theorem tlL (s : SN) (a v : Nat) : ∀ n, (∀ k, k < 27 ∨ 27 + n ≤ k → itN (fun k z => u2 z (27 + k) a v) n (u2 s 3 a v) k = u2 s 3 a v k) ∧ ∀ k j, k < n → itN (fun k z => u2 z (27 + k) a v) n (u2 s 3 a v) (27 + k) j = if j = a then v else s (27 + k) j
  | 0 => ⟨fun _ _ => rfl, fun k j hk => absurd hk (Nat.not_lt_zero k)⟩
  | n + 1 => by
    obtain ⟨h1, h2⟩ := tlL s a v n
    refine ⟨fun k hk => ?_, fun k j hk => ?_⟩
    · show u2 _ (27 + n) a v k = _
      rw [u2_row _ _ _ _ (by omega)]
      exact h1 k (by omega)
    · show u2 _ (27 + n) a v (27 + k) j = _
      by_cases e : k = n
      · subst e
        by_cases c : j = a
        · rw [if_pos c, c, u2_eq]
        · rw [if_neg c, u2_ne _ _ (Or.inr c), h1 _ (by omega), u2_row _ _ _ _ (by omega)]
      · rw [u2_row _ _ _ _ (by omega)]
        exact h2 k j (by omega)
theorem tlS_ok (s : SN) (a v : Nat) (h5 : s 2 5 ≤ 30) : (∀ k, k ≠ 3 → k < 27 ∨ 57 ≤ k → tlS s a v k = s k) ∧ (∀ j, tlS s a v 3 j = if j = a then v else s 3 j) ∧ ∀ k j, k < s 2 5 → tlS s a v (27 + k) j = if j = a then v else s (27 + k) j := by
  obtain ⟨h1, h2⟩ := tlL s a v (s 2 5)
  unfold tlS
  refine ⟨fun k hk hk2 => ?_, fun j => ?_, fun k j hk => h2 k j hk⟩
  · rw [h1 k (by omega), u2_row _ _ _ _ hk]
  · rw [h1 3 (by omega)]
    by_cases c : j = a
    · rw [if_pos c, c, u2_eq]
    · rw [if_neg c, u2_ne _ _ (Or.inr c)]
section PS
variable {s si : SN} {I : PI} {T : PT} {X : TS} {tN : XCo} {I' : PI} {J' : PJ}
theorem px_tells (hX : XR s I) (h5 : s 2 5 ≤ 30) {a v : Nat} (ha : a < 141) : ∃ I1, xs_tells I (nI a) (nI v) = some I1 ∧ XR (tlS s a v) I1 ∧ Fx I I1 := by
  have h := it_loop (fun k n (A : PI) => xs_tells_l9 (nI a) (nI v) k (nI n) A) (s 2 5) (fun A => some A) (fun k A => u2 A (27 + k) a (nI v)) (fun n A => XR (itN (fun k z => u2 z (27 + k) a v) n (u2 s 3 a v)) A ∧ Fx I A) (u2 I 3 a (nI v)) ⟨xrU hX v (by omega), fxU (by omega)⟩ (fun n A hn hA => ⟨xrU hA.1 v (by omega), hA.2.tr (fxU (by omega))⟩) (fun k A hA => by
    show xs_tells_b9 (nI a) (nI v) (xs_tells_l9 (nI a) (nI v) k) (nI (s 2 5)) A = some A
    have e : A 2 5 = nI (s 2 5) := by
      rw [hA.1.1 2 5 (by omega) (by omega), (tlL s a v (s 2 5)).1 2 (by omega), u2_row _ _ _ _ (by omega)]
    unfold xs_tells_b9
    simp (disch := omega) only [pz_0, pz_1, pz_2, pz_3, pz_4, pz_5, pz_6, pz_7, pz_8, pz_9, pz_10, pz_11, pz_12, pz_13, pz_14, pz_15, pz_16, pz_20, pz_21, pz_22, pz_24, pz_25, pz_30, pz_31, pz_32, pz_35, pz_40, pz_41, pz_42, pz_43, pz_45, pz_47, pz_48, pz_52, pz_57, pz_58, pz_59, pz_60, pz_61, pz_62, pz_63, pz_65, pz_85, pz_90, pz_97, pz_98, pz_99, pz_100, pz_101, pz_102, pz_103, pz_104, pz_105, pz_107, pz_108, pz_109, pz_110, pz_111, pz_112, pz_114, pz_115, pz_116, pz_119, pz_120, pz_121, pz_122, pz_125, pz_127, pz_153, pz_200, pz_201, pz_202, pz_203, pz_204, pz_205, pz_206, pz_207, pz_208, pz_209, pz_210, pz_211, pz_212, pz_213, pz_214, pz_215, pz_216, pz_217, pz_218, pz_219, pz_220, pz_221, pz_222, pz_223, pz_224, pz_225, pz_255, pz_256, pz_271, pz_300, pz_301, pz_302, pz_303, pz_304, pz_400, pz_401, pz_521, pz_705, pz_1000, pz_1508, pz_1661, pz_1691, pz_2400, pz_3125, pz_9999, pz_10000, pz_30703, pz_65536, pz_99999, pz_1000000, pz_lt, pz_ck, pz_u2, pz_u3, pz_u4, pz_bs, pz_ix, pz_inb, pz_add, pz_mul, pz_sub, nI_leI, nI_ltI, nI_eq, pz_bIt, pz_bIf, pz_isb, pz_isb0, pz_isb1, pz_bI0, pz_bI1, Nat.zero_le, true_and, and_true, decide_true, decide_false, Bool.true_eq_false, Bool.false_eq_true, if_true, if_false, Nat.reduceAdd, Nat.reduceMul, Nat.reduceSub, Nat.reduceEqDiff, Nat.reduceLeDiff, Nat.reduceLT, Nat.one_ne_zero, Nat.zero_ne_one, e, Nat.le_refl]) (fun k n A hn hA => by
    show xs_tells_b9 (nI a) (nI v) (xs_tells_l9 (nI a) (nI v) k) (nI n) A = _
    have e : A 2 5 = nI (s 2 5) := by
      rw [hA.1.1 2 5 (by omega) (by omega), (tlL s a v n).1 2 (by omega), u2_row _ _ _ _ (by omega)]
    unfold xs_tells_b9
    simp (disch := omega) only [pz_0, pz_1, pz_2, pz_3, pz_4, pz_5, pz_6, pz_7, pz_8, pz_9, pz_10, pz_11, pz_12, pz_13, pz_14, pz_15, pz_16, pz_20, pz_21, pz_22, pz_24, pz_25, pz_30, pz_31, pz_32, pz_35, pz_40, pz_41, pz_42, pz_43, pz_45, pz_47, pz_48, pz_52, pz_57, pz_58, pz_59, pz_60, pz_61, pz_62, pz_63, pz_65, pz_85, pz_90, pz_97, pz_98, pz_99, pz_100, pz_101, pz_102, pz_103, pz_104, pz_105, pz_107, pz_108, pz_109, pz_110, pz_111, pz_112, pz_114, pz_115, pz_116, pz_119, pz_120, pz_121, pz_122, pz_125, pz_127, pz_153, pz_200, pz_201, pz_202, pz_203, pz_204, pz_205, pz_206, pz_207, pz_208, pz_209, pz_210, pz_211, pz_212, pz_213, pz_214, pz_215, pz_216, pz_217, pz_218, pz_219, pz_220, pz_221, pz_222, pz_223, pz_224, pz_225, pz_255, pz_256, pz_271, pz_300, pz_301, pz_302, pz_303, pz_304, pz_400, pz_401, pz_521, pz_705, pz_1000, pz_1508, pz_1661, pz_1691, pz_2400, pz_3125, pz_9999, pz_10000, pz_30703, pz_65536, pz_99999, pz_1000000, pz_lt, pz_ck, pz_u2, pz_u3, pz_u4, pz_bs, pz_ix, pz_inb, pz_add, pz_mul, pz_sub, nI_leI, nI_ltI, nI_eq, pz_bIt, pz_bIf, pz_isb, pz_isb0, pz_isb1, pz_bI0, pz_bI1, Nat.zero_le, true_and, and_true, decide_true, decide_false, Bool.true_eq_false, Bool.false_eq_true, if_true, if_false, Nat.reduceAdd, Nat.reduceMul, Nat.reduceSub, Nat.reduceEqDiff, Nat.reduceLeDiff, Nat.reduceLT, Nat.one_ne_zero, Nat.zero_ne_one, e, Nat.not_le.mpr hn]) (by omega)
  obtain ⟨h1, h2, h3⟩ := h
  refine ⟨_, ?_, h2, h3⟩
  unfold xs_tells
  have h9 : xs_tells_l9 (nI a) (nI v) fu (nI 0) (u2 I 3 a (nI v)) = some _ := h1
  simp (disch := omega) only [pz_0, pz_1, pz_2, pz_3, pz_4, pz_5, pz_6, pz_7, pz_8, pz_9, pz_10, pz_11, pz_12, pz_13, pz_14, pz_15, pz_16, pz_20, pz_21, pz_22, pz_24, pz_25, pz_30, pz_31, pz_32, pz_35, pz_40, pz_41, pz_42, pz_43, pz_45, pz_47, pz_48, pz_52, pz_57, pz_58, pz_59, pz_60, pz_61, pz_62, pz_63, pz_65, pz_85, pz_90, pz_97, pz_98, pz_99, pz_100, pz_101, pz_102, pz_103, pz_104, pz_105, pz_107, pz_108, pz_109, pz_110, pz_111, pz_112, pz_114, pz_115, pz_116, pz_119, pz_120, pz_121, pz_122, pz_125, pz_127, pz_153, pz_200, pz_201, pz_202, pz_203, pz_204, pz_205, pz_206, pz_207, pz_208, pz_209, pz_210, pz_211, pz_212, pz_213, pz_214, pz_215, pz_216, pz_217, pz_218, pz_219, pz_220, pz_221, pz_222, pz_223, pz_224, pz_225, pz_255, pz_256, pz_271, pz_300, pz_301, pz_302, pz_303, pz_304, pz_400, pz_401, pz_521, pz_705, pz_1000, pz_1508, pz_1661, pz_1691, pz_2400, pz_3125, pz_9999, pz_10000, pz_30703, pz_65536, pz_99999, pz_1000000, pz_lt, pz_ck, pz_u2, pz_u3, pz_u4, pz_bs, pz_ix, pz_inb, pz_add, pz_mul, pz_sub, nI_leI, nI_ltI, nI_eq, pz_bIt, pz_bIf, pz_isb, pz_isb0, pz_isb1, pz_bI0, pz_bI1, Nat.zero_le, true_and, and_true, decide_true, decide_false, Bool.true_eq_false, Bool.false_eq_true, if_true, if_false, Nat.reduceAdd, Nat.reduceMul, Nat.reduceSub, Nat.reduceEqDiff, Nat.reduceLeDiff, Nat.reduceLT, Nat.one_ne_zero, Nat.zero_ne_one, h9]
theorem pm_begin (A : PI) {p : Nat} (hp : p < 6) : m_begin A (nI p) = some (u2 (u2 (u2 A 1 (11 + 5 * p + 0) (A 1 (11 + 5 * p + 3))) 1 (11 + 5 * p + 1) (A 1 (11 + 5 * p + 4))) 1 (11 + 5 * p + 2) (nI 20)) := by
  have g3 := pm_get A (p := p) (w := 3) hp (by omega)
  have p0 := pm_put A (p := p) (w := 0) (A 1 (11 + 5 * p + 3)) hp (by omega)
  have g4 := pm_get (u2 A 1 (11 + 5 * p + 0) (A 1 (11 + 5 * p + 3))) (p := p) (w := 4) hp (by omega)
  rw [pz_no _ _ (by omega)] at g4
  have p1 := pm_put (u2 A 1 (11 + 5 * p + 0) (A 1 (11 + 5 * p + 3))) (p := p) (w := 1) (A 1 (11 + 5 * p + 4)) hp (by omega)
  have p2 := pm_put (u2 (u2 A 1 (11 + 5 * p + 0) (A 1 (11 + 5 * p + 3))) 1 (11 + 5 * p + 1) (A 1 (11 + 5 * p + 4))) (p := p) (w := 2) (nI 20) hp (by omega)
  unfold m_begin
  simp (disch := omega) only [pz_0, pz_1, pz_2, pz_3, pz_4, pz_20, g3, p0, g4, p1, p2, pz_bs]
theorem pu_person (h : CC s si I T X tN I' J') (a f : Int32) : ∃ (r : Int32) (s1 : SN) (I1 I1' : PI), x_person I a f = some (r, I1) ∧ m_person I' a f = some (r, I1') ∧ CC s1 si I1 T X tN I1' J' ∧ s1 2 3 = s 2 3 ∧ Rg r := by
  have hV := h.1.1
  have hX := h.1.2.2.1
  have hM := h.1.2.2.2.2.1
  obtain ⟨⟨v0, v1, v2, v3, v4, v5, v6, v7⟩, vr, vf, vs, va, ve, vt⟩ := id hV
  obtain ⟨⟨m0, m1, m2, m3, m4, m5, m6, m7, m8, m9, m10⟩, mp, mf, ms, ma, me, mb, mt⟩ := id hM
  have hx := hX.1
  obtain ⟨b1, e1, q1⟩ := pz_rng a 0 99 (by omega) (by omega)
  obtain ⟨b2, e2, e2', q2⟩ := pe_areForms hV hX hM f
  unfold x_person m_person
  cases b1 with
  | false => exact ⟨-nI 1, s, I, I', by simp (disch := omega) only [pz_0, pz_1, pz_3, pz_4, pz_9, pz_60, pz_99, pz_119, pz_lt, pz_bs, pz_isb, pz_isb0, pz_isb1, pz_bI0, pz_bIf, if_true, Bool.true_eq_false, if_false, pz_ck, x_in_s, e1], by simp (disch := omega) only [pz_0, pz_1, pz_3, pz_4, pz_9, pz_60, pz_99, pz_119, pz_lt, pz_bs, pz_isb, pz_isb0, pz_isb1, pz_bI0, pz_bIf, if_true, Bool.true_eq_false, if_false, pz_ck, m_isIn_s, e1], h, rfl, Or.inl rfl⟩
  | true =>
  cases b2 with
  | false => exact ⟨-nI 1, s, I, I', by simp (disch := omega) only [pz_0, pz_1, pz_3, pz_4, pz_9, pz_60, pz_99, pz_119, pz_lt, pz_bs, pz_isb, pz_isb0, pz_isb1, pz_bI0, pz_bIf, if_true, Bool.true_eq_false, if_false, pz_ck, x_in_s, e1, e2], by simp (disch := omega) only [pz_0, pz_1, pz_3, pz_4, pz_9, pz_60, pz_99, pz_119, pz_lt, pz_bs, pz_isb, pz_isb0, pz_isb1, pz_bI0, pz_bIf, if_true, Bool.true_eq_false, if_false, pz_ck, m_isIn_s, e1, e2'], h, rfl, Or.inl rfl⟩
  | true =>
  obtain ⟨g, -, hg, rfl⟩ := q1 rfl
  obtain ⟨w, hw, rfl⟩ := q2 rfl
  by_cases c6 : s 2 1 = 6
  · exact ⟨-nI 1, s, I, I', by simp (disch := omega) only [pz_0, pz_1, pz_2, pz_3, pz_4, pz_5, pz_6, pz_7, pz_8, pz_9, pz_10, pz_11, pz_12, pz_13, pz_14, pz_15, pz_16, pz_20, pz_21, pz_22, pz_24, pz_25, pz_30, pz_31, pz_32, pz_35, pz_40, pz_41, pz_42, pz_43, pz_45, pz_47, pz_48, pz_52, pz_57, pz_58, pz_59, pz_60, pz_61, pz_62, pz_63, pz_65, pz_85, pz_90, pz_97, pz_98, pz_99, pz_100, pz_101, pz_102, pz_103, pz_104, pz_105, pz_107, pz_108, pz_109, pz_110, pz_111, pz_112, pz_114, pz_115, pz_116, pz_119, pz_120, pz_121, pz_122, pz_125, pz_127, pz_153, pz_200, pz_201, pz_202, pz_203, pz_204, pz_205, pz_206, pz_207, pz_208, pz_209, pz_210, pz_211, pz_212, pz_213, pz_214, pz_215, pz_216, pz_217, pz_218, pz_219, pz_220, pz_221, pz_222, pz_223, pz_224, pz_225, pz_255, pz_256, pz_271, pz_300, pz_301, pz_302, pz_303, pz_304, pz_400, pz_401, pz_521, pz_705, pz_1000, pz_1508, pz_1661, pz_1691, pz_2400, pz_3125, pz_9999, pz_10000, pz_30703, pz_65536, pz_99999, pz_1000000, pz_lt, pz_ck, pz_u2, pz_u3, pz_u4, pz_bs, pz_ix, pz_inb, pz_add, pz_mul, pz_sub, nI_leI, nI_ltI, nI_eq, pz_bIt, pz_bIf, pz_isb, pz_isb0, pz_isb1, pz_bI0, pz_bI1, Nat.zero_le, true_and, and_true, decide_true, decide_false, Bool.true_eq_false, Bool.false_eq_true, if_true, if_false, Nat.reduceAdd, Nat.reduceMul, Nat.reduceSub, Nat.reduceEqDiff, Nat.reduceLeDiff, Nat.reduceLT, Nat.one_ne_zero, Nat.zero_ne_one, x_in_s, hg, e2, hx, c6], by simp (disch := omega) only [pz_0, pz_1, pz_2, pz_3, pz_4, pz_5, pz_6, pz_7, pz_8, pz_9, pz_10, pz_11, pz_12, pz_13, pz_14, pz_15, pz_16, pz_20, pz_21, pz_22, pz_24, pz_25, pz_30, pz_31, pz_32, pz_35, pz_40, pz_41, pz_42, pz_43, pz_45, pz_47, pz_48, pz_52, pz_57, pz_58, pz_59, pz_60, pz_61, pz_62, pz_63, pz_65, pz_85, pz_90, pz_97, pz_98, pz_99, pz_100, pz_101, pz_102, pz_103, pz_104, pz_105, pz_107, pz_108, pz_109, pz_110, pz_111, pz_112, pz_114, pz_115, pz_116, pz_119, pz_120, pz_121, pz_122, pz_125, pz_127, pz_153, pz_200, pz_201, pz_202, pz_203, pz_204, pz_205, pz_206, pz_207, pz_208, pz_209, pz_210, pz_211, pz_212, pz_213, pz_214, pz_215, pz_216, pz_217, pz_218, pz_219, pz_220, pz_221, pz_222, pz_223, pz_224, pz_225, pz_255, pz_256, pz_271, pz_300, pz_301, pz_302, pz_303, pz_304, pz_400, pz_401, pz_521, pz_705, pz_1000, pz_1508, pz_1661, pz_1691, pz_2400, pz_3125, pz_9999, pz_10000, pz_30703, pz_65536, pz_99999, pz_1000000, pz_lt, pz_ck, pz_u2, pz_u3, pz_u4, pz_bs, pz_ix, pz_inb, pz_add, pz_mul, pz_sub, nI_leI, nI_ltI, nI_eq, pz_bIt, pz_bIf, pz_isb, pz_isb0, pz_isb1, pz_bI0, pz_bI1, Nat.zero_le, true_and, and_true, decide_true, decide_false, Bool.true_eq_false, Bool.false_eq_true, if_true, if_false, Nat.reduceAdd, Nat.reduceMul, Nat.reduceSub, Nat.reduceEqDiff, Nat.reduceLeDiff, Nat.reduceLT, Nat.one_ne_zero, Nat.zero_ne_one, m_isIn_s, hg, e2', m1, c6], h, rfl, Or.inl rfl⟩
  · obtain ⟨p, ep⟩ : ∃ p, p = s 2 1 := ⟨_, rfl⟩
    have hw8 : w < 256 := Nat.lt_of_lt_of_le hw (pow8 _ v0)
    have X1 : XR (u2 s 2 1 (p + 1)) (u2 I 2 1 (nI (p + 1))) := xrU hX (p + 1) (by omega)
    have z5 : u2 s 2 1 (p + 1) 2 5 = s 2 5 := (by simp (disch := omega) only [pz_row, pz_at, pz_no])
    obtain ⟨I2, t1, t2, t3⟩ := px_tells X1 (by omega) (a := 2 + p) (v := g) (by omega)
    obtain ⟨k1, k2, k3⟩ := tlS_ok (u2 s 2 1 (p + 1)) (2 + p) g (by omega)
    have z5' : tlS (u2 s 2 1 (p + 1)) (2 + p) g 2 5 = s 2 5 := by rw [k1 2 (by omega) (by omega)]; exact z5
    obtain ⟨I3, t4, t5, t6⟩ := px_tells t2 (by omega) (a := 8 + p) (v := w) (by omega)
    obtain ⟨l1, l2, l3⟩ := tlS_ok (tlS (u2 s 2 1 (p + 1)) (2 + p) g) (8 + p) w (by omega)
    obtain ⟨z, ez⟩ : ∃ z, z = tlS (tlS (u2 s 2 1 (p + 1)) (2 + p) g) (8 + p) w := ⟨_, rfl⟩
    rw [← ez] at t5 l1 l2 l3
    have n2 : ∀ j, j ≠ 1 → z 2 j = s 2 j := fun j hj => by rw [l1 2 (by omega) (by omega), k1 2 (by omega) (by omega)]; exact u2_ne _ _ (Or.inr hj)
    have n21 : z 2 1 = p + 1 := by rw [l1 2 (by omega) (by omega), k1 2 (by omega) (by omega)]; exact u2_eq _ _ _ _
    have nk : ∀ k, k ≠ 2 → k ≠ 3 → k < 27 ∨ 57 ≤ k → z k = s k := fun k h2 h3 h4 => by rw [l1 k h3 h4, k1 k h3 h4]; exact u2_row _ _ _ _ h2
    have nr : ∀ j, z 3 j = if j = 8 + p then w else if j = 2 + p then g else s 3 j := fun j => by rw [l2 j, k2 j, u2_row _ _ _ _ (by omega)]
    have ns : ∀ k j, k < s 2 5 → z (27 + k) j = if j = 8 + p then w else if j = 2 + p then g else s (27 + k) j := fun k j hk => by rw [l3 k j (by omega), k3 k j (by omega), u2_row _ _ _ _ (by omega)]
    have rowV : ∀ (r r' : Nat → Nat), VRow r (s 2 0) (s 2 1) → (∀ j, r' j = if j = 8 + p then w else if j = 2 + p then g else r j) → VRow r' (s 2 0) (p + 1) := by
      intro r r' hr e
      obtain ⟨r0, r1, r2, r3, r4, r5⟩ := hr
      have ej : ∀ j, j ≠ 8 + p → j ≠ 2 + p → r' j = r j := fun j h1 h2 => by rw [e, if_neg h1, if_neg h2]
      refine ⟨by rw [ej 0 (by omega) (by omega)]; exact r0, by rw [ej 1 (by omega) (by omega)]; exact r1, by rw [ej 20 (by omega) (by omega)]; exact r2, fun q hq => ?_, fun q h1 h2 => ?_, fun i hi => ?_⟩
      · by_cases c : q = p
        · subst c
          rw [e (2 + q), if_neg (by omega), if_pos rfl, e (8 + q), if_pos rfl, ej (14 + q) (by omega) (by omega), (r4 q (by omega) (by omega)).2.2]
          exact ⟨hg, hw, by decide⟩
        · rw [ej _ (by omega) (by omega), ej _ (by omega) (by omega), ej _ (by omega) (by omega)]
          exact r3 q (by omega)
      · rw [ej _ (by omega) (by omega), ej _ (by omega) (by omega), ej _ (by omega) (by omega)]
        exact r4 q (by omega) h2
      · rw [ej 20 (by omega) (by omega)] at hi
        rw [ej _ (by omega) (by omega), ej _ (by omega) (by omega), ej _ (by omega) (by omega), ej _ (by omega) (by omega)]
        exact r5 i hi
    have pgV : ∀ (r r' : Nat → Nat), (∀ j, r' j = if j = 8 + p then w else if j = 2 + p then g else r j) → ∀ i, page r' i = page r i := by
      intro r r' e i
      have ej : ∀ j, j ≠ 8 + p → j ≠ 2 + p → r' j = r j := fun j h1 h2 => by rw [e, if_neg h1, if_neg h2]
      unfold page
      rw [ej _ (by omega) (by omega), ej _ (by omega) (by omega), ej _ (by omega) (by omega), ej _ (by omega) (by omega)]
    obtain ⟨A3, ea3⟩ : ∃ A, A = u2 I' 1 (11 + 5 * p + 3) (nI g) := ⟨_, rfl⟩
    obtain ⟨A4, ea4⟩ : ∃ A, A = u2 A3 1 (11 + 5 * p + 4) (nI w) := ⟨_, rfl⟩
    obtain ⟨A5, ea5⟩ : ∃ A, A = u2 (u2 (u2 A4 1 (11 + 5 * p + 0) (A4 1 (11 + 5 * p + 3))) 1 (11 + 5 * p + 1) (A4 1 (11 + 5 * p + 4))) 1 (11 + 5 * p + 2) (nI 20) := ⟨_, rfl⟩
    have p3 := pm_put I' (p := p) (w := 3) (nI g) (by omega) (by omega)
    have p4 := pm_put A3 (p := p) (w := 4) (nI w) (by omega) (by omega)
    have pb := pm_begin A4 (p := p) (by omega)
    rw [← ea3] at p3
    rw [← ea4] at p4
    rw [← ea5] at pb
    have f3 : A4 1 (11 + 5 * p + 3) = nI g := by rw [ea4, ea3]; simp (disch := omega) only [pz_row, pz_at, pz_no]
    have f4 : A4 1 (11 + 5 * p + 4) = nI w := by rw [ea4]; simp (disch := omega) only [pz_row, pz_at, pz_no]
    have g0 : A5 1 (11 + 5 * p + 0) = nI g := by rw [ea5]; simp (disch := omega) only [pz_row, pz_at, pz_no]; exact f3
    have g1 : A5 1 (11 + 5 * p + 1) = nI w := by rw [ea5]; simp (disch := omega) only [pz_row, pz_at, pz_no]; exact f4
    have g2 : A5 1 (11 + 5 * p + 2) = nI 20 := by rw [ea5]; simp (disch := omega) only [pz_row, pz_at, pz_no]
    have g3 : A5 1 (11 + 5 * p + 3) = nI g := by rw [ea5]; simp (disch := omega) only [pz_row, pz_at, pz_no]; exact f3
    have g4 : A5 1 (11 + 5 * p + 4) = nI w := by rw [ea5]; simp (disch := omega) only [pz_row, pz_at, pz_no]; exact f4
    have go : ∀ i, i < 11 + 5 * p ∨ 11 + 5 * p + 5 ≤ i → A5 1 i = I' 1 i := fun i hi => by
      rw [ea5]
      simp (disch := omega) only [pz_row, pz_at, pz_no]
      rw [ea4]
      simp (disch := omega) only [pz_row, pz_at, pz_no]
      rw [ea3]
      simp (disch := omega) only [pz_row, pz_at, pz_no]
    have gF : Fm I' A5 J' J' := by
      rw [ea5, ea4, ea3]
      exact ((((fmU (by omega)).tr (fmU (by omega))).tr (fmU (by omega))).tr (fmU (by omega))).tr (fmU (by omega))
    have gl : ∀ i, A5 0 i = I' 0 i := fun i => by
      rw [ea5]
      simp (disch := omega) only [pz_row, pz_at, pz_no]
      rw [ea4]
      simp (disch := omega) only [pz_row, pz_at, pz_no]
      rw [ea3]
      simp (disch := omega) only [pz_row, pz_at, pz_no]
    have e1n : A5 1 1 = nI p := by rw [go 1 (by omega), ep]; exact m1
    refine ⟨nI p, z, I3, u2 A5 1 1 (nI (p + 1)), ?_, ?_, ?_, n2 3 (by omega), Or.inr ⟨_, by omega, rfl⟩⟩
    · have ea : I 2 1 = nI p := by rw [ep]; exact hx 2 1 (by omega) (by omega)
      have c6' : ¬ p = 6 := by omega
      have e2p : nI 2 + nI p = nI (2 + p) := nI_add 2 p
      have e8p : nI 8 + nI p = nI (8 + p) := nI_add 8 p
      simp (disch := omega) only [pz_0, pz_1, pz_2, pz_3, pz_4, pz_5, pz_6, pz_7, pz_8, pz_9, pz_10, pz_11, pz_12, pz_13, pz_14, pz_15, pz_16, pz_20, pz_21, pz_22, pz_24, pz_25, pz_30, pz_31, pz_32, pz_35, pz_40, pz_41, pz_42, pz_43, pz_45, pz_47, pz_48, pz_52, pz_57, pz_58, pz_59, pz_60, pz_61, pz_62, pz_63, pz_65, pz_85, pz_90, pz_97, pz_98, pz_99, pz_100, pz_101, pz_102, pz_103, pz_104, pz_105, pz_107, pz_108, pz_109, pz_110, pz_111, pz_112, pz_114, pz_115, pz_116, pz_119, pz_120, pz_121, pz_122, pz_125, pz_127, pz_153, pz_200, pz_201, pz_202, pz_203, pz_204, pz_205, pz_206, pz_207, pz_208, pz_209, pz_210, pz_211, pz_212, pz_213, pz_214, pz_215, pz_216, pz_217, pz_218, pz_219, pz_220, pz_221, pz_222, pz_223, pz_224, pz_225, pz_255, pz_256, pz_271, pz_300, pz_301, pz_302, pz_303, pz_304, pz_400, pz_401, pz_521, pz_705, pz_1000, pz_1508, pz_1661, pz_1691, pz_2400, pz_3125, pz_9999, pz_10000, pz_30703, pz_65536, pz_99999, pz_1000000, pz_lt, pz_ck, pz_u2, pz_u3, pz_u4, pz_bs, pz_ix, pz_inb, pz_add, pz_mul, pz_sub, nI_leI, nI_ltI, nI_eq, pz_bIt, pz_bIf, pz_isb, pz_isb0, pz_isb1, pz_bI0, pz_bI1, Nat.zero_le, true_and, and_true, decide_true, decide_false, Bool.true_eq_false, Bool.false_eq_true, if_true, if_false, Nat.reduceAdd, Nat.reduceMul, Nat.reduceSub, Nat.reduceEqDiff, Nat.reduceLeDiff, Nat.reduceLT, Nat.one_ne_zero, Nat.zero_ne_one, x_in_s, hg, e2, ea, c6', t1, t4]
    · have ea : I' 1 1 = nI p := by rw [ep]; exact m1
      have c6' : ¬ p = 6 := by omega
      simp (disch := omega) only [pz_0, pz_1, pz_2, pz_3, pz_4, pz_5, pz_6, pz_7, pz_8, pz_9, pz_10, pz_11, pz_12, pz_13, pz_14, pz_15, pz_16, pz_20, pz_21, pz_22, pz_24, pz_25, pz_30, pz_31, pz_32, pz_35, pz_40, pz_41, pz_42, pz_43, pz_45, pz_47, pz_48, pz_52, pz_57, pz_58, pz_59, pz_60, pz_61, pz_62, pz_63, pz_65, pz_85, pz_90, pz_97, pz_98, pz_99, pz_100, pz_101, pz_102, pz_103, pz_104, pz_105, pz_107, pz_108, pz_109, pz_110, pz_111, pz_112, pz_114, pz_115, pz_116, pz_119, pz_120, pz_121, pz_122, pz_125, pz_127, pz_153, pz_200, pz_201, pz_202, pz_203, pz_204, pz_205, pz_206, pz_207, pz_208, pz_209, pz_210, pz_211, pz_212, pz_213, pz_214, pz_215, pz_216, pz_217, pz_218, pz_219, pz_220, pz_221, pz_222, pz_223, pz_224, pz_225, pz_255, pz_256, pz_271, pz_300, pz_301, pz_302, pz_303, pz_304, pz_400, pz_401, pz_521, pz_705, pz_1000, pz_1508, pz_1661, pz_1691, pz_2400, pz_3125, pz_9999, pz_10000, pz_30703, pz_65536, pz_99999, pz_1000000, pz_lt, pz_ck, pz_u2, pz_u3, pz_u4, pz_bs, pz_ix, pz_inb, pz_add, pz_mul, pz_sub, nI_leI, nI_ltI, nI_eq, pz_bIt, pz_bIf, pz_isb, pz_isb0, pz_isb1, pz_bI0, pz_bI1, Nat.zero_le, true_and, and_true, decide_true, decide_false, Bool.true_eq_false, Bool.false_eq_true, if_true, if_false, Nat.reduceAdd, Nat.reduceMul, Nat.reduceSub, Nat.reduceEqDiff, Nat.reduceLeDiff, Nat.reduceLT, Nat.one_ne_zero, Nat.zero_ne_one, m_isIn_s, hg, e2', ea, c6', p3, p4, pb, e1n]
    · have hA : ∀ i, i ≠ 1 → (i < 11 + 5 * p ∨ 11 + 5 * p + 5 ≤ i) → u2 A5 1 1 (nI (p + 1)) 1 i = I' 1 i := fun i h1 h2 => by
        simp (disch := omega) only [pz_row, pz_at, pz_no]
        exact go i h2
      refine h.step (((fxU (by omega)).tr t3).tr t6) (gF.tr (fmU (by omega))) ?_ t5 ?_ (n2 3 (by omega)) (h.lea.of (by simp (disch := omega) only [pz_row, pz_at, pz_no]; exact gl _) (by simp (disch := omega) only [pz_row, pz_at, pz_no]; exact gl _) (by simp (disch := omega) only [pz_row, pz_at, pz_no]; exact gl _))
      · refine ⟨⟨by rw [n2 0 (by omega)]; exact v0, by omega, by rw [n2 2 (by omega)]; exact v2, by rw [n2 3 (by omega)]; exact v3, by rw [n2 4 (by omega), n2 3 (by omega)]; exact v4, by rw [n2 5 (by omega)]; exact v5, by rw [n2 6 (by omega)]; exact v6, by rw [n2 7 (by omega)]; exact v7⟩, ?_, ?_, ?_, ?_, ?_, fun k hk => ?_⟩
        · rw [n2 0 (by omega), n21]
          exact rowV _ _ vr nr
        · rw [n2 0 (by omega), nk 4 (by omega) (by omega) (by omega), nk 5 (by omega) (by omega) (by omega)]
          exact vf
        · rw [n2 2 (by omega), nk 6 (by omega) (by omega) (by omega)]
          exact vs
        · rw [n2 6 (by omega)]
          intro i hi
          rw [nk _ (by omega) (by omega) (by omega)]
          exact va i hi
        · rw [n2 7 (by omega), n21]
          intro i hi
          rw [nk _ (by omega) (by omega) (by omega)]
          have := ve i hi
          omega
        · rw [n2 5 (by omega)] at hk
          rw [n2 0 (by omega), n21]
          exact rowV _ _ (vt k hk) (fun j => ns k j hk)
      · refine ⟨?_, fun q hq => ?_, ?_, ?_, ?_, ?_, fun i hi => ?_, fun k hk => ?_⟩
        · exact ⟨by rw [hA 0 (by omega) (by omega), n2 0 (by omega)]; exact m0, by rw [n21]; exact u2_eq _ _ _ _, by rw [hA 2 (by omega) (by omega), n2 2 (by omega)]; exact m2, by rw [hA 3 (by omega) (by omega), n2 3 (by omega)]; exact m3, by rw [hA 4 (by omega) (by omega), n2 4 (by omega)]; exact m4, by rw [hA 5 (by omega) (by omega), n2 5 (by omega)]; exact m5, by rw [hA 6 (by omega) (by omega), n2 6 (by omega)]; exact m6, by rw [hA 7 (by omega) (by omega), n2 7 (by omega)]; exact m7, by rw [hA 8 (by omega) (by omega), nr 0, if_neg (by omega), if_neg (by omega)]; exact m8, by rw [hA 9 (by omega) (by omega), nr 1, if_neg (by omega), if_neg (by omega)]; exact m9, by rw [hA 10 (by omega) (by omega), nr 20, if_neg (by omega), if_neg (by omega)]; exact m10⟩
        · by_cases c : q = p
          · subst c
            simp (disch := omega) only [pz_row, pz_at, pz_no]
            rw [nr (2 + q), if_neg (by omega), if_pos rfl, nr (8 + q), if_pos rfl, nr (14 + q), if_neg (by omega), if_neg (by omega), (vr.2.2.2.2.1 q (by omega) (by omega)).2.2]
            exact ⟨g0, g1, g2⟩
          · rw [hA _ (by omega) (by omega), hA _ (by omega) (by omega), hA _ (by omega) (by omega), nr (2 + q), if_neg (by omega), if_neg (by omega), nr (8 + q), if_neg (by omega), if_neg (by omega), nr (14 + q), if_neg (by omega), if_neg (by omega)]
            exact mp q (by omega)
        · exact MFor.c mf (nk 4 (by omega) (by omega) (by omega)) (nk 5 (by omega) (by omega) (by omega)) (fun i h1 h2 => hA i (by omega) (by omega))
        · exact MSto.c ms v2 (n2 2 (by omega)) (nk 6 (by omega) (by omega) (by omega)) (fun i h1 h2 => hA i (by omega) (by omega))
        · exact MSai.c ma v6 (n2 6 (by omega)) (fun i hi => nk _ (by omega) (by omega) (by omega)) (fun i h1 h2 => hA i (by omega) (by omega))
        · exact MSee.c me v7 (n2 7 (by omega)) (fun i hi => nk _ (by omega) (by omega) (by omega)) (fun i h1 h2 => hA i (by omega) (by omega))
        · have h20 := vr.2.2.1
          rw [nr 20, if_neg (by omega), if_neg (by omega)] at hi
          rw [hA _ (by omega) (by omega), pgV _ _ nr]
          exact mb i hi
        · rw [n2 5 (by omega)] at hk
          obtain ⟨c, h1, h2, h3, h4, h5, h6, h7, h8⟩ := mt k hk
          have e := fun j => ns k j hk
          have h20 := (vt k hk).2.2.1
          rw [n21]
          refine ⟨c, by omega, by rw [hA _ (by omega) (by omega)]; exact h2, by rw [hA _ (by omega) (by omega), e 0, if_neg (by omega), if_neg (by omega)]; exact h3, by rw [hA _ (by omega) (by omega), e 1, if_neg (by omega), if_neg (by omega)]; exact h4, by rw [hA _ (by omega) (by omega), e 20, if_neg (by omega), if_neg (by omega)]; exact h5, fun q hq => ?_, fun q hq hq2 => ?_, fun i hi => ?_⟩
          · rw [hA _ (by omega) (by omega), hA _ (by omega) (by omega), hA _ (by omega) (by omega), e (2 + q), if_neg (by omega), if_neg (by omega), e (8 + q), if_neg (by omega), if_neg (by omega), e (14 + q), if_neg (by omega), if_neg (by omega)]
            exact h6 q hq
          · by_cases cq : q = p
            · subst cq
              simp (disch := omega) only [pz_row, pz_at, pz_no]
              rw [e (2 + q), if_neg (by omega), if_pos rfl, e (8 + q), if_pos rfl, e (14 + q), if_neg (by omega), if_neg (by omega)]
              exact ⟨g3, g4, ((vt k hk).2.2.2.2.1 q (by omega) (by omega)).2.2⟩
            · rw [hA _ (by omega) (by omega), hA _ (by omega) (by omega), e (2 + q), if_neg (by omega), if_neg (by omega), e (8 + q), if_neg (by omega), if_neg (by omega), e (14 + q), if_neg (by omega), if_neg (by omega)]
              exact h7 q hq (by omega)
          · rw [e 20, if_neg (by omega), if_neg (by omega)] at hi
            rw [hA _ (by omega) (by omega), pgV _ _ e]
            exact h8 i hi
end PS
