/-! members one by one, 16: image, back, together -/
/-- all of a block copied: from rows a.. (the state's first at a + 2) to rows b.. -/
def BeR (I8 I : PI) (a b : Nat) : Prop := (∀ k j, (2 ≤ k ∧ k < 7) ∨ (11 ≤ k ∧ k < 57) → I8 (b + k) j = if j < wd k then I (a + k) j else I (b + k) j) ∧ ∀ k, (k < b + 2 ∨ b + 57 ≤ k) → I8 k = I k
theorem be_join {I I1 I2 I3 I4 I5 I6 I7 I8 : PI} {a b : Nat} (hab : a + 56 = b ∨ b + 56 = a) (h1 : Rc I1 I (a + 2) (b + 2) 1 8) (h2 : Rc I2 I1 (a + 3) (b + 3) 1 141) (h3 : Rc I3 I2 (a + 4) (b + 4) 1 8) (h4 : Rc I4 I3 (a + 5) (b + 5) 1 8) (h5 : Rc I5 I4 (a + 6) (b + 6) 1 4) (h6 : Rc I6 I5 (a + 11) (b + 11) 8 3) (h7 : Rc I7 I6 (a + 19) (b + 19) 8 2) (h8 : Rc I8 I7 (a + 27) (b + 27) 30 141) : BeR I8 I a b := by
  have s1 : ∀ k j, k = 2 → I8 (b + k) j = if j < wd k then I (a + k) j else I (b + k) j := fun k j e => by
    subst e
    rw [h8.2 _ (by omega), h7.2 _ (by omega), h6.2 _ (by omega), h5.2 _ (by omega), h4.2 _ (by omega), h3.2 _ (by omega), h2.2 _ (by omega)]
    exact h1.1 0 j (by omega)
  have s2 : ∀ k j, k = 3 → I8 (b + k) j = if j < wd k then I (a + k) j else I (b + k) j := fun k j e => by
    subst e
    rw [h8.2 _ (by omega), h7.2 _ (by omega), h6.2 _ (by omega), h5.2 _ (by omega), h4.2 _ (by omega), h3.2 _ (by omega)]
    have := h2.1 0 j (by omega)
    rw [Nat.add_zero, Nat.add_zero, h1.2 (a + 3) (by omega), h1.2 (b + 3) (by omega)] at this
    exact this
  have s3 : ∀ k j, k = 4 → I8 (b + k) j = if j < wd k then I (a + k) j else I (b + k) j := fun k j e => by
    subst e
    rw [h8.2 _ (by omega), h7.2 _ (by omega), h6.2 _ (by omega), h5.2 _ (by omega), h4.2 _ (by omega)]
    have := h3.1 0 j (by omega)
    rw [Nat.add_zero, Nat.add_zero, h2.2 (a + 4) (by omega), h2.2 (b + 4) (by omega), h1.2 (a + 4) (by omega), h1.2 (b + 4) (by omega)] at this
    exact this
  have s4 : ∀ k j, k = 5 → I8 (b + k) j = if j < wd k then I (a + k) j else I (b + k) j := fun k j e => by
    subst e
    rw [h8.2 _ (by omega), h7.2 _ (by omega), h6.2 _ (by omega), h5.2 _ (by omega)]
    have := h4.1 0 j (by omega)
    rw [Nat.add_zero, Nat.add_zero, h3.2 (a + 5) (by omega), h3.2 (b + 5) (by omega), h2.2 (a + 5) (by omega), h2.2 (b + 5) (by omega), h1.2 (a + 5) (by omega), h1.2 (b + 5) (by omega)] at this
    exact this
  have s5 : ∀ k j, k = 6 → I8 (b + k) j = if j < wd k then I (a + k) j else I (b + k) j := fun k j e => by
    subst e
    rw [h8.2 _ (by omega), h7.2 _ (by omega), h6.2 _ (by omega)]
    have := h5.1 0 j (by omega)
    rw [Nat.add_zero, Nat.add_zero, h4.2 (a + 6) (by omega), h4.2 (b + 6) (by omega), h3.2 (a + 6) (by omega), h3.2 (b + 6) (by omega), h2.2 (a + 6) (by omega), h2.2 (b + 6) (by omega), h1.2 (a + 6) (by omega), h1.2 (b + 6) (by omega)] at this
    exact this
  refine ⟨fun k j hk => ?_, fun k hk => ?_⟩
  · by_cases c1 : k < 7
    · have hc : k = 2 ∨ k = 3 ∨ k = 4 ∨ k = 5 ∨ k = 6 := by omega
      rcases hc with e | e | e | e | e
      · exact s1 k j e
      · exact s2 k j e
      · exact s3 k j e
      · exact s4 k j e
      · exact s5 k j e
    · have o5 : ∀ q, (7 ≤ q - b ∧ b ≤ q) ∨ (7 ≤ q - a ∧ a ≤ q ∧ q < a + 57) → (q < b + 2 ∨ b + 7 ≤ q) → I5 q = I q := fun q _ hq => by
        rw [h5.2 q (by omega), h4.2 q (by omega), h3.2 q (by omega), h2.2 q (by omega), h1.2 q (by omega)]
      by_cases c2 : k < 19
      · obtain ⟨v, ev⟩ : ∃ v, k = 11 + v := ⟨k - 11, by omega⟩
        subst ev
        have := h6.1 v j (by omega)
        rw [h8.2 _ (by omega), h7.2 _ (by omega), ← Nat.add_assoc, this, wd_sa (by omega), o5 (a + 11 + v) (by omega) (by omega), o5 (b + 11 + v) (by omega) (by omega), ← Nat.add_assoc]
      · have o6 : ∀ q, (7 ≤ q - b ∧ b ≤ q) ∨ (7 ≤ q - a ∧ a ≤ q ∧ q < a + 57) → (q < b + 2 ∨ b + 19 ≤ q) → I6 q = I q := fun q h9 hq => by
          rw [h6.2 q (by omega), o5 q h9 (by omega)]
        by_cases c3 : k < 27
        · obtain ⟨v, ev⟩ : ∃ v, k = 19 + v := ⟨k - 19, by omega⟩
          subst ev
          have := h7.1 v j (by omega)
          rw [h8.2 _ (by omega), ← Nat.add_assoc, this, wd_se (by omega), o6 (a + 19 + v) (by omega) (by omega), o6 (b + 19 + v) (by omega) (by omega), ← Nat.add_assoc]
        · obtain ⟨v, ev⟩ : ∃ v, k = 27 + v := ⟨k - 27, by omega⟩
          subst ev
          have := h8.1 v j (by omega)
          rw [← Nat.add_assoc, this, wd_st (by omega), h7.2 (a + 27 + v) (by omega), h7.2 (b + 27 + v) (by omega), o6 (a + 27 + v) (by omega) (by omega), o6 (b + 27 + v) (by omega) (by omega), ← Nat.add_assoc]
  · rw [h8.2 k (by omega), h7.2 k (by omega), h6.2 k (by omega), h5.2 k (by omega), h4.2 k (by omega), h3.2 k (by omega), h2.2 k (by omega), h1.2 k (by omega)]
theorem px_be57 (I : PI) (T : PT) : ∃ I8, xs_be_57 I T = some (I8, uc T 10 66 0 0 4) ∧ BeR I8 I 0 56 := by
  obtain ⟨I6, e6, h6⟩ := px_c7 (uc (uc (uc (uc (uc I 2 58 0 0 8) 3 59 0 0 141) 4 60 0 0 8) 5 61 0 0 8) 6 62 0 0 4)
  obtain ⟨I7, e7, h7⟩ := px_c8 I6
  obtain ⟨I8, e8, h8⟩ := px_c9 I7
  refine ⟨I8, ?_, be_join (a := 0) (b := 56) (by omega) (rc_1 I 2 58 8) (rc_1 _ 3 59 141) (rc_1 _ 4 60 8) (rc_1 _ 5 61 8) (rc_1 _ 6 62 4) h6 h7 h8⟩
  have h0 : cpk (nI 0) (nI 0) (nI 4) 4 4 = true := by decide
  unfold xs_be_57
  simp (disch := omega) only [pz_0, pz_4, px_copyN, pz_bs, e6, e7, e8, h0, pz_ck, pz_lt, pz_ix]
theorem px_be1 (I : PI) (T : PT) : ∃ I8, xs_be_1 I T = some (I8, uc T 66 10 0 0 4) ∧ BeR I8 I 56 0 := by
  obtain ⟨I6, e6, h6⟩ := px_d7 (uc (uc (uc (uc (uc I 58 2 0 0 8) 59 3 0 0 141) 60 4 0 0 8) 61 5 0 0 8) 62 6 0 0 4)
  obtain ⟨I7, e7, h7⟩ := px_d8 I6
  obtain ⟨I8, e8, h8⟩ := px_d9 I7
  refine ⟨I8, ?_, be_join (a := 56) (b := 0) (by omega) (rc_1 I 58 2 8) (rc_1 _ 59 3 141) (rc_1 _ 60 4 8) (rc_1 _ 61 5 8) (rc_1 _ 62 6 4) h6 h7 h8⟩
  have h0 : cpk (nI 0) (nI 0) (nI 4) 4 4 = true := by decide
  unfold xs_be_1
  simp (disch := omega) only [pz_0, pz_4, px_copyN, pz_bs, e6, e7, e8, h0, pz_ck, pz_lt, pz_ix]
theorem pm_copy (B : PI) {a b : Nat} (hab : a ≠ b) : ∃ A, m_copy B a b = some A ∧ (∀ i, i < 1691 → A b i = B a i) ∧ ∀ k, k ≠ b → A k = B k := by
  obtain ⟨A, ⟨a1, a2, a3⟩, e⟩ := pz_loop (fun k v A => m_copy_l2 a b k (nI v) A) 1691 (fun A => some A) (fun v A => (∀ i, i < v → A b i = B a i) ∧ (∀ k, k ≠ b → A k = B k) ∧ True) (fun k A _ => by
    show m_copy_b2 a b (m_copy_l2 a b k) (nI 1691) A = some A
    unfold m_copy_b2
    simp (disch := omega) only [pz_0, pz_1, pz_2, pz_3, pz_4, pz_5, pz_6, pz_7, pz_8, pz_9, pz_10, pz_11, pz_12, pz_13, pz_14, pz_15, pz_16, pz_20, pz_21, pz_22, pz_24, pz_25, pz_30, pz_31, pz_32, pz_35, pz_40, pz_41, pz_42, pz_43, pz_45, pz_47, pz_48, pz_52, pz_57, pz_58, pz_59, pz_60, pz_61, pz_62, pz_63, pz_65, pz_85, pz_90, pz_97, pz_98, pz_99, pz_100, pz_101, pz_102, pz_103, pz_104, pz_105, pz_107, pz_108, pz_109, pz_110, pz_111, pz_112, pz_114, pz_115, pz_116, pz_119, pz_120, pz_121, pz_122, pz_125, pz_127, pz_153, pz_200, pz_201, pz_202, pz_203, pz_204, pz_205, pz_206, pz_207, pz_208, pz_209, pz_210, pz_211, pz_212, pz_213, pz_214, pz_215, pz_216, pz_217, pz_218, pz_219, pz_220, pz_221, pz_222, pz_223, pz_224, pz_225, pz_255, pz_256, pz_271, pz_300, pz_301, pz_302, pz_303, pz_304, pz_400, pz_401, pz_521, pz_705, pz_1000, pz_1508, pz_1661, pz_1691, pz_2400, pz_3125, pz_9999, pz_10000, pz_30703, pz_65536, pz_99999, pz_1000000, pz_lt, pz_ck, pz_u2, pz_u3, pz_u4, pz_bs, pz_ix, pz_inb, pz_add, pz_mul, pz_sub, nI_leI, nI_ltI, nI_eq, pz_bIt, pz_bIf, pz_isb, pz_isb0, pz_isb1, pz_bI0, pz_bI1, Nat.zero_le, true_and, and_true, decide_true, decide_false, Bool.true_eq_false, Bool.false_eq_true, if_true, if_false, Nat.reduceAdd, Nat.reduceMul, Nat.reduceSub, Nat.reduceEqDiff, Nat.reduceLeDiff, Nat.reduceLT, Nat.one_ne_zero, Nat.zero_ne_one, Nat.le_refl]) (fun k v A hv hA => by
    obtain ⟨a1, a2, -⟩ := hA
    refine ⟨u2 A b v (A a v), ?_, fun i hi => ?_, fun k hk => ?_, trivial⟩
    · show m_copy_b2 a b (m_copy_l2 a b k) (nI v) A = _
      unfold m_copy_b2
      simp (disch := omega) only [pz_0, pz_1, pz_2, pz_3, pz_4, pz_5, pz_6, pz_7, pz_8, pz_9, pz_10, pz_11, pz_12, pz_13, pz_14, pz_15, pz_16, pz_20, pz_21, pz_22, pz_24, pz_25, pz_30, pz_31, pz_32, pz_35, pz_40, pz_41, pz_42, pz_43, pz_45, pz_47, pz_48, pz_52, pz_57, pz_58, pz_59, pz_60, pz_61, pz_62, pz_63, pz_65, pz_85, pz_90, pz_97, pz_98, pz_99, pz_100, pz_101, pz_102, pz_103, pz_104, pz_105, pz_107, pz_108, pz_109, pz_110, pz_111, pz_112, pz_114, pz_115, pz_116, pz_119, pz_120, pz_121, pz_122, pz_125, pz_127, pz_153, pz_200, pz_201, pz_202, pz_203, pz_204, pz_205, pz_206, pz_207, pz_208, pz_209, pz_210, pz_211, pz_212, pz_213, pz_214, pz_215, pz_216, pz_217, pz_218, pz_219, pz_220, pz_221, pz_222, pz_223, pz_224, pz_225, pz_255, pz_256, pz_271, pz_300, pz_301, pz_302, pz_303, pz_304, pz_400, pz_401, pz_521, pz_705, pz_1000, pz_1508, pz_1661, pz_1691, pz_2400, pz_3125, pz_9999, pz_10000, pz_30703, pz_65536, pz_99999, pz_1000000, pz_lt, pz_ck, pz_u2, pz_u3, pz_u4, pz_bs, pz_ix, pz_inb, pz_add, pz_mul, pz_sub, nI_leI, nI_ltI, nI_eq, pz_bIt, pz_bIf, pz_isb, pz_isb0, pz_isb1, pz_bI0, pz_bI1, Nat.zero_le, true_and, and_true, decide_true, decide_false, Bool.true_eq_false, Bool.false_eq_true, if_true, if_false, Nat.reduceAdd, Nat.reduceMul, Nat.reduceSub, Nat.reduceEqDiff, Nat.reduceLeDiff, Nat.reduceLT, Nat.one_ne_zero, Nat.zero_ne_one, Nat.not_le.mpr hv]
    · by_cases c : i = v
      · subst c
        rw [u2_eq, a2 a hab]
      · rw [u2_ne _ _ (Or.inr c)]
        exact a1 i (by omega)
    · rw [u2_row _ _ _ _ hk]
      exact a2 k hk) 1691 fu 0 B (by omega) (fu_gt (by decide)) ⟨fun i hi => absurd hi (Nat.not_lt_zero i), fun _ _ => rfl, trivial⟩
  refine ⟨A, ?_, a1, a2⟩
  unfold m_copy
  have e : m_copy_l2 a b fu 0 B = some A := e
  rw [e]
  rfl
section IB
variable {s si : SN} {I : PI} {T : PT} {X : TS} {tN : XCo} {I' : PI} {J' : PJ}
theorem CTex.mix {t z : SN} {R R1 : Nat → Option Nat} {tx : Nat → Int32} (h : CTex t R X tx) (hV : t 2 3 ≤ 4) (e : ∀ i, i < 4 → R1 i = R i) : CTex (mix t z) R1 X tx := by
  intro i hi
  rw [mix_at (k := 2) (j := 3) (by decide)] at hi
  rw [e i (by omega)]
  exact h i hi
theorem pu_image (h : CC s si I T X tN I' J') : ∃ (r : Int32) (s1 : SN) (I1 : PI) (I1' : PI), x_image I T = some (r, I1, uc T 10 66 0 0 4) ∧ m_image I' = some (r, I1') ∧ CC s s1 I1 (uc T 10 66 0 0 4) X tN I1' J' := by
  obtain ⟨I8, e1, q1, q2⟩ := px_be57 I T
  obtain ⟨A, e2, a1, a2⟩ := pm_copy I' (a := 1) (b := 2) (by omega)
  obtain ⟨⟨b1, b2, b3, b4, b5, b6, b7, b8, b9⟩, ⟨n, n1, n2, n3, n4⟩, ⟨r1, r2⟩, r3, r4, r5, r6, r7⟩ := h
  have hx := b3.1
  have m8 := b5.1.2.2.2.2.2.2.2.2.1
  have v3 := b1.1.2.2.2.1
  refine ⟨nI (s 3 0), mix s si, I8, A, ?_, ?_, ⟨b1, mix_V b1, ⟨fun k j hk hj => ?_, ?_⟩, ⟨fun k j hk hj => ?_, ?_⟩, ?_, mix_M b1 b5 a1, ?_, ?_, ?_⟩, ⟨n, n1, ?_, ?_, fun j hj => ?_⟩, ⟨?_, ?_⟩, fun i d hi hd => ?_, fun k hk => ?_, ?_, ?_, r7⟩
  · unfold x_image
    rw [e1, pz_bs, pz_u2, q2 3 (by omega)]
    simp (disch := omega) only [pz_0, pz_ix, hx]
  · unfold m_image
    simp (disch := omega) only [pz_0, pz_1, pz_2, pz_3, pz_4, pz_5, pz_6, pz_7, pz_8, pz_9, pz_10, pz_11, pz_12, pz_13, pz_14, pz_15, pz_16, pz_20, pz_21, pz_22, pz_24, pz_25, pz_30, pz_31, pz_32, pz_35, pz_40, pz_41, pz_42, pz_43, pz_45, pz_47, pz_48, pz_52, pz_57, pz_58, pz_59, pz_60, pz_61, pz_62, pz_63, pz_65, pz_85, pz_90, pz_97, pz_98, pz_99, pz_100, pz_101, pz_102, pz_103, pz_104, pz_105, pz_107, pz_108, pz_109, pz_110, pz_111, pz_112, pz_114, pz_115, pz_116, pz_119, pz_120, pz_121, pz_122, pz_125, pz_127, pz_153, pz_200, pz_201, pz_202, pz_203, pz_204, pz_205, pz_206, pz_207, pz_208, pz_209, pz_210, pz_211, pz_212, pz_213, pz_214, pz_215, pz_216, pz_217, pz_218, pz_219, pz_220, pz_221, pz_222, pz_223, pz_224, pz_225, pz_255, pz_256, pz_271, pz_300, pz_301, pz_302, pz_303, pz_304, pz_400, pz_401, pz_521, pz_705, pz_1000, pz_1508, pz_1661, pz_1691, pz_2400, pz_3125, pz_9999, pz_10000, pz_30703, pz_65536, pz_99999, pz_1000000, pz_lt, pz_ck, pz_u2, pz_u3, pz_u4, pz_bs, pz_ix, pz_inb, pz_add, pz_mul, pz_sub, nI_leI, nI_ltI, nI_eq, pz_bIt, pz_bIf, pz_isb, pz_isb0, pz_isb1, pz_bI0, pz_bI1, Nat.zero_le, true_and, and_true, decide_true, decide_false, Bool.true_eq_false, Bool.false_eq_true, if_true, if_false, Nat.reduceAdd, Nat.reduceMul, Nat.reduceSub, Nat.reduceEqDiff, Nat.reduceLeDiff, Nat.reduceLT, Nat.one_ne_zero, Nat.zero_ne_one, e2, a2, m8]
  · rw [q2 k (by omega)]; exact b3.1 k j hk hj
  · rw [q2 2 (by omega)]; exact b3.2
  · show I8 (k + 56) j = nI (if j < wd k then s k j else si k j)
    rw [Nat.add_comm k 56, q1 k j hk, Nat.zero_add]
    by_cases c : j < wd k
    · rw [if_pos c, if_pos c]; exact b3.1 k j hk hj
    · rw [if_neg c, if_neg c, Nat.add_comm 56 k]; exact b4.1 k j hk hj
  · show I8 (2 + 56) 4 = nI (mix s si 2 4) - nI 1
    rw [mix_at (k := 2) (j := 4) (by decide), Nat.add_comm 2 56, q1 2 4 (by omega), if_pos (by decide), Nat.zero_add]
    exact b3.2
  · rw [a2 1 (by omega)]; exact b5
  · rw [mix_at (k := 2) (j := 3) (by decide)]; exact Nat.le_refl _
  · rw [a2 3 (by omega), uc_ne _ (by omega)]; exact b8
  · rw [a2 3 (by omega)]
    exact CTex.mix b8 v3 (fun i hi => uc_j _ hi)
  · rw [q2 0 (by omega)]; exact n2
  · rw [a2 0 (by omega)]; exact n3
  · rw [q2 113 (by omega), a2 9 (by omega)]; exact n4 j hj
  · rw [q2 0 (by omega), a2 0 (by omega)]; exact r1
  · rw [q2 0 (by omega), a2 0 (by omega)]; exact r2
  · rw [q2 _ (by omega), q2 _ (by omega), a2 4 (by omega), a2 5 (by omega)]; exact r3 i d hi hd
  · rw [a2 6 (by omega)]; exact r4 k hk
  · exact r5.of (by rw [a2 0 (by omega)]) (by rw [a2 0 (by omega)]) (by rw [a2 0 (by omega)])
  · rw [a2 0 (by omega)]; exact r6
theorem pu_back (h : CC s si I T X tN I' J') : ∃ (r : Int32) (s1 : SN) (I1 : PI) (I1' : PI), x_back I T = some (r, I1, uc T 66 10 0 0 4) ∧ m_back I' = some (r, I1') ∧ CC s1 si I1 (uc T 66 10 0 0 4) X tN I1' J' := by
  obtain ⟨I8, e1, q1, q2⟩ := px_be1 I T
  obtain ⟨A, e2, a1, a2⟩ := pm_copy I' (a := 2) (b := 1) (by omega)
  obtain ⟨⟨b1, b2, b3, b4, b5, b6, b7, b8, b9⟩, ⟨n, n1, n2, n3, n4⟩, ⟨r1, r2⟩, r3, r4, r5, r6, r7⟩ := h
  have m8 := b6.1.2.2.2.2.2.2.2.2.1
  have v3 := b2.1.2.2.2.1
  have g1 : ∀ k j, (2 ≤ k ∧ k < 7) ∨ (11 ≤ k ∧ k < 57) → I8 k j = if j < wd k then I (k + 56) j else I k j := fun k j hk => by
    have := q1 k j hk
    rw [Nat.zero_add, Nat.add_comm 56 k] at this
    exact this
  refine ⟨nI (si 3 0), mix si s, I8, A, ?_, ?_, ⟨mix_V b2, b2, ⟨fun k j hk hj => ?_, ?_⟩, ⟨fun k j hk hj => ?_, ?_⟩, mix_M b2 b6 a1, ?_, ?_, ?_, ?_⟩, ⟨n, n1, ?_, ?_, fun j hj => ?_⟩, ⟨?_, ?_⟩, fun i d hi hd => ?_, fun k hk => ?_, ?_, ?_, r7⟩
  · unfold x_back
    rw [e1, pz_bs, pz_u2, pz_0, pz_ix (by omega), g1 3 0 (by omega), if_pos (by decide)]
    have := b4.1 3 0 (by omega) (by omega)
    have this : I (3 + 56) 0 = nI (si 3 0) := this
    rw [this]
  · unfold m_back
    simp (disch := omega) only [pz_0, pz_1, pz_2, pz_3, pz_4, pz_5, pz_6, pz_7, pz_8, pz_9, pz_10, pz_11, pz_12, pz_13, pz_14, pz_15, pz_16, pz_20, pz_21, pz_22, pz_24, pz_25, pz_30, pz_31, pz_32, pz_35, pz_40, pz_41, pz_42, pz_43, pz_45, pz_47, pz_48, pz_52, pz_57, pz_58, pz_59, pz_60, pz_61, pz_62, pz_63, pz_65, pz_85, pz_90, pz_97, pz_98, pz_99, pz_100, pz_101, pz_102, pz_103, pz_104, pz_105, pz_107, pz_108, pz_109, pz_110, pz_111, pz_112, pz_114, pz_115, pz_116, pz_119, pz_120, pz_121, pz_122, pz_125, pz_127, pz_153, pz_200, pz_201, pz_202, pz_203, pz_204, pz_205, pz_206, pz_207, pz_208, pz_209, pz_210, pz_211, pz_212, pz_213, pz_214, pz_215, pz_216, pz_217, pz_218, pz_219, pz_220, pz_221, pz_222, pz_223, pz_224, pz_225, pz_255, pz_256, pz_271, pz_300, pz_301, pz_302, pz_303, pz_304, pz_400, pz_401, pz_521, pz_705, pz_1000, pz_1508, pz_1661, pz_1691, pz_2400, pz_3125, pz_9999, pz_10000, pz_30703, pz_65536, pz_99999, pz_1000000, pz_lt, pz_ck, pz_u2, pz_u3, pz_u4, pz_bs, pz_ix, pz_inb, pz_add, pz_mul, pz_sub, nI_leI, nI_ltI, nI_eq, pz_bIt, pz_bIf, pz_isb, pz_isb0, pz_isb1, pz_bI0, pz_bI1, Nat.zero_le, true_and, and_true, decide_true, decide_false, Bool.true_eq_false, Bool.false_eq_true, if_true, if_false, Nat.reduceAdd, Nat.reduceMul, Nat.reduceSub, Nat.reduceEqDiff, Nat.reduceLeDiff, Nat.reduceLT, Nat.one_ne_zero, Nat.zero_ne_one, e2]
    rw [a1 8 (by omega), m8]
  · rw [g1 k j hk]
    show _ = nI (if j < wd k then si k j else s k j)
    by_cases c : j < wd k
    · rw [if_pos c, if_pos c]; exact b4.1 k j hk hj
    · rw [if_neg c, if_neg c]; exact b3.1 k j hk hj
  · rw [g1 2 4 (by omega), if_pos (by decide), mix_at (k := 2) (j := 4) (by decide)]
    exact b4.2
  · show I8 (k + 56) j = _
    rw [q2 _ (by omega)]; exact b4.1 k j hk hj
  · show I8 (2 + 56) 4 = _
    rw [q2 _ (by omega)]; exact b4.2
  · rw [a2 2 (by omega)]; exact b6
  · rw [mix_at (k := 2) (j := 3) (by decide)]; exact Nat.le_refl _
  · rw [a2 3 (by omega)]
    exact CTex.mix b9 v3 (fun i hi => uc_j _ hi)
  · rw [a2 3 (by omega), uc_ne _ (by omega)]; exact b9
  · rw [q2 0 (by omega)]; exact n2
  · rw [a2 0 (by omega)]; exact n3
  · rw [q2 113 (by omega), a2 9 (by omega)]; exact n4 j hj
  · rw [q2 0 (by omega), a2 0 (by omega)]; exact r1
  · rw [q2 0 (by omega), a2 0 (by omega)]; exact r2
  · rw [q2 _ (by omega), q2 _ (by omega), a2 4 (by omega), a2 5 (by omega)]; exact r3 i d hi hd
  · rw [a2 6 (by omega)]; exact r4 k hk
  · exact r5.of (by rw [a2 0 (by omega)]) (by rw [a2 0 (by omega)]) (by rw [a2 0 (by omega)])
  · rw [a2 0 (by omega)]; exact r6
end IB
