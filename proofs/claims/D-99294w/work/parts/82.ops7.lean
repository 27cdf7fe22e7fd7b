/-! members one by one, 7: end, feed; seen, say -/
def FT (f c : Nat) (I I1 : PI) : Prop := (∀ k, k ≠ 0 → k ≠ c → I1 k = I k) ∧ ∀ i, i ≠ f → I1 0 i = I 0 i
theorem FT.rf {f c : Nat} {I : PI} : FT f c I I := ⟨fun _ _ _ => rfl, fun _ _ => rfl⟩
theorem FT.tr {f c : Nat} {I I1 I2 : PI} (h : FT f c I I1) (g : FT f c I1 I2) : FT f c I I2 := ⟨fun k h1 h2 => (g.1 k h1 h2).trans (h.1 k h1 h2), fun i hi => (g.2 i hi).trans (h.2 i hi)⟩
theorem ftU {f c i : Nat} {I : PI} {v : Int32} (hc : c ≠ 0) : FT f c I (u2 I c i v) := ⟨fun k h1 h2 => u2_row _ _ _ _ h2, fun j hj => u2_ne _ _ (Or.inl (by omega))⟩
theorem ftU0 {f c : Nat} {I : PI} {v : Int32} : FT f c I (u2 I 0 f v) := ⟨fun k h1 h2 => u2_row _ _ _ _ h1, fun j hj => u2_ne _ _ (Or.inr hj)⟩
def TP (t : Nat) (I I' : PI) : Prop := I 0 3 = nI t ∧ I' 0 9 = nI t ∧ ∀ j, j < t → ∃ b, b < 256 ∧ I 113 j = (nI b).toInt8.toInt32 ∧ I' 9 j = nI b
theorem pz_byte (w : Int32) : ∃ b, b < 256 ∧ w &&& nI 255 = nI b ∧ vp_nar .byte (Int8.toInt32 (Int32.toInt8 w)) = (nI b).toInt8.toInt32 := by
  have h := pk_and w (m := nI 255) 8 (by decide)
  refine ⟨w.toBitVec.toNat % 2 ^ 8, Nat.mod_lt _ (by decide), h, ?_⟩
  rw [pk_vb]
  congr 1
  apply Int8.toBitVec_inj.mp
  apply BitVec.eq_of_toNat_eq
  have h2 : (nI (w.toBitVec.toNat % 2 ^ 8)).toBitVec.toNat = w.toBitVec.toNat % 2 ^ 8 := pk_tn (by omega)
  rw [Int32.toBitVec_toInt8, Int32.toBitVec_toInt8, BitVec.signExtend_eq_setWidth_of_le _ (by decide), BitVec.signExtend_eq_setWidth_of_le _ (by decide), BitVec.toNat_setWidth, BitVec.toNat_setWidth, h2]
  omega
section OPH
variable {s si : SN} {I : PI} {T : PT} {X : TS} {tN : XCo} {I' : PI} {J' : PJ}
theorem CC.tap (h : CC s si I T X tN I' J') {I1 I1' : PI} (hx : FT 3 113 I I1) (hm : FT 9 9 I' I1') {t : Nat} (ht : t ≤ 300) (hT : TP t I1 I1') : CC s si I1 T X tN I1' J' := by
  obtain ⟨⟨b1, b2, b3, b4, b5, b6, b7, b8, b9⟩, -, ⟨r1, r2⟩, r3, r4, r5, r6, r7⟩ := h
  obtain ⟨x1, x2⟩ := hx
  obtain ⟨m1, m2⟩ := hm
  refine ⟨⟨b1, b2, ⟨fun k j hk hj => ?_, ?_⟩, ⟨fun k j hk hj => ?_, ?_⟩, ?_, ?_, b7, ?_, ?_⟩, ⟨t, ht, hT⟩, ⟨?_, ?_⟩, fun i d hi hd => ?_, fun k hk => ?_, ?_, ?_, r7⟩
  · rw [x1 k (by omega) (by omega)]; exact b3.1 k j hk hj
  · rw [x1 2 (by omega) (by omega)]; exact b3.2
  · show I1 (k + 56) j = _
    rw [x1 _ (by omega) (by omega)]; exact b4.1 k j hk hj
  · show I1 (2 + 56) 4 = _
    rw [x1 _ (by omega) (by omega)]; exact b4.2
  · rw [m1 1 (by omega) (by omega)]; exact b5
  · rw [m1 2 (by omega) (by omega)]; exact b6
  · rw [m1 3 (by omega) (by omega)]; exact b8
  · rw [m1 3 (by omega) (by omega)]; exact b9
  · rw [x2 4 (by omega), m2 10 (by omega)]; exact r1
  · rw [x2 5 (by omega), m2 11 (by omega)]; exact r2
  · rw [x1 _ (by omega) (by omega), x1 _ (by omega) (by omega), m1 4 (by omega) (by omega), m1 5 (by omega) (by omega)]; exact r3 i d hi hd
  · rw [m1 6 (by omega) (by omega)]; exact r4 k hk
  · exact r5.of (m2 _ (by omega)) (m2 _ (by omega)) (m2 _ (by omega))
  · rw [m2 36 (by omega)]; exact r6
theorem pu_end (h : CC s si I T X tN I' J') (a : Int32) : ∃ (r : Int32) (I1 I1' : PI), x_end I a = some (r, I1) ∧ m_end I' a = some (r, I1') ∧ CC s si I1 T X tN I1' J' := by
  obtain ⟨n, hn, t1, t2, t3⟩ := h.2.1
  obtain ⟨b, e, q⟩ := pz_rng a 0 n (by omega) (by omega)
  unfold x_end m_end
  cases b with
  | false => exact ⟨-nI 1, I, I', by simp (disch := omega) only [pz_0, pz_1, pz_3, pz_4, pz_9, pz_60, pz_99, pz_119, pz_lt, pz_bs, pz_isb, pz_isb0, pz_isb1, pz_bI0, pz_bIf, if_true, Bool.true_eq_false, if_false, pz_ck, x_in_s, t1, e], by simp (disch := omega) only [pz_0, pz_1, pz_3, pz_4, pz_9, pz_60, pz_99, pz_119, pz_lt, pz_bs, pz_isb, pz_isb0, pz_isb1, pz_bI0, pz_bIf, if_true, Bool.true_eq_false, if_false, pz_ck, m_isIn_s, t2, e], h⟩
  | true =>
    obtain ⟨p, -, hp, rfl⟩ := q rfl
    exact ⟨nI p, u2 I 0 3 (nI p), u2 I' 0 9 (nI p), by simp (disch := omega) only [pz_0, pz_1, pz_3, pz_4, pz_9, pz_60, pz_99, pz_119, pz_lt, pz_bs, pz_isb, pz_isb0, pz_isb1, pz_bI0, pz_bIf, if_true, Bool.true_eq_false, if_false, pz_ck, x_in_s, t1, e], by simp (disch := omega) only [pz_0, pz_1, pz_3, pz_4, pz_9, pz_60, pz_99, pz_119, pz_lt, pz_bs, pz_isb, pz_isb0, pz_isb1, pz_bI0, pz_bIf, if_true, Bool.true_eq_false, if_false, pz_ck, m_isIn_s, t2, e], h.tap ftU0 ftU0 (t := p) (by omega) ⟨u2_eq _ _ _ _, u2_eq _ _ _ _, fun j hj => by simp (disch := omega) only [pz_row, pz_at, pz_no]; exact t3 j (by omega)⟩⟩
theorem pe_put1 {I I' : PI} {t : Nat} (ht : t < 300) (h : TP t I I') (a : Int32) (v : Nat) (hv : v < 32) : ∃ I1 I1', (∀ self, x_put_b3 a self (nI v) I = self (nI v + -nI 8) I1) ∧ (∀ self, m_four_b3 a self (nI v) I' = self (nI v + -nI 8) I1') ∧ TP (t + 1) I1 I1' ∧ FT 3 113 I I1 ∧ FT 9 9 I' I1' := by
  obtain ⟨h1, h2, h3⟩ := h
  obtain ⟨b, hb, e1, e2⟩ := pz_byte (a >>> (nI v &&& nI 31))
  refine ⟨u2 (u2 I 113 t (nI b).toInt8.toInt32) 0 3 (nI (t + 1)), u2 (u2 I' 9 t (nI b)) 0 9 (nI (t + 1)), fun self => ?_, fun self => ?_, ⟨u2_eq _ _ _ _, u2_eq _ _ _ _, fun j hj => ?_⟩, (ftU (by decide)).tr ftU0, (ftU (by decide)).tr ftU0⟩
  · unfold x_put_b3
    simp (disch := omega) only [pz_0, pz_1, pz_2, pz_3, pz_4, pz_5, pz_6, pz_7, pz_8, pz_9, pz_10, pz_11, pz_12, pz_13, pz_14, pz_15, pz_16, pz_20, pz_21, pz_22, pz_24, pz_25, pz_30, pz_31, pz_32, pz_35, pz_40, pz_41, pz_42, pz_43, pz_45, pz_47, pz_48, pz_52, pz_57, pz_58, pz_59, pz_60, pz_61, pz_62, pz_63, pz_65, pz_85, pz_90, pz_97, pz_98, pz_99, pz_100, pz_101, pz_102, pz_103, pz_104, pz_105, pz_107, pz_108, pz_109, pz_110, pz_111, pz_112, pz_114, pz_115, pz_116, pz_119, pz_120, pz_121, pz_122, pz_125, pz_127, pz_153, pz_200, pz_201, pz_202, pz_203, pz_204, pz_205, pz_206, pz_207, pz_208, pz_209, pz_210, pz_211, pz_212, pz_213, pz_214, pz_215, pz_216, pz_217, pz_218, pz_219, pz_220, pz_221, pz_222, pz_223, pz_224, pz_225, pz_255, pz_256, pz_271, pz_300, pz_301, pz_302, pz_303, pz_304, pz_400, pz_401, pz_521, pz_705, pz_1000, pz_1508, pz_1661, pz_1691, pz_2400, pz_3125, pz_9999, pz_10000, pz_30703, pz_65536, pz_99999, pz_1000000, pz_lt, pz_ck, pz_u2, pz_u3, pz_u4, pz_bs, pz_ix, pz_inb, pz_add, pz_mul, pz_sub, nI_leI, nI_ltI, nI_eq, pz_bIt, pz_bIf, pz_isb, pz_isb0, pz_isb1, pz_bI0, pz_bI1, Nat.zero_le, true_and, and_true, decide_true, decide_false, Bool.true_eq_false, Bool.false_eq_true, if_true, if_false, Nat.reduceAdd, Nat.reduceMul, Nat.reduceSub, Nat.reduceEqDiff, Nat.reduceLeDiff, Nat.reduceLT, Nat.one_ne_zero, Nat.zero_ne_one, h1, e2, pz_row, pz_at, pz_no, Nat.not_lt_zero]
  · unfold m_four_b3
    simp (disch := omega) only [pz_0, pz_1, pz_2, pz_3, pz_4, pz_5, pz_6, pz_7, pz_8, pz_9, pz_10, pz_11, pz_12, pz_13, pz_14, pz_15, pz_16, pz_20, pz_21, pz_22, pz_24, pz_25, pz_30, pz_31, pz_32, pz_35, pz_40, pz_41, pz_42, pz_43, pz_45, pz_47, pz_48, pz_52, pz_57, pz_58, pz_59, pz_60, pz_61, pz_62, pz_63, pz_65, pz_85, pz_90, pz_97, pz_98, pz_99, pz_100, pz_101, pz_102, pz_103, pz_104, pz_105, pz_107, pz_108, pz_109, pz_110, pz_111, pz_112, pz_114, pz_115, pz_116, pz_119, pz_120, pz_121, pz_122, pz_125, pz_127, pz_153, pz_200, pz_201, pz_202, pz_203, pz_204, pz_205, pz_206, pz_207, pz_208, pz_209, pz_210, pz_211, pz_212, pz_213, pz_214, pz_215, pz_216, pz_217, pz_218, pz_219, pz_220, pz_221, pz_222, pz_223, pz_224, pz_225, pz_255, pz_256, pz_271, pz_300, pz_301, pz_302, pz_303, pz_304, pz_400, pz_401, pz_521, pz_705, pz_1000, pz_1508, pz_1661, pz_1691, pz_2400, pz_3125, pz_9999, pz_10000, pz_30703, pz_65536, pz_99999, pz_1000000, pz_lt, pz_ck, pz_u2, pz_u3, pz_u4, pz_bs, pz_ix, pz_inb, pz_add, pz_mul, pz_sub, nI_leI, nI_ltI, nI_eq, pz_bIt, pz_bIf, pz_isb, pz_isb0, pz_isb1, pz_bI0, pz_bI1, Nat.zero_le, true_and, and_true, decide_true, decide_false, Bool.true_eq_false, Bool.false_eq_true, if_true, if_false, Nat.reduceAdd, Nat.reduceMul, Nat.reduceSub, Nat.reduceEqDiff, Nat.reduceLeDiff, Nat.reduceLT, Nat.one_ne_zero, Nat.zero_ne_one, h2, e1, pz_row, pz_at, pz_no, Nat.not_lt_zero]
  · by_cases c : j = t
    · refine ⟨b, hb, ?_, ?_⟩ <;> simp (disch := omega) only [pz_row, pz_at, pz_no]
    · simp (disch := omega) only [pz_row, pz_at, pz_no]
      exact h3 j (by omega)
theorem pz_n8 : nI 24 + -nI 8 = nI 16 ∧ nI 16 + -nI 8 = nI 8 ∧ nI 8 + -nI 8 = nI 0 ∧ nI 0 + -nI 8 = -nI 8 ∧ (-nI 8 : Int32) < 0 := by decide
theorem pe_put {I I' : PI} {t : Nat} (ht : t + 4 ≤ 300) (h : TP t I I') (a : Int32) : ∃ I1 I1', x_put I a = some I1 ∧ m_four I' a = some I1' ∧ TP (t + 4) I1 I1' ∧ FT 3 113 I I1 ∧ FT 9 9 I' I1' := by
  obtain ⟨n1, n2, n3, n4, n5⟩ := pz_n8
  obtain ⟨A, A', a1, a2, a3, a4, a5⟩ := pe_put1 (by omega) h a 24 (by decide)
  obtain ⟨B, B', b1, b2, b3, b4, b5⟩ := pe_put1 (by omega) a3 a 16 (by decide)
  obtain ⟨C, C', c1, c2, c3, c4, c5⟩ := pe_put1 (by omega) b3 a 8 (by decide)
  obtain ⟨E, E', d1, d2, d3, d4, d5⟩ := pe_put1 (by omega) c3 a 0 (by decide)
  refine ⟨E, E', ?_, ?_, d3, ((a4.tr b4).tr c4).tr d4, ((a5.tr b5).tr c5).tr d5⟩
  · unfold x_put
    have e : x_put_l3 a fu 24 I = some E := by
      show x_put_b3 a (x_put_l3 a (fu - 1)) (nI 24) I = some E
      rw [a1, n1]
      show x_put_b3 a (x_put_l3 a (fu - 2)) (nI 16) A = some E
      rw [b1, n2]
      show x_put_b3 a (x_put_l3 a (fu - 3)) (nI 8) B = some E
      rw [c1, n3]
      show x_put_b3 a (x_put_l3 a (fu - 4)) (nI 0) C = some E
      rw [d1, n4]
      show x_put_b3 a (x_put_l3 a (fu - 5)) (-nI 8) E = some E
      unfold x_put_b3
      rw [if_pos n5]
    rw [e]
    rfl
  · unfold m_four
    have e : m_four_l3 a fu 24 I' = some E' := by
      show m_four_b3 a (m_four_l3 a (fu - 1)) (nI 24) I' = some E'
      rw [a2, n1]
      show m_four_b3 a (m_four_l3 a (fu - 2)) (nI 16) A' = some E'
      rw [b2, n2]
      show m_four_b3 a (m_four_l3 a (fu - 3)) (nI 8) B' = some E'
      rw [c2, n3]
      show m_four_b3 a (m_four_l3 a (fu - 4)) (nI 0) C' = some E'
      rw [d2, n4]
      show m_four_b3 a (m_four_l3 a (fu - 5)) (-nI 8) E' = some E'
      unfold m_four_b3
      rw [if_pos n5]
    rw [e]
    rfl
theorem pu_feed (h : CC s si I T X tN I' J') (a b c d e : Int32) : ∃ (r : Int32) (I1 I1' : PI), x_feed I a b c d e = some (r, I1) ∧ m_feed I' a b c d e = some (r, I1') ∧ CC s si I1 T X tN I1' J' := by
  obtain ⟨n, hn, t1, t2, t3⟩ := h.2.1
  unfold x_feed m_feed
  by_cases k : n + 20 ≤ 300
  · obtain ⟨A, A', a1, a2, a3, a4, a5⟩ := pe_put (t := n) (by omega) ⟨t1, t2, t3⟩ a
    obtain ⟨B, B', b1, b2, b3, b4, b5⟩ := pe_put (by omega) a3 b
    obtain ⟨C, C', c1, c2, c3, c4, c5⟩ := pe_put (by omega) b3 c
    obtain ⟨E, E', d1, d2, d3, d4, d5⟩ := pe_put (by omega) c3 d
    obtain ⟨F, F', f1, f2, f3, f4, f5⟩ := pe_put (by omega) d3 e
    refine ⟨nI (n + 4 + 4 + 4 + 4 + 4), F, F', ?_, ?_, h.tap ((((a4.tr b4).tr c4).tr d4).tr f4) ((((a5.tr b5).tr c5).tr d5).tr f5) (by omega) f3⟩
    · simp (disch := omega) only [pz_0, pz_1, pz_2, pz_3, pz_4, pz_5, pz_6, pz_7, pz_8, pz_9, pz_10, pz_11, pz_12, pz_13, pz_14, pz_15, pz_16, pz_20, pz_21, pz_22, pz_24, pz_25, pz_30, pz_31, pz_32, pz_35, pz_40, pz_41, pz_42, pz_43, pz_45, pz_47, pz_48, pz_52, pz_57, pz_58, pz_59, pz_60, pz_61, pz_62, pz_63, pz_65, pz_85, pz_90, pz_97, pz_98, pz_99, pz_100, pz_101, pz_102, pz_103, pz_104, pz_105, pz_107, pz_108, pz_109, pz_110, pz_111, pz_112, pz_114, pz_115, pz_116, pz_119, pz_120, pz_121, pz_122, pz_125, pz_127, pz_153, pz_200, pz_201, pz_202, pz_203, pz_204, pz_205, pz_206, pz_207, pz_208, pz_209, pz_210, pz_211, pz_212, pz_213, pz_214, pz_215, pz_216, pz_217, pz_218, pz_219, pz_220, pz_221, pz_222, pz_223, pz_224, pz_225, pz_255, pz_256, pz_271, pz_300, pz_301, pz_302, pz_303, pz_304, pz_400, pz_401, pz_521, pz_705, pz_1000, pz_1508, pz_1661, pz_1691, pz_2400, pz_3125, pz_9999, pz_10000, pz_30703, pz_65536, pz_99999, pz_1000000, pz_lt, pz_ck, pz_u2, pz_u3, pz_u4, pz_bs, pz_ix, pz_inb, pz_add, pz_mul, pz_sub, nI_leI, nI_ltI, nI_eq, pz_bIt, pz_bIf, pz_isb, pz_isb0, pz_isb1, pz_bI0, pz_bI1, Nat.zero_le, true_and, and_true, decide_true, decide_false, Bool.true_eq_false, Bool.false_eq_true, if_true, if_false, Nat.reduceAdd, Nat.reduceMul, Nat.reduceSub, Nat.reduceEqDiff, Nat.reduceLeDiff, Nat.reduceLT, Nat.one_ne_zero, Nat.zero_ne_one, t1, k, a1, b1, c1, d1, f1, f3.1]
    · simp (disch := omega) only [pz_0, pz_1, pz_2, pz_3, pz_4, pz_5, pz_6, pz_7, pz_8, pz_9, pz_10, pz_11, pz_12, pz_13, pz_14, pz_15, pz_16, pz_20, pz_21, pz_22, pz_24, pz_25, pz_30, pz_31, pz_32, pz_35, pz_40, pz_41, pz_42, pz_43, pz_45, pz_47, pz_48, pz_52, pz_57, pz_58, pz_59, pz_60, pz_61, pz_62, pz_63, pz_65, pz_85, pz_90, pz_97, pz_98, pz_99, pz_100, pz_101, pz_102, pz_103, pz_104, pz_105, pz_107, pz_108, pz_109, pz_110, pz_111, pz_112, pz_114, pz_115, pz_116, pz_119, pz_120, pz_121, pz_122, pz_125, pz_127, pz_153, pz_200, pz_201, pz_202, pz_203, pz_204, pz_205, pz_206, pz_207, pz_208, pz_209, pz_210, pz_211, pz_212, pz_213, pz_214, pz_215, pz_216, pz_217, pz_218, pz_219, pz_220, pz_221, pz_222, pz_223, pz_224, pz_225, pz_255, pz_256, pz_271, pz_300, pz_301, pz_302, pz_303, pz_304, pz_400, pz_401, pz_521, pz_705, pz_1000, pz_1508, pz_1661, pz_1691, pz_2400, pz_3125, pz_9999, pz_10000, pz_30703, pz_65536, pz_99999, pz_1000000, pz_lt, pz_ck, pz_u2, pz_u3, pz_u4, pz_bs, pz_ix, pz_inb, pz_add, pz_mul, pz_sub, nI_leI, nI_ltI, nI_eq, pz_bIt, pz_bIf, pz_isb, pz_isb0, pz_isb1, pz_bI0, pz_bI1, Nat.zero_le, true_and, and_true, decide_true, decide_false, Bool.true_eq_false, Bool.false_eq_true, if_true, if_false, Nat.reduceAdd, Nat.reduceMul, Nat.reduceSub, Nat.reduceEqDiff, Nat.reduceLeDiff, Nat.reduceLT, Nat.one_ne_zero, Nat.zero_ne_one, t2, k, a2, b2, c2, d2, f2, f3.2.1]
  · exact ⟨-nI 1, I, I', by simp (disch := omega) only [pz_0, pz_1, pz_2, pz_3, pz_4, pz_5, pz_6, pz_7, pz_8, pz_9, pz_10, pz_11, pz_12, pz_13, pz_14, pz_15, pz_16, pz_20, pz_21, pz_22, pz_24, pz_25, pz_30, pz_31, pz_32, pz_35, pz_40, pz_41, pz_42, pz_43, pz_45, pz_47, pz_48, pz_52, pz_57, pz_58, pz_59, pz_60, pz_61, pz_62, pz_63, pz_65, pz_85, pz_90, pz_97, pz_98, pz_99, pz_100, pz_101, pz_102, pz_103, pz_104, pz_105, pz_107, pz_108, pz_109, pz_110, pz_111, pz_112, pz_114, pz_115, pz_116, pz_119, pz_120, pz_121, pz_122, pz_125, pz_127, pz_153, pz_200, pz_201, pz_202, pz_203, pz_204, pz_205, pz_206, pz_207, pz_208, pz_209, pz_210, pz_211, pz_212, pz_213, pz_214, pz_215, pz_216, pz_217, pz_218, pz_219, pz_220, pz_221, pz_222, pz_223, pz_224, pz_225, pz_255, pz_256, pz_271, pz_300, pz_301, pz_302, pz_303, pz_304, pz_400, pz_401, pz_521, pz_705, pz_1000, pz_1508, pz_1661, pz_1691, pz_2400, pz_3125, pz_9999, pz_10000, pz_30703, pz_65536, pz_99999, pz_1000000, pz_lt, pz_ck, pz_u2, pz_u3, pz_u4, pz_bs, pz_ix, pz_inb, pz_add, pz_mul, pz_sub, nI_leI, nI_ltI, nI_eq, pz_bIt, pz_bIf, pz_isb, pz_isb0, pz_isb1, pz_bI0, pz_bI1, Nat.zero_le, true_and, and_true, decide_true, decide_false, Bool.true_eq_false, Bool.false_eq_true, if_true, if_false, Nat.reduceAdd, Nat.reduceMul, Nat.reduceSub, Nat.reduceEqDiff, Nat.reduceLeDiff, Nat.reduceLT, Nat.one_ne_zero, Nat.zero_ne_one, t1, k], by simp (disch := omega) only [pz_0, pz_1, pz_2, pz_3, pz_4, pz_5, pz_6, pz_7, pz_8, pz_9, pz_10, pz_11, pz_12, pz_13, pz_14, pz_15, pz_16, pz_20, pz_21, pz_22, pz_24, pz_25, pz_30, pz_31, pz_32, pz_35, pz_40, pz_41, pz_42, pz_43, pz_45, pz_47, pz_48, pz_52, pz_57, pz_58, pz_59, pz_60, pz_61, pz_62, pz_63, pz_65, pz_85, pz_90, pz_97, pz_98, pz_99, pz_100, pz_101, pz_102, pz_103, pz_104, pz_105, pz_107, pz_108, pz_109, pz_110, pz_111, pz_112, pz_114, pz_115, pz_116, pz_119, pz_120, pz_121, pz_122, pz_125, pz_127, pz_153, pz_200, pz_201, pz_202, pz_203, pz_204, pz_205, pz_206, pz_207, pz_208, pz_209, pz_210, pz_211, pz_212, pz_213, pz_214, pz_215, pz_216, pz_217, pz_218, pz_219, pz_220, pz_221, pz_222, pz_223, pz_224, pz_225, pz_255, pz_256, pz_271, pz_300, pz_301, pz_302, pz_303, pz_304, pz_400, pz_401, pz_521, pz_705, pz_1000, pz_1508, pz_1661, pz_1691, pz_2400, pz_3125, pz_9999, pz_10000, pz_30703, pz_65536, pz_99999, pz_1000000, pz_lt, pz_ck, pz_u2, pz_u3, pz_u4, pz_bs, pz_ix, pz_inb, pz_add, pz_mul, pz_sub, nI_leI, nI_ltI, nI_eq, pz_bIt, pz_bIf, pz_isb, pz_isb0, pz_isb1, pz_bI0, pz_bI1, Nat.zero_le, true_and, and_true, decide_true, decide_false, Bool.true_eq_false, Bool.false_eq_true, if_true, if_false, Nat.reduceAdd, Nat.reduceMul, Nat.reduceSub, Nat.reduceEqDiff, Nat.reduceLeDiff, Nat.reduceLT, Nat.one_ne_zero, Nat.zero_ne_one, t2, k], h⟩
theorem pz_n1 (a : Int32) : (a = -1) = (a = -nI 1) := rfl
theorem pu_seen (h : CC s si I T X tN I' J') (a f : Int32) : ∃ (r : Int32) (s1 : SN) (I1 I1' : PI), x_seen I a f = some (r, I1) ∧ m_seen I' a f = some (r, I1') ∧ CC s1 si I1 T X tN I1' J' := by
  have hV := h.1.1
  have hX := h.1.2.2.1
  have hM := h.1.2.2.2.2.1
  obtain ⟨⟨v0, v1, v2, v3, v4, v5, v6, v7⟩, vr, vf, vs, va, ve, vt⟩ := id hV
  obtain ⟨⟨m0, m1, m2, m3, m4, m5, m6, m7, m8, m9, m10⟩, mp, mf, ms, ma, me, mb, mt⟩ := id hM
  have hx := hX.1
  unfold x_seen m_seen xs_clears
  by_cases c1 : a = -nI 1
  · refine ⟨nI 0, u2 s 2 7 0, u2 I 2 7 (nI 0), u2 I' 1 7 (nI 0), by simp (disch := omega) only [pz_0, pz_1, pz_2, pz_3, pz_4, pz_5, pz_6, pz_7, pz_8, pz_9, pz_10, pz_11, pz_12, pz_13, pz_14, pz_15, pz_16, pz_20, pz_21, pz_22, pz_24, pz_25, pz_30, pz_31, pz_32, pz_35, pz_40, pz_41, pz_42, pz_43, pz_45, pz_47, pz_48, pz_52, pz_57, pz_58, pz_59, pz_60, pz_61, pz_62, pz_63, pz_65, pz_85, pz_90, pz_97, pz_98, pz_99, pz_100, pz_101, pz_102, pz_103, pz_104, pz_105, pz_107, pz_108, pz_109, pz_110, pz_111, pz_112, pz_114, pz_115, pz_116, pz_119, pz_120, pz_121, pz_122, pz_125, pz_127, pz_153, pz_200, pz_201, pz_202, pz_203, pz_204, pz_205, pz_206, pz_207, pz_208, pz_209, pz_210, pz_211, pz_212, pz_213, pz_214, pz_215, pz_216, pz_217, pz_218, pz_219, pz_220, pz_221, pz_222, pz_223, pz_224, pz_225, pz_255, pz_256, pz_271, pz_300, pz_301, pz_302, pz_303, pz_304, pz_400, pz_401, pz_521, pz_705, pz_1000, pz_1508, pz_1661, pz_1691, pz_2400, pz_3125, pz_9999, pz_10000, pz_30703, pz_65536, pz_99999, pz_1000000, pz_lt, pz_ck, pz_u2, pz_u3, pz_u4, pz_bs, pz_ix, pz_inb, pz_add, pz_mul, pz_sub, nI_leI, nI_ltI, nI_eq, pz_bIt, pz_bIf, pz_isb, pz_isb0, pz_isb1, pz_bI0, pz_bI1, Nat.zero_le, true_and, and_true, decide_true, decide_false, Bool.true_eq_false, Bool.false_eq_true, if_true, if_false, Nat.reduceAdd, Nat.reduceMul, Nat.reduceSub, Nat.reduceEqDiff, Nat.reduceLeDiff, Nat.reduceLT, Nat.one_ne_zero, Nat.zero_ne_one, c1], by simp (disch := omega) only [pz_0, pz_1, pz_2, pz_3, pz_4, pz_5, pz_6, pz_7, pz_8, pz_9, pz_10, pz_11, pz_12, pz_13, pz_14, pz_15, pz_16, pz_20, pz_21, pz_22, pz_24, pz_25, pz_30, pz_31, pz_32, pz_35, pz_40, pz_41, pz_42, pz_43, pz_45, pz_47, pz_48, pz_52, pz_57, pz_58, pz_59, pz_60, pz_61, pz_62, pz_63, pz_65, pz_85, pz_90, pz_97, pz_98, pz_99, pz_100, pz_101, pz_102, pz_103, pz_104, pz_105, pz_107, pz_108, pz_109, pz_110, pz_111, pz_112, pz_114, pz_115, pz_116, pz_119, pz_120, pz_121, pz_122, pz_125, pz_127, pz_153, pz_200, pz_201, pz_202, pz_203, pz_204, pz_205, pz_206, pz_207, pz_208, pz_209, pz_210, pz_211, pz_212, pz_213, pz_214, pz_215, pz_216, pz_217, pz_218, pz_219, pz_220, pz_221, pz_222, pz_223, pz_224, pz_225, pz_255, pz_256, pz_271, pz_300, pz_301, pz_302, pz_303, pz_304, pz_400, pz_401, pz_521, pz_705, pz_1000, pz_1508, pz_1661, pz_1691, pz_2400, pz_3125, pz_9999, pz_10000, pz_30703, pz_65536, pz_99999, pz_1000000, pz_lt, pz_ck, pz_u2, pz_u3, pz_u4, pz_bs, pz_ix, pz_inb, pz_add, pz_mul, pz_sub, nI_leI, nI_ltI, nI_eq, pz_bIt, pz_bIf, pz_isb, pz_isb0, pz_isb1, pz_bI0, pz_bI1, Nat.zero_le, true_and, and_true, decide_true, decide_false, Bool.true_eq_false, Bool.false_eq_true, if_true, if_false, Nat.reduceAdd, Nat.reduceMul, Nat.reduceSub, Nat.reduceEqDiff, Nat.reduceLeDiff, Nat.reduceLT, Nat.one_ne_zero, Nat.zero_ne_one, c1], ?_⟩
    refine h.step (fxU (by omega)) (fmU (by omega)) ?_ (xrU hX 0 (by omega)) ?_ (by simp (disch := omega) only [pz_row, pz_at, pz_no]) (h.lea.of (by simp (disch := omega) only [pz_row, pz_at, pz_no]) (by simp (disch := omega) only [pz_row, pz_at, pz_no]) (by simp (disch := omega) only [pz_row, pz_at, pz_no]))
    · refine ⟨?_, ?_, ?_, ?_, ?_, fun i hi => ?_, ?_⟩
      · refine ⟨?_, ?_, ?_, ?_, ?_, ?_, ?_, ?_⟩ <;> (first | (simp (disch := omega) only [pz_row, pz_at, pz_no]; done) | (simp (disch := omega) only [pz_row, pz_at, pz_no]; assumption) | (simp (disch := omega) only [pz_row, pz_at, pz_no]; omega))
      · simp (disch := omega) only [pz_row, pz_at, pz_no]
        exact vr
      · simp (disch := omega) only [pz_row, pz_at, pz_no]
        exact vf
      · simp (disch := omega) only [pz_row, pz_at, pz_no]
        exact vs
      · simp (disch := omega) only [pz_row, pz_at, pz_no]
        exact va
      · simp (disch := omega) only [pz_row, pz_at, pz_no] at hi
        omega
      · simp (disch := omega) only [pz_row, pz_at, pz_no]
        exact vt
    · refine ⟨?_, ?_, ?_, ?_, ?_, fun i j hi hj => ?_, ?_, ?_⟩
      · refine ⟨?_, ?_, ?_, ?_, ?_, ?_, ?_, ?_, ?_, ?_, ?_⟩ <;> (first | (simp (disch := omega) only [pz_row, pz_at, pz_no]; done) | (simp (disch := omega) only [pz_row, pz_at, pz_no]; assumption) | (simp (disch := omega) only [pz_row, pz_at, pz_no]; omega))
      · exact mp.c v1 (by simp (disch := omega) only [pz_row, pz_at, pz_no]) (by simp (disch := omega) only [pz_row, pz_at, pz_no]) (fun i h1 h2 => (by simp (disch := omega) only [pz_row, pz_at, pz_no]))
      · exact mf.c (by simp (disch := omega) only [pz_row, pz_at, pz_no]) (by simp (disch := omega) only [pz_row, pz_at, pz_no]) (fun i h1 h2 => (by simp (disch := omega) only [pz_row, pz_at, pz_no]))
      · exact ms.c v2 (by simp (disch := omega) only [pz_row, pz_at, pz_no]) (by simp (disch := omega) only [pz_row, pz_at, pz_no]) (fun i h1 h2 => (by simp (disch := omega) only [pz_row, pz_at, pz_no]))
      · exact ma.c v6 (by simp (disch := omega) only [pz_row, pz_at, pz_no]) (fun i hi => (by simp (disch := omega) only [pz_row, pz_at, pz_no])) (fun i h1 h2 => (by simp (disch := omega) only [pz_row, pz_at, pz_no]))
      · simp (disch := omega) only [pz_row, pz_at, pz_no] at hi
        omega
      · exact mb.c vr.2.2.1 (by simp (disch := omega) only [pz_row, pz_at, pz_no]) (fun i h1 h2 => (by simp (disch := omega) only [pz_row, pz_at, pz_no]))
      · exact mt.c hV (by simp (disch := omega) only [pz_row, pz_at, pz_no]) (by simp (disch := omega) only [pz_row, pz_at, pz_no]) (fun i hi => (by simp (disch := omega) only [pz_row, pz_at, pz_no])) (fun i h1 h2 => (by simp (disch := omega) only [pz_row, pz_at, pz_no])) (fun p w h1 h2 h3 => (by simp (disch := omega) only [pz_row, pz_at, pz_no]))
  · obtain ⟨b, e1, e2, q⟩ := pe_isPerson hV hX hM a
    cases b with
    | false => exact ⟨-nI 2, s, I, I', by simp (disch := omega) only [pz_0, pz_1, pz_3, pz_4, pz_9, pz_60, pz_99, pz_119, pz_lt, pz_bs, pz_isb, pz_isb0, pz_isb1, pz_bI0, pz_bIf, if_true, Bool.true_eq_false, if_false, pz_ck, pz_2, c1, e1], by simp (disch := omega) only [pz_0, pz_1, pz_3, pz_4, pz_9, pz_60, pz_99, pz_119, pz_lt, pz_bs, pz_isb, pz_isb0, pz_isb1, pz_bI0, pz_bIf, if_true, Bool.true_eq_false, if_false, pz_ck, pz_2, c1, e2], h⟩
    | true =>
    obtain ⟨b2, e3, q2⟩ := pz_rng f 0 10 (by omega) (by omega)
    cases b2 with
    | false => exact ⟨-nI 2, s, I, I', by simp (disch := omega) only [pz_0, pz_1, pz_3, pz_4, pz_9, pz_60, pz_99, pz_119, pz_lt, pz_bs, pz_isb, pz_isb0, pz_isb1, pz_bI0, pz_bIf, if_true, Bool.true_eq_false, if_false, pz_ck, pz_2, pz_10, c1, e1, x_in_s, e3], by simp (disch := omega) only [pz_0, pz_1, pz_3, pz_4, pz_9, pz_60, pz_99, pz_119, pz_lt, pz_bs, pz_isb, pz_isb0, pz_isb1, pz_bI0, pz_bIf, if_true, Bool.true_eq_false, if_false, pz_ck, pz_2, pz_10, c1, e2, m_isIn_s, e3], h⟩
    | true =>
    obtain ⟨p, hp, rfl⟩ := q rfl
    obtain ⟨w, -, hw, rfl⟩ := q2 rfl
    have np := pz_ne1 (n := p) (by omega)
    by_cases c8 : s 2 7 = 8
    · exact ⟨-nI 2, s, I, I', by simp (disch := omega) only [pz_0, pz_1, pz_2, pz_3, pz_4, pz_5, pz_6, pz_7, pz_8, pz_9, pz_10, pz_11, pz_12, pz_13, pz_14, pz_15, pz_16, pz_20, pz_21, pz_22, pz_24, pz_25, pz_30, pz_31, pz_32, pz_35, pz_40, pz_41, pz_42, pz_43, pz_45, pz_47, pz_48, pz_52, pz_57, pz_58, pz_59, pz_60, pz_61, pz_62, pz_63, pz_65, pz_85, pz_90, pz_97, pz_98, pz_99, pz_100, pz_101, pz_102, pz_103, pz_104, pz_105, pz_107, pz_108, pz_109, pz_110, pz_111, pz_112, pz_114, pz_115, pz_116, pz_119, pz_120, pz_121, pz_122, pz_125, pz_127, pz_153, pz_200, pz_201, pz_202, pz_203, pz_204, pz_205, pz_206, pz_207, pz_208, pz_209, pz_210, pz_211, pz_212, pz_213, pz_214, pz_215, pz_216, pz_217, pz_218, pz_219, pz_220, pz_221, pz_222, pz_223, pz_224, pz_225, pz_255, pz_256, pz_271, pz_300, pz_301, pz_302, pz_303, pz_304, pz_400, pz_401, pz_521, pz_705, pz_1000, pz_1508, pz_1661, pz_1691, pz_2400, pz_3125, pz_9999, pz_10000, pz_30703, pz_65536, pz_99999, pz_1000000, pz_lt, pz_ck, pz_u2, pz_u3, pz_u4, pz_bs, pz_ix, pz_inb, pz_add, pz_mul, pz_sub, nI_leI, nI_ltI, nI_eq, pz_bIt, pz_bIf, pz_isb, pz_isb0, pz_isb1, pz_bI0, pz_bI1, Nat.zero_le, true_and, and_true, decide_true, decide_false, Bool.true_eq_false, Bool.false_eq_true, if_true, if_false, Nat.reduceAdd, Nat.reduceMul, Nat.reduceSub, Nat.reduceEqDiff, Nat.reduceLeDiff, Nat.reduceLT, Nat.one_ne_zero, Nat.zero_ne_one, np, e1, x_in_s, hw, hx, c8], by simp (disch := omega) only [pz_0, pz_1, pz_2, pz_3, pz_4, pz_5, pz_6, pz_7, pz_8, pz_9, pz_10, pz_11, pz_12, pz_13, pz_14, pz_15, pz_16, pz_20, pz_21, pz_22, pz_24, pz_25, pz_30, pz_31, pz_32, pz_35, pz_40, pz_41, pz_42, pz_43, pz_45, pz_47, pz_48, pz_52, pz_57, pz_58, pz_59, pz_60, pz_61, pz_62, pz_63, pz_65, pz_85, pz_90, pz_97, pz_98, pz_99, pz_100, pz_101, pz_102, pz_103, pz_104, pz_105, pz_107, pz_108, pz_109, pz_110, pz_111, pz_112, pz_114, pz_115, pz_116, pz_119, pz_120, pz_121, pz_122, pz_125, pz_127, pz_153, pz_200, pz_201, pz_202, pz_203, pz_204, pz_205, pz_206, pz_207, pz_208, pz_209, pz_210, pz_211, pz_212, pz_213, pz_214, pz_215, pz_216, pz_217, pz_218, pz_219, pz_220, pz_221, pz_222, pz_223, pz_224, pz_225, pz_255, pz_256, pz_271, pz_300, pz_301, pz_302, pz_303, pz_304, pz_400, pz_401, pz_521, pz_705, pz_1000, pz_1508, pz_1661, pz_1691, pz_2400, pz_3125, pz_9999, pz_10000, pz_30703, pz_65536, pz_99999, pz_1000000, pz_lt, pz_ck, pz_u2, pz_u3, pz_u4, pz_bs, pz_ix, pz_inb, pz_add, pz_mul, pz_sub, nI_leI, nI_ltI, nI_eq, pz_bIt, pz_bIf, pz_isb, pz_isb0, pz_isb1, pz_bI0, pz_bI1, Nat.zero_le, true_and, and_true, decide_true, decide_false, Bool.true_eq_false, Bool.false_eq_true, if_true, if_false, Nat.reduceAdd, Nat.reduceMul, Nat.reduceSub, Nat.reduceEqDiff, Nat.reduceLeDiff, Nat.reduceLT, Nat.one_ne_zero, Nat.zero_ne_one, np, e2, m_isIn_s, hw, m7, c8], h⟩
    · refine ⟨nI (s 2 7 + 1), u2 (u2 (u2 s (19 + s 2 7) 0 p) (19 + s 2 7) 1 w) 2 7 (s 2 7 + 1), u2 (u2 (u2 I (19 + s 2 7) 0 (nI p)) (19 + s 2 7) 1 (nI w)) 2 7 (nI (s 2 7 + 1)), u2 (u2 (u2 I' 1 (85 + 2 * s 2 7) (nI p)) 1 (85 + 2 * s 2 7 + 1) (nI w)) 1 7 (nI (s 2 7 + 1)), ?_, ?_, ?_⟩
      · simp (disch := omega) only [pz_0, pz_1, pz_2, pz_3, pz_4, pz_5, pz_6, pz_7, pz_8, pz_9, pz_10, pz_11, pz_12, pz_13, pz_14, pz_15, pz_16, pz_20, pz_21, pz_22, pz_24, pz_25, pz_30, pz_31, pz_32, pz_35, pz_40, pz_41, pz_42, pz_43, pz_45, pz_47, pz_48, pz_52, pz_57, pz_58, pz_59, pz_60, pz_61, pz_62, pz_63, pz_65, pz_85, pz_90, pz_97, pz_98, pz_99, pz_100, pz_101, pz_102, pz_103, pz_104, pz_105, pz_107, pz_108, pz_109, pz_110, pz_111, pz_112, pz_114, pz_115, pz_116, pz_119, pz_120, pz_121, pz_122, pz_125, pz_127, pz_153, pz_200, pz_201, pz_202, pz_203, pz_204, pz_205, pz_206, pz_207, pz_208, pz_209, pz_210, pz_211, pz_212, pz_213, pz_214, pz_215, pz_216, pz_217, pz_218, pz_219, pz_220, pz_221, pz_222, pz_223, pz_224, pz_225, pz_255, pz_256, pz_271, pz_300, pz_301, pz_302, pz_303, pz_304, pz_400, pz_401, pz_521, pz_705, pz_1000, pz_1508, pz_1661, pz_1691, pz_2400, pz_3125, pz_9999, pz_10000, pz_30703, pz_65536, pz_99999, pz_1000000, pz_lt, pz_ck, pz_u2, pz_u3, pz_u4, pz_bs, pz_ix, pz_inb, pz_add, pz_mul, pz_sub, nI_leI, nI_ltI, nI_eq, pz_bIt, pz_bIf, pz_isb, pz_isb0, pz_isb1, pz_bI0, pz_bI1, Nat.zero_le, true_and, and_true, decide_true, decide_false, Bool.true_eq_false, Bool.false_eq_true, if_true, if_false, Nat.reduceAdd, Nat.reduceMul, Nat.reduceSub, Nat.reduceEqDiff, Nat.reduceLeDiff, Nat.reduceLT, Nat.one_ne_zero, Nat.zero_ne_one, np, e1, x_in_s, hw, hx, c8, pz_row, pz_at, pz_no]
      · simp (disch := omega) only [pz_0, pz_1, pz_2, pz_3, pz_4, pz_5, pz_6, pz_7, pz_8, pz_9, pz_10, pz_11, pz_12, pz_13, pz_14, pz_15, pz_16, pz_20, pz_21, pz_22, pz_24, pz_25, pz_30, pz_31, pz_32, pz_35, pz_40, pz_41, pz_42, pz_43, pz_45, pz_47, pz_48, pz_52, pz_57, pz_58, pz_59, pz_60, pz_61, pz_62, pz_63, pz_65, pz_85, pz_90, pz_97, pz_98, pz_99, pz_100, pz_101, pz_102, pz_103, pz_104, pz_105, pz_107, pz_108, pz_109, pz_110, pz_111, pz_112, pz_114, pz_115, pz_116, pz_119, pz_120, pz_121, pz_122, pz_125, pz_127, pz_153, pz_200, pz_201, pz_202, pz_203, pz_204, pz_205, pz_206, pz_207, pz_208, pz_209, pz_210, pz_211, pz_212, pz_213, pz_214, pz_215, pz_216, pz_217, pz_218, pz_219, pz_220, pz_221, pz_222, pz_223, pz_224, pz_225, pz_255, pz_256, pz_271, pz_300, pz_301, pz_302, pz_303, pz_304, pz_400, pz_401, pz_521, pz_705, pz_1000, pz_1508, pz_1661, pz_1691, pz_2400, pz_3125, pz_9999, pz_10000, pz_30703, pz_65536, pz_99999, pz_1000000, pz_lt, pz_ck, pz_u2, pz_u3, pz_u4, pz_bs, pz_ix, pz_inb, pz_add, pz_mul, pz_sub, nI_leI, nI_ltI, nI_eq, pz_bIt, pz_bIf, pz_isb, pz_isb0, pz_isb1, pz_bI0, pz_bI1, Nat.zero_le, true_and, and_true, decide_true, decide_false, Bool.true_eq_false, Bool.false_eq_true, if_true, if_false, Nat.reduceAdd, Nat.reduceMul, Nat.reduceSub, Nat.reduceEqDiff, Nat.reduceLeDiff, Nat.reduceLT, Nat.one_ne_zero, Nat.zero_ne_one, np, e2, m_isIn_s, hw, m7, c8, pz_row, pz_at, pz_no]
      · refine h.step (((fxU (by omega)).tr (fxU (by omega))).tr (fxU (by omega))) (((fmU (by omega)).tr (fmU (by omega))).tr (fmU (by omega))) ?_ (xrU (xrU (xrU hX p (by omega)) w (by omega)) (s 2 7 + 1) (by omega)) ?_ (by simp (disch := omega) only [pz_row, pz_at, pz_no]) (h.lea.of (by simp (disch := omega) only [pz_row, pz_at, pz_no]) (by simp (disch := omega) only [pz_row, pz_at, pz_no]) (by simp (disch := omega) only [pz_row, pz_at, pz_no]))
        · refine ⟨?_, ?_, ?_, ?_, fun i hi => ?_, fun i hi => ?_, fun k hk => ?_⟩
          · refine ⟨?_, ?_, ?_, ?_, ?_, ?_, ?_, ?_⟩ <;> (first | (simp (disch := omega) only [pz_row, pz_at, pz_no]; done) | (simp (disch := omega) only [pz_row, pz_at, pz_no]; assumption) | (simp (disch := omega) only [pz_row, pz_at, pz_no]; omega))
          · simp (disch := omega) only [pz_row, pz_at, pz_no]
            exact vr
          · simp (disch := omega) only [pz_row, pz_at, pz_no]
            exact vf
          · simp (disch := omega) only [pz_row, pz_at, pz_no]
            exact vs
          · simp (disch := omega) only [pz_row, pz_at, pz_no] at hi
            simp (disch := omega) only [pz_row, pz_at, pz_no]
            exact va i hi
          · simp (disch := omega) only [pz_row, pz_at, pz_no] at hi
            by_cases c : i = s 2 7
            · subst c
              simp (disch := omega) only [pz_row, pz_at, pz_no]
              exact ⟨hp, hw⟩
            · simp (disch := omega) only [pz_row, pz_at, pz_no]
              exact ve i (by omega)
          · simp (disch := omega) only [pz_row, pz_at, pz_no] at hk
            simp (disch := omega) only [pz_row, pz_at, pz_no]
            exact vt k hk
        · refine ⟨?_, ?_, ?_, ?_, ?_, fun i j hi hj => ?_, ?_, ?_⟩
          · refine ⟨?_, ?_, ?_, ?_, ?_, ?_, ?_, ?_, ?_, ?_, ?_⟩ <;> (first | (simp (disch := omega) only [pz_row, pz_at, pz_no]; done) | (simp (disch := omega) only [pz_row, pz_at, pz_no]; assumption) | (simp (disch := omega) only [pz_row, pz_at, pz_no]; omega))
          · exact mp.c v1 (by simp (disch := omega) only [pz_row, pz_at, pz_no]) (by simp (disch := omega) only [pz_row, pz_at, pz_no]) (fun i h1 h2 => (by simp (disch := omega) only [pz_row, pz_at, pz_no]))
          · exact mf.c (by simp (disch := omega) only [pz_row, pz_at, pz_no]) (by simp (disch := omega) only [pz_row, pz_at, pz_no]) (fun i h1 h2 => (by simp (disch := omega) only [pz_row, pz_at, pz_no]))
          · exact ms.c v2 (by simp (disch := omega) only [pz_row, pz_at, pz_no]) (by simp (disch := omega) only [pz_row, pz_at, pz_no]) (fun i h1 h2 => (by simp (disch := omega) only [pz_row, pz_at, pz_no]))
          · exact ma.c v6 (by simp (disch := omega) only [pz_row, pz_at, pz_no]) (fun i hi => (by simp (disch := omega) only [pz_row, pz_at, pz_no])) (fun i h1 h2 => (by simp (disch := omega) only [pz_row, pz_at, pz_no]))
          · simp (disch := omega) only [pz_row, pz_at, pz_no] at hi
            by_cases c : i = s 2 7
            · subst c
              have hc : j = 0 ∨ j = 1 := by omega
              rcases hc with e | e <;> subst e <;> simp (disch := omega) only [pz_row, pz_at, pz_no]
            · simp (disch := omega) only [pz_row, pz_at, pz_no]
              exact me i j (by omega) hj
          · exact mb.c vr.2.2.1 (by simp (disch := omega) only [pz_row, pz_at, pz_no]) (fun i h1 h2 => (by simp (disch := omega) only [pz_row, pz_at, pz_no]))
          · exact mt.c hV (by simp (disch := omega) only [pz_row, pz_at, pz_no]) (by simp (disch := omega) only [pz_row, pz_at, pz_no]) (fun i hi => (by simp (disch := omega) only [pz_row, pz_at, pz_no])) (fun i h1 h2 => (by simp (disch := omega) only [pz_row, pz_at, pz_no])) (fun p w h1 h2 h3 => (by simp (disch := omega) only [pz_row, pz_at, pz_no]))
end OPH
