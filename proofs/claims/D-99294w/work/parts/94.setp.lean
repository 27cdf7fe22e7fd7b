/-! a person's number changes; forget -/
section SP
variable {s si : SN} {I : PI} {T : PT} {X : TS} {tN : XCo} {I' : PI} {J' : PJ}
theorem set_V (hV : VSt s) {p w v : Nat} (hp : p < s 2 1) (hw : w < 3) (h0 : w = 0 → v ≤ 99) (h1 : w = 1 → v < 2 ^ s 2 0) (h2 : w = 2 → v ≤ 99) : VSt (u2 s 3 (2 + 6 * w + p) v) := by
  obtain ⟨⟨v0, v1, v2, v3, v4, v5, v6, v7⟩, ⟨r0, r1, r2, r3, r4, r5⟩, vf, vs, va, ve, vt⟩ := hV
  have o : ∀ j, j ≠ 2 + 6 * w + p → u2 s 3 (2 + 6 * w + p) v 3 j = s 3 j := fun j hj => u2_ne _ _ (Or.inr hj)
  refine ⟨⟨?_, ?_, ?_, ?_, ?_, ?_, ?_, ?_⟩, ⟨by rw [o 0 (by omega)]; exact r0, by rw [o 1 (by omega)]; exact r1, by rw [o 20 (by omega)]; exact r2, fun q hq => ?_, fun q hq hq2 => ?_, fun i hi => ?_⟩, ?_, ?_, ?_, ?_, ?_⟩
  any_goals simp (disch := omega) only [pz_row, pz_at, pz_no]
  any_goals assumption
  · have hq : q < s 2 1 := by
      have e : u2 s 3 (2 + 6 * w + p) v 2 1 = s 2 1 := (by simp (disch := omega) only [pz_row, pz_at, pz_no])
      omega
    obtain ⟨x0, x1, x2⟩ := r3 q hq
    have hc : w = 0 ∨ w = 1 ∨ w = 2 := by omega
    by_cases e : q = p
    · subst e
      rcases hc with z | z | z <;> subst z
      · simp (disch := omega) only [pz_row, pz_at, pz_no]
        exact ⟨h0 rfl, x1, x2⟩
      · simp (disch := omega) only [pz_row, pz_at, pz_no]
        exact ⟨x0, h1 rfl, x2⟩
      · simp (disch := omega) only [pz_row, pz_at, pz_no]
        exact ⟨x0, x1, h2 rfl⟩
    · simp (disch := omega) only [pz_row, pz_at, pz_no]
      exact ⟨x0, x1, x2⟩
  · have hq : s 2 1 ≤ q := by
      have e : u2 s 3 (2 + 6 * w + p) v 2 1 = s 2 1 := (by simp (disch := omega) only [pz_row, pz_at, pz_no])
      omega
    simp (disch := omega) only [pz_row, pz_at, pz_no]
    exact r4 q hq hq2
  · have hi : i < s 3 20 := by
      rw [o 20 (by omega)] at hi
      exact hi
    exact r5 i hi
theorem set_M (hV : VSt s) {A A1 : Nat → Int32} (hM : MR s A) {p w v : Nat} (hp : p < s 2 1) (hw : w < 3) (ho : ∀ i, i ≠ 11 + 5 * p + w → A1 i = A i) (hv : A1 (11 + 5 * p + w) = nI v) : MR (u2 s 3 (2 + 6 * w + p) v) A1 := by
  obtain ⟨⟨v0, v1, v2, v3, v4, v5, v6, v7⟩, vr, vf, vs, va, ve, vt⟩ := id hV
  obtain ⟨⟨m0, m1, m2, m3, m4, m5, m6, m7, m8, m9, m10⟩, mp, mf, ms, ma, me, mb, mt⟩ := hM
  have h20 := vr.2.2.1
  have e20 : u2 s 3 (2 + 6 * w + p) v 3 20 = s 3 20 := u2_ne _ _ (Or.inr (by omega))
  refine ⟨?_, fun q hq => ?_, ?_, ?_, ?_, ?_, fun i hi => ?_, ?_⟩
  · refine ⟨?_, ?_, ?_, ?_, ?_, ?_, ?_, ?_, ?_, ?_, ?_⟩ <;> rw [ho _ (by omega)] <;> (first | (simp (disch := omega) only [pz_row, pz_at, pz_no]; done) | (simp (disch := omega) only [pz_row, pz_at, pz_no]; assumption) | (simp (disch := omega) only [pz_row, pz_at, pz_no]; omega))
  · have hq : q < s 2 1 := by
      have e : u2 s 3 (2 + 6 * w + p) v 2 1 = s 2 1 := (by simp (disch := omega) only [pz_row, pz_at, pz_no])
      omega
    obtain ⟨x0, x1, x2⟩ := mp q hq
    have hc : w = 0 ∨ w = 1 ∨ w = 2 := by omega
    by_cases e : q = p
    · subst e
      rcases hc with z | z | z <;> subst z
      · simp (disch := omega) only [pz_row, pz_at, pz_no]
        exact ⟨hv, by rw [ho _ (by omega)]; exact x1, by rw [ho _ (by omega)]; exact x2⟩
      · simp (disch := omega) only [pz_row, pz_at, pz_no]
        exact ⟨by rw [ho _ (by omega)]; exact x0, hv, by rw [ho _ (by omega)]; exact x2⟩
      · simp (disch := omega) only [pz_row, pz_at, pz_no]
        exact ⟨by rw [ho _ (by omega)]; exact x0, by rw [ho _ (by omega)]; exact x1, hv⟩
    · simp (disch := omega) only [pz_row, pz_at, pz_no]
      exact ⟨by rw [ho _ (by omega)]; exact x0, by rw [ho _ (by omega)]; exact x1, by rw [ho _ (by omega)]; exact x2⟩
  · exact MFor.c mf (by simp (disch := omega) only [pz_row, pz_at, pz_no]) (by simp (disch := omega) only [pz_row, pz_at, pz_no]) (fun i h1 h2 => ho i (by omega))
  · exact MSto.c ms v2 (by simp (disch := omega) only [pz_row, pz_at, pz_no]) (by simp (disch := omega) only [pz_row, pz_at, pz_no]) (fun i h1 h2 => ho i (by omega))
  · exact MSai.c ma v6 (by simp (disch := omega) only [pz_row, pz_at, pz_no]) (fun i hi => (by simp (disch := omega) only [pz_row, pz_at, pz_no])) (fun i h1 h2 => ho i (by omega))
  · exact MSee.c me v7 (by simp (disch := omega) only [pz_row, pz_at, pz_no]) (fun i hi => (by simp (disch := omega) only [pz_row, pz_at, pz_no])) (fun i h1 h2 => ho i (by omega))
  · rw [e20] at hi
    rw [ho _ (by omega)]
    have e : page (u2 s 3 (2 + 6 * w + p) v 3) i = page (s 3) i := by
      unfold page
      simp (disch := omega) only [pz_row, pz_at, pz_no]
    rw [e]
    exact mb i hi
  · exact MSte.c mt hV (by simp (disch := omega) only [pz_row, pz_at, pz_no]) (by simp (disch := omega) only [pz_row, pz_at, pz_no]) (fun i hi => (by simp (disch := omega) only [pz_row, pz_at, pz_no])) (fun i h1 h2 => ho i (by omega)) (fun q z h1 h2 h3 => ho _ (by omega))
theorem pe_knows (hV : VSt s) (hX : XR s I) (hM : MR s (I' 1)) (a f : Int32) : ∃ b : Bool, x_knows I a f = some (bI b) ∧ m_canForget I' a f = some (bI b) ∧ (b = true → ∃ p g, p < s 2 1 ∧ g < s 2 0 ∧ a = nI p ∧ f = nI g ∧ (s 3 (8 + p)).testBit g = true) := by
  obtain ⟨⟨v0, v1, v2, v3, v4, v5, v6, v7⟩, vr, -⟩ := id hV
  obtain ⟨b1, e1, e1', q1⟩ := pe_isPerson hV hX hM a
  obtain ⟨b2, e2, e2', q2⟩ := pe_isForm hV hX hM f
  unfold x_knows m_canForget
  cases b1 with
  | false => exact ⟨false, by simp (disch := omega) only [pz_0, pz_1, pz_3, pz_4, pz_9, pz_60, pz_99, pz_119, pz_lt, pz_bs, pz_isb, pz_isb0, pz_isb1, pz_bI0, pz_bIf, if_true, Bool.true_eq_false, if_false, pz_ck, e1], by simp (disch := omega) only [pz_0, pz_1, pz_3, pz_4, pz_9, pz_60, pz_99, pz_119, pz_lt, pz_bs, pz_isb, pz_isb0, pz_isb1, pz_bI0, pz_bIf, if_true, Bool.true_eq_false, if_false, pz_ck, e1'], fun z => nomatch z⟩
  | true =>
  cases b2 with
  | false => exact ⟨false, by simp (disch := omega) only [pz_0, pz_1, pz_3, pz_4, pz_9, pz_60, pz_99, pz_119, pz_lt, pz_bs, pz_isb, pz_isb0, pz_isb1, pz_bI0, pz_bIf, if_true, Bool.true_eq_false, if_false, pz_ck, e1, e2], by simp (disch := omega) only [pz_0, pz_1, pz_3, pz_4, pz_9, pz_60, pz_99, pz_119, pz_lt, pz_bs, pz_isb, pz_isb0, pz_isb1, pz_bI0, pz_bIf, if_true, Bool.true_eq_false, if_false, pz_ck, e1', e2'], fun z => nomatch z⟩
  | true =>
  obtain ⟨p, hp, rfl⟩ := q1 rfl
  obtain ⟨g, hg, rfl⟩ := q2 rfl
  have h8 := vr.k256 (p := p) v0 (by omega)
  have g1 := px_formsOf hX (p := p) (by omega)
  have g2 := pm_get I' (p := p) (w := 1) (by omega) (by omega)
  rw [(hM.2.1 p hp).2.1] at g2
  have k1 := px_has _ h8 g (by omega)
  have k2 := pm_has _ h8 g (by omega)
  refine ⟨(s 3 (8 + p)).testBit g, ?_, ?_, fun z => ⟨p, g, hp, hg, rfl, rfl, z⟩⟩
  · simp (disch := omega) only [pz_0, pz_1, pz_2, pz_3, pz_4, pz_5, pz_6, pz_7, pz_8, pz_9, pz_10, pz_11, pz_12, pz_13, pz_14, pz_15, pz_16, pz_20, pz_21, pz_22, pz_24, pz_25, pz_30, pz_31, pz_32, pz_35, pz_40, pz_41, pz_42, pz_43, pz_45, pz_47, pz_48, pz_52, pz_57, pz_58, pz_59, pz_60, pz_61, pz_62, pz_63, pz_65, pz_85, pz_90, pz_97, pz_98, pz_99, pz_100, pz_101, pz_102, pz_103, pz_104, pz_105, pz_107, pz_108, pz_109, pz_110, pz_111, pz_112, pz_114, pz_115, pz_116, pz_119, pz_120, pz_121, pz_122, pz_125, pz_127, pz_153, pz_200, pz_201, pz_202, pz_203, pz_204, pz_205, pz_206, pz_207, pz_208, pz_209, pz_210, pz_211, pz_212, pz_213, pz_214, pz_215, pz_216, pz_217, pz_218, pz_219, pz_220, pz_221, pz_222, pz_223, pz_224, pz_225, pz_255, pz_256, pz_271, pz_300, pz_301, pz_302, pz_303, pz_304, pz_400, pz_401, pz_521, pz_705, pz_1000, pz_1508, pz_1661, pz_1691, pz_2400, pz_3125, pz_9999, pz_10000, pz_30703, pz_65536, pz_99999, pz_1000000, pz_lt, pz_ck, pz_u2, pz_u3, pz_u4, pz_bs, pz_ix, pz_inb, pz_add, pz_mul, pz_sub, nI_leI, nI_ltI, nI_eq, pz_bIt, pz_bIf, pz_isb, pz_isb0, pz_isb1, pz_bI0, pz_bI1, Nat.zero_le, true_and, and_true, decide_true, decide_false, Bool.true_eq_false, Bool.false_eq_true, if_true, if_false, Nat.reduceAdd, Nat.reduceMul, Nat.reduceSub, Nat.reduceEqDiff, Nat.reduceLeDiff, Nat.reduceLT, Nat.one_ne_zero, Nat.zero_ne_one, e1, e2, g1, k1]
    cases (s 3 (8 + p)).testBit g <;> rfl
  · simp (disch := omega) only [pz_0, pz_1, pz_2, pz_3, pz_4, pz_5, pz_6, pz_7, pz_8, pz_9, pz_10, pz_11, pz_12, pz_13, pz_14, pz_15, pz_16, pz_20, pz_21, pz_22, pz_24, pz_25, pz_30, pz_31, pz_32, pz_35, pz_40, pz_41, pz_42, pz_43, pz_45, pz_47, pz_48, pz_52, pz_57, pz_58, pz_59, pz_60, pz_61, pz_62, pz_63, pz_65, pz_85, pz_90, pz_97, pz_98, pz_99, pz_100, pz_101, pz_102, pz_103, pz_104, pz_105, pz_107, pz_108, pz_109, pz_110, pz_111, pz_112, pz_114, pz_115, pz_116, pz_119, pz_120, pz_121, pz_122, pz_125, pz_127, pz_153, pz_200, pz_201, pz_202, pz_203, pz_204, pz_205, pz_206, pz_207, pz_208, pz_209, pz_210, pz_211, pz_212, pz_213, pz_214, pz_215, pz_216, pz_217, pz_218, pz_219, pz_220, pz_221, pz_222, pz_223, pz_224, pz_225, pz_255, pz_256, pz_271, pz_300, pz_301, pz_302, pz_303, pz_304, pz_400, pz_401, pz_521, pz_705, pz_1000, pz_1508, pz_1661, pz_1691, pz_2400, pz_3125, pz_9999, pz_10000, pz_30703, pz_65536, pz_99999, pz_1000000, pz_lt, pz_ck, pz_u2, pz_u3, pz_u4, pz_bs, pz_ix, pz_inb, pz_add, pz_mul, pz_sub, nI_leI, nI_ltI, nI_eq, pz_bIt, pz_bIf, pz_isb, pz_isb0, pz_isb1, pz_bI0, pz_bI1, Nat.zero_le, true_and, and_true, decide_true, decide_false, Bool.true_eq_false, Bool.false_eq_true, if_true, if_false, Nat.reduceAdd, Nat.reduceMul, Nat.reduceSub, Nat.reduceEqDiff, Nat.reduceLeDiff, Nat.reduceLT, Nat.one_ne_zero, Nat.zero_ne_one, e1', e2', g2, k2]
    cases (s 3 (8 + p)).testBit g <;> rfl
theorem pu_forget (h : CC s si I T X tN I' J') (a f : Int32) : ∃ (r : Int32) (s1 : SN) (I1 I1' : PI), x_forget I a f = some (r, I1) ∧ m_forget I' a f = some (r, I1') ∧ isb r = true ∧ CC s1 si I1 T X tN I1' J' ∧ s1 2 3 = s 2 3 := by
  have hV := h.1.1
  have hX := h.1.2.2.1
  have hM := h.1.2.2.2.2.1
  obtain ⟨⟨v0, v1, v2, v3, v4, v5, v6, v7⟩, vr, vf, vs, va, ve, vt⟩ := id hV
  obtain ⟨⟨m0, m1, m2, m3, m4, m5, m6, m7, m8, m9, m10⟩, mp, mf, ms, ma, me, mb, mt⟩ := id hM
  have hx := hX.1
  obtain ⟨b, e1, e2, q⟩ := pe_knows hV hX hM a f
  unfold x_forget m_forget
  cases b with
  | false => exact ⟨nI 0, s, I, I', by simp (disch := omega) only [pz_0, pz_1, pz_3, pz_4, pz_9, pz_60, pz_99, pz_119, pz_lt, pz_bs, pz_isb, pz_isb0, pz_isb1, pz_bI0, pz_bIf, if_true, Bool.true_eq_false, if_false, pz_ck, e1], by simp (disch := omega) only [pz_0, pz_1, pz_3, pz_4, pz_9, pz_60, pz_99, pz_119, pz_lt, pz_bs, pz_isb, pz_isb0, pz_isb1, pz_bI0, pz_bIf, if_true, Bool.true_eq_false, if_false, pz_ck, e2], rfl, h, rfl⟩
  | true =>
  obtain ⟨p, g, hp, hg, rfl, rfl, hb⟩ := q rfl
  obtain ⟨A, B, ea, eb, kV, kX, kM, kF, kB⟩ := pe_keeps hV hX hM
  obtain ⟨k1, k2⟩ := keepS_ok s v5
  have hp1 : p < keepS s 2 1 := by rw [k2 1 (by omega)]; exact hp
  have hg1 : g < keepS s 2 0 := by rw [k2 0 (by omega)]; exact hg
  have h8 : keepS s 3 (8 + p) < 256 := by rw [k1 3 (by omega) (by omega)]; exact vr.k256 v0 (by omega)
  have h8' : keepS s 3 (8 + p) < 2 ^ keepS s 2 0 := (kV.2.1.2.2.2.1 p hp1).2.1
  have hc := pz_clr _ h8 g (by omega)
  have hl := clr_lt _ (by have := kV.1.1; omega) _ h8' g (by omega)
  have gx := kX.1 3 (8 + p) (by omega) (by omega)
  have gm := (kM.2.1 p hp1).2.1
  have g2 := pm_get B (p := p) (w := 1) (by omega) (by omega)
  have p2 := pm_put B (p := p) (w := 1) (nI (clr (keepS s 3 (8 + p)) g)) (by omega) (by omega)
  refine ⟨nI 1, u2 (keepS s) 3 (8 + p) (clr (keepS s 3 (8 + p)) g), u2 A 3 (8 + p) (nI (clr (keepS s 3 (8 + p)) g)), u2 B 1 (11 + 5 * p + 1) (nI (clr (keepS s 3 (8 + p)) g)), ?_, ?_, rfl, ?_, (u2_ne _ _ (Or.inl (by omega))).trans (k2 3 (by omega))⟩
  · simp (disch := omega) only [pz_0, pz_1, pz_2, pz_3, pz_4, pz_5, pz_6, pz_7, pz_8, pz_9, pz_10, pz_11, pz_12, pz_13, pz_14, pz_15, pz_16, pz_20, pz_21, pz_22, pz_24, pz_25, pz_30, pz_31, pz_32, pz_35, pz_40, pz_41, pz_42, pz_43, pz_45, pz_47, pz_48, pz_52, pz_57, pz_58, pz_59, pz_60, pz_61, pz_62, pz_63, pz_65, pz_85, pz_90, pz_97, pz_98, pz_99, pz_100, pz_101, pz_102, pz_103, pz_104, pz_105, pz_107, pz_108, pz_109, pz_110, pz_111, pz_112, pz_114, pz_115, pz_116, pz_119, pz_120, pz_121, pz_122, pz_125, pz_127, pz_153, pz_200, pz_201, pz_202, pz_203, pz_204, pz_205, pz_206, pz_207, pz_208, pz_209, pz_210, pz_211, pz_212, pz_213, pz_214, pz_215, pz_216, pz_217, pz_218, pz_219, pz_220, pz_221, pz_222, pz_223, pz_224, pz_225, pz_255, pz_256, pz_271, pz_300, pz_301, pz_302, pz_303, pz_304, pz_400, pz_401, pz_521, pz_705, pz_1000, pz_1508, pz_1661, pz_1691, pz_2400, pz_3125, pz_9999, pz_10000, pz_30703, pz_65536, pz_99999, pz_1000000, pz_lt, pz_ck, pz_u2, pz_u3, pz_u4, pz_bs, pz_ix, pz_inb, pz_add, pz_mul, pz_sub, nI_leI, nI_ltI, nI_eq, pz_bIt, pz_bIf, pz_isb, pz_isb0, pz_isb1, pz_bI0, pz_bI1, Nat.zero_le, true_and, and_true, decide_true, decide_false, Bool.true_eq_false, Bool.false_eq_true, if_true, if_false, Nat.reduceAdd, Nat.reduceMul, Nat.reduceSub, Nat.reduceEqDiff, Nat.reduceLeDiff, Nat.reduceLT, Nat.one_ne_zero, Nat.zero_ne_one, e1, ea, gx, hc]
  · unfold m_forgetNow
    simp (disch := omega) only [pz_0, pz_1, pz_2, pz_3, pz_4, pz_5, pz_6, pz_7, pz_8, pz_9, pz_10, pz_11, pz_12, pz_13, pz_14, pz_15, pz_16, pz_20, pz_21, pz_22, pz_24, pz_25, pz_30, pz_31, pz_32, pz_35, pz_40, pz_41, pz_42, pz_43, pz_45, pz_47, pz_48, pz_52, pz_57, pz_58, pz_59, pz_60, pz_61, pz_62, pz_63, pz_65, pz_85, pz_90, pz_97, pz_98, pz_99, pz_100, pz_101, pz_102, pz_103, pz_104, pz_105, pz_107, pz_108, pz_109, pz_110, pz_111, pz_112, pz_114, pz_115, pz_116, pz_119, pz_120, pz_121, pz_122, pz_125, pz_127, pz_153, pz_200, pz_201, pz_202, pz_203, pz_204, pz_205, pz_206, pz_207, pz_208, pz_209, pz_210, pz_211, pz_212, pz_213, pz_214, pz_215, pz_216, pz_217, pz_218, pz_219, pz_220, pz_221, pz_222, pz_223, pz_224, pz_225, pz_255, pz_256, pz_271, pz_300, pz_301, pz_302, pz_303, pz_304, pz_400, pz_401, pz_521, pz_705, pz_1000, pz_1508, pz_1661, pz_1691, pz_2400, pz_3125, pz_9999, pz_10000, pz_30703, pz_65536, pz_99999, pz_1000000, pz_lt, pz_ck, pz_u2, pz_u3, pz_u4, pz_bs, pz_ix, pz_inb, pz_add, pz_mul, pz_sub, nI_leI, nI_ltI, nI_eq, pz_bIt, pz_bIf, pz_isb, pz_isb0, pz_isb1, pz_bI0, pz_bI1, Nat.zero_le, true_and, and_true, decide_true, decide_false, Bool.true_eq_false, Bool.false_eq_true, if_true, if_false, Nat.reduceAdd, Nat.reduceMul, Nat.reduceSub, Nat.reduceEqDiff, Nat.reduceLeDiff, Nat.reduceLT, Nat.one_ne_zero, Nat.zero_ne_one, e2, eb, g2, gm, hc, p2]
  · refine h.step (kF.tr (fxU (by omega))) ⟨fun k h1 h2 => ?_, ?_, ?_, ?_, ?_, rfl, rfl⟩ (set_V kV hp1 (w := 1) (by omega) (fun z => nomatch z) (fun _ => hl) (fun z => nomatch z)) (xrU kX _ (by omega)) (set_M kV kM hp1 (w := 1) (by omega) (fun i hi => u2_ne _ _ (Or.inr hi)) (u2_eq _ _ _ _)) ?_ (h.lea.of ?_ ?_ ?_)
    · simp (disch := omega) only [pz_row, pz_at, pz_no]
      exact kB k (by omega)
    · simp (disch := omega) only [pz_row, pz_at, pz_no]
      rw [kB 0 (by omega)]
    · simp (disch := omega) only [pz_row, pz_at, pz_no]
      rw [kB 0 (by omega)]
    · simp (disch := omega) only [pz_row, pz_at, pz_no]
      rw [kB 0 (by omega)]
    · simp (disch := omega) only [pz_row, pz_at, pz_no]
      rw [kB 0 (by omega)]
    · simp (disch := omega) only [pz_row, pz_at, pz_no]
      exact k2 3 (by omega)
    · simp (disch := omega) only [pz_row, pz_at, pz_no]
      rw [kB 0 (by omega)]
    · simp (disch := omega) only [pz_row, pz_at, pz_no]
      rw [kB 0 (by omega)]
    · simp (disch := omega) only [pz_row, pz_at, pz_no]
      rw [kB 0 (by omega)]
end SP
