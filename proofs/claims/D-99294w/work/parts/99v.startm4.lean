/-! the start, 5: all the reference's sayings -/
section SM4
variable {I : PI} {I' : PI}
def SaySt (I' : PI) (t n : Nat) (A : PI) (B : PJ) : Prop := scanS (125 - t) t n = true ∧ n ≤ 20 ∧ SayM n A B ∧ ∀ k, k ≠ 6 → A k = I' k
theorem CTab.keep6 {A : PI} (ht : CTab I I') (h : ∀ k, k ≠ 6 → A k = I' k) : CTab I A := fun i d hi hd => by
  rw [h 4 (by decide), h 5 (by decide)]
  exact ht i d hi hd
theorem SaySt.skip {t n : Nat} {A : PI} {B : PJ} (h : SaySt I' t n A B) (ht : t < 125) (hf : vlS t = false) : SaySt I' (t + 1) n A B := by
  obtain ⟨h1, h2⟩ := h
  rw [show 125 - t = 125 - (t + 1) + 1 by omega] at h1
  have h1 : (if vlS t = true then (decide (n < 20) && decide (cdS n = t)) && scanS (125 - (t + 1)) (t + 1) (n + 1) else scanS (125 - (t + 1)) (t + 1) n) = true := h1
  rw [if_neg (by rw [hf]; decide)] at h1
  exact ⟨h1, h2⟩
theorem SaySt.skips {t n : Nat} {A : PI} {B : PJ} (h : SaySt I' t n A B) : ∀ m, t + m ≤ 125 → (∀ u, t ≤ u → u < t + m → vlS u = false) → SaySt I' (t + m) n A B
  | 0, _, _ => h
  | m + 1, h1, hf => (SaySt.skips h m (by omega) (fun u a b => hf u a (by omega))).skip (by omega) (hf (t + m) (by omega) (by omega))
theorem pm_says1 (ht : CTab I I') {k a : Nat} (hk : k < 5) (ha : a < 5) {n : Nat} {A : PI} {B : PJ} (h : SaySt I' (25 * k + 5 * a) n A B) :
    ∃ n1 A1 B1, m_laySayings_l19 (nI k) (nI a) fu (nI n) (nI a) A B = some (nI n1, A1, B1) ∧ SaySt I' (25 * k + 5 * a + 5) n1 A1 B1 := by
  have h0 : SaySt I' (25 * k + 5 * a + a) n A B := h.skips a (by omega) (fun u h1 h2 => by
    unfold vlS
    rw [decide_eq_false (by omega), Bool.false_and])
  obtain ⟨⟨n1, A1, B1⟩, h1, h2⟩ := pz_loop (fun f v (x : Nat × PI × PJ) => m_laySayings_l19 (nI k) (nI a) f (nI x.1) (nI v) x.2.1 x.2.2) 5 (fun x => some (nI x.1, x.2.1, x.2.2)) (fun v x => a ≤ v ∧ SaySt I' (25 * k + 5 * a + v) x.1 x.2.1 x.2.2) (fun f x _ => by
      show m_laySayings_b19 (nI k) (nI a) (m_laySayings_l19 (nI k) (nI a) f) (nI x.1) (nI 5) x.2.1 x.2.2 = _
      unfold m_laySayings_b19
      simp (disch := omega) only [pz_0, pz_1, pz_2, pz_3, pz_4, pz_5, pz_6, pz_7, pz_8, pz_9, pz_10, pz_11, pz_12, pz_13, pz_14, pz_15, pz_16, pz_20, pz_21, pz_22, pz_24, pz_25, pz_30, pz_31, pz_32, pz_35, pz_40, pz_41, pz_42, pz_43, pz_45, pz_47, pz_48, pz_52, pz_57, pz_58, pz_59, pz_60, pz_61, pz_62, pz_63, pz_65, pz_85, pz_90, pz_97, pz_98, pz_99, pz_100, pz_101, pz_102, pz_103, pz_104, pz_105, pz_107, pz_108, pz_109, pz_110, pz_111, pz_112, pz_114, pz_115, pz_116, pz_119, pz_120, pz_121, pz_122, pz_125, pz_127, pz_153, pz_200, pz_201, pz_202, pz_203, pz_204, pz_205, pz_206, pz_207, pz_208, pz_209, pz_210, pz_211, pz_212, pz_213, pz_214, pz_215, pz_216, pz_217, pz_218, pz_219, pz_220, pz_221, pz_222, pz_223, pz_224, pz_225, pz_255, pz_256, pz_271, pz_300, pz_301, pz_302, pz_303, pz_304, pz_400, pz_401, pz_521, pz_705, pz_1000, pz_1508, pz_1661, pz_1691, pz_2400, pz_3125, pz_9999, pz_10000, pz_30703, pz_65536, pz_99999, pz_1000000, pz_lt, pz_ck, pz_u2, pz_u3, pz_u4, pz_bs, pz_ix, pz_inb, pz_add, pz_mul, pz_sub, nI_leI, nI_ltI, nI_eq, pz_bIt, pz_bIf, pz_isb, pz_isb0, pz_isb1, pz_bI0, pz_bI1, Nat.zero_le, true_and, and_true, decide_true, decide_false, Bool.true_eq_false, Bool.false_eq_true, if_true, if_false, Nat.reduceAdd, Nat.reduceMul, Nat.reduceSub, Nat.reduceEqDiff, Nat.reduceLeDiff, Nat.reduceLT, Nat.one_ne_zero, Nat.zero_ne_one, Nat.le_refl]) (fun f v x hv hP => by
      obtain ⟨n, A, B⟩ := x
      obtain ⟨hav, hP⟩ := hP
      have hP : SaySt I' (25 * k + 5 * a + v) n A B := hP
      obtain ⟨p1, p2, ⟨p3, p4⟩, p5⟩ := id hP
      have ht1 := ht.keep6 p5
      have d1 : (25 * k + 5 * a + v) / 25 = k := by omega
      have d2 : (25 * k + 5 * a + v) / 5 % 5 = a := by omega
      have d3 : (25 * k + 5 * a + v) % 5 = v := by omega
      have hvl : vlS (25 * k + 5 * a + v) = (sayV k a v && soB (plcT 0) k a v) := by
        unfold vlS
        rw [d1, d2, d3, decide_eq_true hav, Bool.true_and]
      have hq : m_isSaying (nI k) (nI a) (nI v) = some (bI (sayV k a v)) := by
        obtain ⟨z, z1, z2, -⟩ := pe_isSaying (nI k) (nI a) (nI v)
        rw [z2, ← z1]
        exact px_saying k hk a ha v hv
      obtain ⟨-, q2⟩ := pe_isSo ht1 (i := 0) (k := k) (a := a) (b := v) (by decide) ha hv hk
      by_cases c : vlS (25 * k + 5 * a + v) = true
      · rw [show 125 - (25 * k + 5 * a + v) = 125 - (25 * k + 5 * a + v + 1) + 1 by omega] at p1
        have p1 : (if vlS (25 * k + 5 * a + v) = true then (decide (n < 20) && decide (cdS n = 25 * k + 5 * a + v)) && scanS (125 - (25 * k + 5 * a + v + 1)) (25 * k + 5 * a + v + 1) (n + 1) else scanS (125 - (25 * k + 5 * a + v + 1)) (25 * k + 5 * a + v + 1) n) = true := p1
        rw [if_pos c, Bool.and_eq_true, Bool.and_eq_true, decide_eq_true_eq, decide_eq_true_eq] at p1
        obtain ⟨⟨hn, hcd⟩, hs⟩ := p1
        obtain ⟨z7, z8⟩ := p4 n (Nat.le_refl _)
        have ht2 : CTab I (u2 A 6 n (nI k)) := ht1.keep6 fun q hq => u2_row _ _ _ _ hq
        obtain ⟨B1, e1, m1, m2, m3⟩ := pm_say60 ht2 hk ha hv hn B z7 z8
        obtain ⟨k1, k2, k3, -⟩ := say_ok n hn
        have y : sayK n = k ∧ sayD n = a ∧ sayE n = v := by
          unfold cdS at hcd
          omega
        obtain ⟨y1, y2, y3⟩ := y
        rw [hvl, Bool.and_eq_true] at c
        refine ⟨(n + 1, u2 A 6 n (nI k), B1), ?_, by omega, hs, hn, ⟨fun j hj => ?_, fun j hj => ?_⟩, fun q hq => ?_⟩
        · show m_laySayings_b19 (nI k) (nI a) (m_laySayings_l19 (nI k) (nI a) f) (nI n) (nI v) A B = _
          rw [c.1] at hq
          rw [c.2] at q2
          have e1 : m_laySayings_l60 (nI k) (nI a) (nI n) (nI v) (u2 A 6 n (nI k)) fu (nI 0) B = some B1 := e1
          unfold m_laySayings_b19 m_laySayings_j139
          simp (disch := omega) only [pz_0, pz_1, pz_2, pz_3, pz_4, pz_5, pz_6, pz_7, pz_8, pz_9, pz_10, pz_11, pz_12, pz_13, pz_14, pz_15, pz_16, pz_20, pz_21, pz_22, pz_24, pz_25, pz_30, pz_31, pz_32, pz_35, pz_40, pz_41, pz_42, pz_43, pz_45, pz_47, pz_48, pz_52, pz_57, pz_58, pz_59, pz_60, pz_61, pz_62, pz_63, pz_65, pz_85, pz_90, pz_97, pz_98, pz_99, pz_100, pz_101, pz_102, pz_103, pz_104, pz_105, pz_107, pz_108, pz_109, pz_110, pz_111, pz_112, pz_114, pz_115, pz_116, pz_119, pz_120, pz_121, pz_122, pz_125, pz_127, pz_153, pz_200, pz_201, pz_202, pz_203, pz_204, pz_205, pz_206, pz_207, pz_208, pz_209, pz_210, pz_211, pz_212, pz_213, pz_214, pz_215, pz_216, pz_217, pz_218, pz_219, pz_220, pz_221, pz_222, pz_223, pz_224, pz_225, pz_255, pz_256, pz_271, pz_300, pz_301, pz_302, pz_303, pz_304, pz_400, pz_401, pz_521, pz_705, pz_1000, pz_1508, pz_1661, pz_1691, pz_2400, pz_3125, pz_9999, pz_10000, pz_30703, pz_65536, pz_99999, pz_1000000, pz_lt, pz_ck, pz_u2, pz_u3, pz_u4, pz_bs, pz_ix, pz_inb, pz_add, pz_mul, pz_sub, nI_leI, nI_ltI, nI_eq, pz_bIt, pz_bIf, pz_isb, pz_isb0, pz_isb1, pz_bI0, pz_bI1, Nat.zero_le, true_and, and_true, decide_true, decide_false, Bool.true_eq_false, Bool.false_eq_true, if_true, if_false, Nat.reduceAdd, Nat.reduceMul, Nat.reduceSub, Nat.reduceEqDiff, Nat.reduceLeDiff, Nat.reduceLT, Nat.one_ne_zero, Nat.zero_ne_one, Nat.not_le.mpr hv, hq, q2, e1]
        · have hj : j < n + 1 := hj
          by_cases q : j = n
          · subst q
            have o1 : (fun i => !outM j i) = fun i => soB (plcT i) k a v := funext fun i => by unfold outM; rw [y1, y2, y3, Bool.not_not]
            have o2 : (fun i => !outM j (60 + i)) = fun i => soB (plcT (60 + i)) k a v := funext fun i => by unfold outM; rw [y1, y2, y3, Bool.not_not]
            rw [o1, o2, y1]
            refine ⟨?_, m1, m2⟩
            show u2 A 6 _ (nI k) 6 _ = nI k
            exact u2_eq _ _ _ _
          · obtain ⟨r1, r2, r3⟩ := p3 j (by omega)
            show u2 A 6 n (nI k) 6 j = _ ∧ msk (B1 7 j) _ ∧ msk (B1 8 j) _
            rw [u2_ne _ _ (Or.inr q), m3 7 j (Or.inr q), m3 8 j (Or.inr q)]
            exact ⟨r1, r2, r3⟩
        · have hj : n + 1 ≤ j := hj
          show B1 7 j = 0 ∧ B1 8 j = 0
          rw [m3 7 j (Or.inr (by omega)), m3 8 j (Or.inr (by omega))]
          exact p4 j (by omega)
        · show u2 A 6 n (nI k) q = _
          rw [u2_row _ _ _ _ hq]
          exact p5 q hq
      · have c : vlS (25 * k + 5 * a + v) = false := by simpa using c
        refine ⟨(n, A, B), ?_, by omega, hP.skip (by omega) c⟩
        rw [hvl] at c
        show m_laySayings_b19 (nI k) (nI a) (m_laySayings_l19 (nI k) (nI a) f) (nI n) (nI v) A B = _
        unfold m_laySayings_b19 m_laySayings_j139
        cases s1 : sayV k a v with
        | false =>
          rw [s1] at hq
          simp (disch := omega) only [pz_0, pz_1, pz_2, pz_3, pz_4, pz_5, pz_6, pz_7, pz_8, pz_9, pz_10, pz_11, pz_12, pz_13, pz_14, pz_15, pz_16, pz_20, pz_21, pz_22, pz_24, pz_25, pz_30, pz_31, pz_32, pz_35, pz_40, pz_41, pz_42, pz_43, pz_45, pz_47, pz_48, pz_52, pz_57, pz_58, pz_59, pz_60, pz_61, pz_62, pz_63, pz_65, pz_85, pz_90, pz_97, pz_98, pz_99, pz_100, pz_101, pz_102, pz_103, pz_104, pz_105, pz_107, pz_108, pz_109, pz_110, pz_111, pz_112, pz_114, pz_115, pz_116, pz_119, pz_120, pz_121, pz_122, pz_125, pz_127, pz_153, pz_200, pz_201, pz_202, pz_203, pz_204, pz_205, pz_206, pz_207, pz_208, pz_209, pz_210, pz_211, pz_212, pz_213, pz_214, pz_215, pz_216, pz_217, pz_218, pz_219, pz_220, pz_221, pz_222, pz_223, pz_224, pz_225, pz_255, pz_256, pz_271, pz_300, pz_301, pz_302, pz_303, pz_304, pz_400, pz_401, pz_521, pz_705, pz_1000, pz_1508, pz_1661, pz_1691, pz_2400, pz_3125, pz_9999, pz_10000, pz_30703, pz_65536, pz_99999, pz_1000000, pz_lt, pz_ck, pz_u2, pz_u3, pz_u4, pz_bs, pz_ix, pz_inb, pz_add, pz_mul, pz_sub, nI_leI, nI_ltI, nI_eq, pz_bIt, pz_bIf, pz_isb, pz_isb0, pz_isb1, pz_bI0, pz_bI1, Nat.zero_le, true_and, and_true, decide_true, decide_false, Bool.true_eq_false, Bool.false_eq_true, if_true, if_false, Nat.reduceAdd, Nat.reduceMul, Nat.reduceSub, Nat.reduceEqDiff, Nat.reduceLeDiff, Nat.reduceLT, Nat.one_ne_zero, Nat.zero_ne_one, Nat.not_le.mpr hv, hq]
        | true =>
          rw [s1] at hq c
          have c : soB (plcT 0) k a v = false := c
          rw [c] at q2
          simp (disch := omega) only [pz_0, pz_1, pz_2, pz_3, pz_4, pz_5, pz_6, pz_7, pz_8, pz_9, pz_10, pz_11, pz_12, pz_13, pz_14, pz_15, pz_16, pz_20, pz_21, pz_22, pz_24, pz_25, pz_30, pz_31, pz_32, pz_35, pz_40, pz_41, pz_42, pz_43, pz_45, pz_47, pz_48, pz_52, pz_57, pz_58, pz_59, pz_60, pz_61, pz_62, pz_63, pz_65, pz_85, pz_90, pz_97, pz_98, pz_99, pz_100, pz_101, pz_102, pz_103, pz_104, pz_105, pz_107, pz_108, pz_109, pz_110, pz_111, pz_112, pz_114, pz_115, pz_116, pz_119, pz_120, pz_121, pz_122, pz_125, pz_127, pz_153, pz_200, pz_201, pz_202, pz_203, pz_204, pz_205, pz_206, pz_207, pz_208, pz_209, pz_210, pz_211, pz_212, pz_213, pz_214, pz_215, pz_216, pz_217, pz_218, pz_219, pz_220, pz_221, pz_222, pz_223, pz_224, pz_225, pz_255, pz_256, pz_271, pz_300, pz_301, pz_302, pz_303, pz_304, pz_400, pz_401, pz_521, pz_705, pz_1000, pz_1508, pz_1661, pz_1691, pz_2400, pz_3125, pz_9999, pz_10000, pz_30703, pz_65536, pz_99999, pz_1000000, pz_lt, pz_ck, pz_u2, pz_u3, pz_u4, pz_bs, pz_ix, pz_inb, pz_add, pz_mul, pz_sub, nI_leI, nI_ltI, nI_eq, pz_bIt, pz_bIf, pz_isb, pz_isb0, pz_isb1, pz_bI0, pz_bI1, Nat.zero_le, true_and, and_true, decide_true, decide_false, Bool.true_eq_false, Bool.false_eq_true, if_true, if_false, Nat.reduceAdd, Nat.reduceMul, Nat.reduceSub, Nat.reduceEqDiff, Nat.reduceLeDiff, Nat.reduceLT, Nat.one_ne_zero, Nat.zero_ne_one, Nat.not_le.mpr hv, hq, q2]) (5 - a) fu a (n, A, B) (by omega) (fu_gt (by omega)) ⟨Nat.le_refl _, h0⟩
  exact ⟨n1, A1, B1, h2, h1.2⟩
end SM4
