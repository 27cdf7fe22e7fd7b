/-! members one by one, 9: could, sure, ask -/
/-- how many of some orders have one doing ahead of another -/
def ahB (a b : Nat) (i : Nat) : Bool := decide (plcT i a < plcT i b)
def ah (s : SN) (a b : Nat) : Nat := ((cl s 120).filter (ahB a b)).length
theorem ah_le (s : SN) (a b : Nat) : ah s a b ≤ (cl s 120).length := List.length_filter_le _ _
/-- the class's planes with the orders that could be laid -/
def CLd (s : SN) (n : Nat) (I I1 : PI) : Prop := I1 0 16 = nI (cl s n).length ∧ (∀ j, j < (cl s n).length → I1 120 j = nI ((cl s n).getD j 0)) ∧ (∀ k, k ≠ 0 → k ≠ 120 → I1 k = I k) ∧ ∀ i, i ≠ 16 → I1 0 i = I 0 i
theorem CLd.fx {s : SN} {n : Nat} {I I1 : PI} (h : CLd s n I I1) : Fx I I1 := ⟨fun k hk => h.2.2.1 k (by omega) (by omega), h.2.2.2 3 (by omega), h.2.2.2 4 (by omega), h.2.2.2 5 (by omega)⟩
section OPJ
variable {s si : SN} {I : PI} {T : PT} {X : TS} {tN : XCo} {I' : PI} {J' : PJ}
theorem XR.keep {I1 : PI} (hX : XR s I) (h : ∀ k, k ≠ 0 → k ≠ 120 → I1 k = I k) : XR s I1 := ⟨fun k j hk hj => by rw [h k (by omega) (by omega)]; exact hX.1 k j hk hj, by rw [h 2 (by omega) (by omega)]; exact hX.2⟩
theorem CTab.keep {I1 : PI} (ht : CTab I I') (h : ∀ k, k ≠ 0 → k ≠ 120 → I1 k = I k) : CTab I1 I' := fun i d hi hd => by
  rw [h (122 + i) (by omega) (by omega), h (242 + i) (by omega) (by omega)]
  exact ht i d hi hd
theorem px_laysCould (hV : VSt s) (hX : XR s I) (ht : CTab I I') : ∃ I1, x_laysCould I = some I1 ∧ CLd s 120 I I1 := by
  have h := pz_loop (fun k v (A : PI) => x_laysCould_l7 k (nI v) A) 120 (fun A => some A) (fun v A => CLd s v I A) (fun k A _ => by
      show x_laysCould_b7 (x_laysCould_l7 k) (nI 120) A = some A
      unfold x_laysCould_b7
      simp (disch := omega) only [pz_0, pz_1, pz_2, pz_3, pz_4, pz_5, pz_6, pz_7, pz_8, pz_9, pz_10, pz_11, pz_12, pz_13, pz_14, pz_15, pz_16, pz_20, pz_21, pz_22, pz_24, pz_25, pz_30, pz_31, pz_32, pz_35, pz_40, pz_41, pz_42, pz_43, pz_45, pz_47, pz_48, pz_52, pz_57, pz_58, pz_59, pz_60, pz_61, pz_62, pz_63, pz_65, pz_85, pz_90, pz_97, pz_98, pz_99, pz_100, pz_101, pz_102, pz_103, pz_104, pz_105, pz_107, pz_108, pz_109, pz_110, pz_111, pz_112, pz_114, pz_115, pz_116, pz_119, pz_120, pz_121, pz_122, pz_125, pz_127, pz_153, pz_200, pz_201, pz_202, pz_203, pz_204, pz_205, pz_206, pz_207, pz_208, pz_209, pz_210, pz_211, pz_212, pz_213, pz_214, pz_215, pz_216, pz_217, pz_218, pz_219, pz_220, pz_221, pz_222, pz_223, pz_224, pz_225, pz_255, pz_256, pz_271, pz_300, pz_301, pz_302, pz_303, pz_304, pz_400, pz_401, pz_521, pz_705, pz_1000, pz_1508, pz_1661, pz_1691, pz_2400, pz_3125, pz_9999, pz_10000, pz_30703, pz_65536, pz_99999, pz_1000000, pz_lt, pz_ck, pz_u2, pz_u3, pz_u4, pz_bs, pz_ix, pz_inb, pz_add, pz_mul, pz_sub, nI_leI, nI_ltI, nI_eq, pz_bIt, pz_bIf, pz_isb, pz_isb0, pz_isb1, pz_bI0, pz_bI1, Nat.zero_le, true_and, and_true, decide_true, decide_false, Bool.true_eq_false, Bool.false_eq_true, if_true, if_false, Nat.reduceAdd, Nat.reduceMul, Nat.reduceSub, Nat.reduceEqDiff, Nat.reduceLeDiff, Nat.reduceLT, Nat.one_ne_zero, Nat.zero_ne_one, Nat.le_refl]) (fun k v A hv hA => by
      have hc := px_canBe hV (hX.keep hA.2.2.1) (ht.keep hA.2.2.1) hv
      have hl := cl_len s v
      obtain ⟨a1, a2, a3, a4⟩ := hA
      have e : x_laysCould_l7 (k + 1) (nI v) A = if cb s v = false then x_laysCould_l7 k (nI (v + 1)) A else x_laysCould_l7 k (nI (v + 1)) (u2 (u2 A 120 (cl s v).length (nI v)) 0 16 (nI ((cl s v).length + 1))) := by
        show x_laysCould_b7 (x_laysCould_l7 k) (nI v) A = _
        unfold x_laysCould_b7 x_laysCould_j44
        simp (disch := omega) only [pz_0, pz_1, pz_2, pz_3, pz_4, pz_5, pz_6, pz_7, pz_8, pz_9, pz_10, pz_11, pz_12, pz_13, pz_14, pz_15, pz_16, pz_20, pz_21, pz_22, pz_24, pz_25, pz_30, pz_31, pz_32, pz_35, pz_40, pz_41, pz_42, pz_43, pz_45, pz_47, pz_48, pz_52, pz_57, pz_58, pz_59, pz_60, pz_61, pz_62, pz_63, pz_65, pz_85, pz_90, pz_97, pz_98, pz_99, pz_100, pz_101, pz_102, pz_103, pz_104, pz_105, pz_107, pz_108, pz_109, pz_110, pz_111, pz_112, pz_114, pz_115, pz_116, pz_119, pz_120, pz_121, pz_122, pz_125, pz_127, pz_153, pz_200, pz_201, pz_202, pz_203, pz_204, pz_205, pz_206, pz_207, pz_208, pz_209, pz_210, pz_211, pz_212, pz_213, pz_214, pz_215, pz_216, pz_217, pz_218, pz_219, pz_220, pz_221, pz_222, pz_223, pz_224, pz_225, pz_255, pz_256, pz_271, pz_300, pz_301, pz_302, pz_303, pz_304, pz_400, pz_401, pz_521, pz_705, pz_1000, pz_1508, pz_1661, pz_1691, pz_2400, pz_3125, pz_9999, pz_10000, pz_30703, pz_65536, pz_99999, pz_1000000, pz_lt, pz_ck, pz_u2, pz_u3, pz_u4, pz_bs, pz_ix, pz_inb, pz_add, pz_mul, pz_sub, nI_leI, nI_ltI, nI_eq, pz_bIt, pz_bIf, pz_isb, pz_isb0, pz_isb1, pz_bI0, pz_bI1, Nat.zero_le, true_and, and_true, decide_true, decide_false, Bool.true_eq_false, Bool.false_eq_true, if_true, if_false, Nat.reduceAdd, Nat.reduceMul, Nat.reduceSub, Nat.reduceEqDiff, Nat.reduceLeDiff, Nat.reduceLT, Nat.one_ne_zero, Nat.zero_ne_one, Nat.not_le.mpr hv, hc, a1, pz_row, pz_at, pz_no]
      cases c : cb s v with
      | false =>
        refine ⟨A, by rw [e, if_pos c], ?_⟩
        have e2 : cl s (v + 1) = cl s v := by rw [cl_succ, if_neg (by rw [c]; decide), List.append_nil]
        unfold CLd
        rw [e2]
        exact ⟨a1, a2, a3, a4⟩
      | true =>
        refine ⟨_, by rw [e, if_neg (by rw [c]; decide)], ?_⟩
        have e2 : cl s (v + 1) = cl s v ++ [v] := by rw [cl_succ, if_pos c]
        unfold CLd
        rw [e2, List.length_append, List.length_singleton]
        refine ⟨(by simp (disch := omega) only [pz_row, pz_at, pz_no]), fun j hj => ?_, fun q h1 h2 => by simp (disch := omega) only [pz_row, pz_at, pz_no]; exact a3 q h1 h2, fun i hi => by simp (disch := omega) only [pz_row, pz_at, pz_no]; exact a4 i hi⟩
        by_cases q : j = (cl s v).length
        · subst q
          simp (disch := omega) only [pz_row, pz_at, pz_no]
          rw [List.getD_eq_getElem?_getD, List.getElem?_append_right (Nat.le_refl _), Nat.sub_self]
          rfl
        · simp (disch := omega) only [pz_row, pz_at, pz_no]
          rw [List.getD_eq_getElem?_getD, List.getElem?_append_left (by omega), ← List.getD_eq_getElem?_getD]
          exact a2 j (by omega)) 120 fu 0 (u2 I 0 16 (nI 0)) (by omega) (fu_gt (by omega)) ⟨u2_eq _ _ _ _, fun j hj => absurd hj (Nat.not_lt_zero j), fun q h1 h2 => u2_row _ _ _ _ h1, fun i hi => u2_ne _ _ (Or.inr hi)⟩
  obtain ⟨I1, h1, h2⟩ := h
  refine ⟨I1, ?_, h1⟩
  unfold x_laysCould
  have h3 : x_laysCould_l7 fu 0 (u2 I 0 16 0) = some I1 := h2
  rw [pz_lt, h3]
  rfl
/-- the reference counts them as they come -/
theorem pm_could (hV : VSt s) (hM : MR s (I' 1)) (ht : CTab I I') (a : Int32) : m_could I' a = some (if a = -nI 1 then nI (cl s 120).length else if nI 0 ≤ a ∧ a ≤ nI (cl s 120).length - nI 1 then nI ((cl s 120).getD (ix a) 0) else -nI 2) := by
  have h := pz_loopE (fun k v (_ : Unit) => m_could_l4 I' a k (nI (cl s v).length) (nI v)) 120 (fun v _ => ∀ j, j < (cl s v).length → a ≠ nI j) (fun o => (o = some (.inr (nI (cl s 120).length)) ∧ ∀ j, j < (cl s 120).length → a ≠ nI j) ∨ ∃ j, j < (cl s 120).length ∧ a = nI j ∧ o = some (.inl (nI ((cl s 120).getD j 0)))) (fun k _ hP => Or.inl ⟨by
      show m_could_b4 I' a (m_could_l4 I' a k) (nI (cl s 120).length) (nI 120) = _
      unfold m_could_b4
      simp (disch := omega) only [pz_0, pz_1, pz_2, pz_3, pz_4, pz_5, pz_6, pz_7, pz_8, pz_9, pz_10, pz_11, pz_12, pz_13, pz_14, pz_15, pz_16, pz_20, pz_21, pz_22, pz_24, pz_25, pz_30, pz_31, pz_32, pz_35, pz_40, pz_41, pz_42, pz_43, pz_45, pz_47, pz_48, pz_52, pz_57, pz_58, pz_59, pz_60, pz_61, pz_62, pz_63, pz_65, pz_85, pz_90, pz_97, pz_98, pz_99, pz_100, pz_101, pz_102, pz_103, pz_104, pz_105, pz_107, pz_108, pz_109, pz_110, pz_111, pz_112, pz_114, pz_115, pz_116, pz_119, pz_120, pz_121, pz_122, pz_125, pz_127, pz_153, pz_200, pz_201, pz_202, pz_203, pz_204, pz_205, pz_206, pz_207, pz_208, pz_209, pz_210, pz_211, pz_212, pz_213, pz_214, pz_215, pz_216, pz_217, pz_218, pz_219, pz_220, pz_221, pz_222, pz_223, pz_224, pz_225, pz_255, pz_256, pz_271, pz_300, pz_301, pz_302, pz_303, pz_304, pz_400, pz_401, pz_521, pz_705, pz_1000, pz_1508, pz_1661, pz_1691, pz_2400, pz_3125, pz_9999, pz_10000, pz_30703, pz_65536, pz_99999, pz_1000000, pz_lt, pz_ck, pz_u2, pz_u3, pz_u4, pz_bs, pz_ix, pz_inb, pz_add, pz_mul, pz_sub, nI_leI, nI_ltI, nI_eq, pz_bIt, pz_bIf, pz_isb, pz_isb0, pz_isb1, pz_bI0, pz_bI1, Nat.zero_le, true_and, and_true, decide_true, decide_false, Bool.true_eq_false, Bool.false_eq_true, if_true, if_false, Nat.reduceAdd, Nat.reduceMul, Nat.reduceSub, Nat.reduceEqDiff, Nat.reduceLeDiff, Nat.reduceLT, Nat.one_ne_zero, Nat.zero_ne_one, Nat.le_refl], hP⟩) (fun k v _ hv hP => by
      have hc := pm_canBe hV hM ht hv
      have hl := cl_len s v
      have e : m_could_l4 I' a (k + 1) (nI (cl s v).length) (nI v) = if cb s v = false then m_could_l4 I' a k (nI (cl s v).length) (nI (v + 1)) else if nI (cl s v).length = a then some (.inl (nI v)) else m_could_l4 I' a k (nI ((cl s v).length + 1)) (nI (v + 1)) := by
        show m_could_b4 I' a (m_could_l4 I' a k) (nI (cl s v).length) (nI v) = _
        unfold m_could_b4 m_could_j31
        simp (disch := omega) only [pz_0, pz_1, pz_2, pz_3, pz_4, pz_5, pz_6, pz_7, pz_8, pz_9, pz_10, pz_11, pz_12, pz_13, pz_14, pz_15, pz_16, pz_20, pz_21, pz_22, pz_24, pz_25, pz_30, pz_31, pz_32, pz_35, pz_40, pz_41, pz_42, pz_43, pz_45, pz_47, pz_48, pz_52, pz_57, pz_58, pz_59, pz_60, pz_61, pz_62, pz_63, pz_65, pz_85, pz_90, pz_97, pz_98, pz_99, pz_100, pz_101, pz_102, pz_103, pz_104, pz_105, pz_107, pz_108, pz_109, pz_110, pz_111, pz_112, pz_114, pz_115, pz_116, pz_119, pz_120, pz_121, pz_122, pz_125, pz_127, pz_153, pz_200, pz_201, pz_202, pz_203, pz_204, pz_205, pz_206, pz_207, pz_208, pz_209, pz_210, pz_211, pz_212, pz_213, pz_214, pz_215, pz_216, pz_217, pz_218, pz_219, pz_220, pz_221, pz_222, pz_223, pz_224, pz_225, pz_255, pz_256, pz_271, pz_300, pz_301, pz_302, pz_303, pz_304, pz_400, pz_401, pz_521, pz_705, pz_1000, pz_1508, pz_1661, pz_1691, pz_2400, pz_3125, pz_9999, pz_10000, pz_30703, pz_65536, pz_99999, pz_1000000, pz_lt, pz_ck, pz_u2, pz_u3, pz_u4, pz_bs, pz_ix, pz_inb, pz_add, pz_mul, pz_sub, nI_leI, nI_ltI, nI_eq, pz_bIt, pz_bIf, pz_isb, pz_isb0, pz_isb1, pz_bI0, pz_bI1, Nat.zero_le, true_and, and_true, decide_true, decide_false, Bool.true_eq_false, Bool.false_eq_true, if_true, if_false, Nat.reduceAdd, Nat.reduceMul, Nat.reduceSub, Nat.reduceEqDiff, Nat.reduceLeDiff, Nat.reduceLT, Nat.one_ne_zero, Nat.zero_ne_one, Nat.not_le.mpr hv, hc]
      cases c : cb s v with
      | false =>
        have e2 : cl s (v + 1) = cl s v := by rw [cl_succ, if_neg (by rw [c]; decide), List.append_nil]
        refine Or.inr ⟨(), ?_, ?_⟩
        · rw [e, if_pos c, e2]
        · rw [e2]
          exact hP
      | true =>
        have e2 : cl s (v + 1) = cl s v ++ [v] := by rw [cl_succ, if_pos c]
        by_cases q : nI (cl s v).length = a
        · refine Or.inl (Or.inr ⟨(cl s v).length, ?_, q.symm, ?_⟩)
          · have h1 : (cl s (v + 1)).length ≤ (cl s 120).length := by
              unfold cl
              have hs : List.Sublist (List.range (v + 1)) (List.range 120) := List.range_sublist.mpr (by omega)
              exact (hs.filter _).length_le
            rw [e2, List.length_append, List.length_singleton] at h1
            omega
          · rw [e, if_neg (by rw [c]; decide), if_pos q]
            have h2 : ∀ m, (cl s (v + 1 + m)).getD (cl s v).length 0 = v := by
              intro m
              induction m with
              | zero =>
                rw [Nat.add_zero, e2, List.getD_eq_getElem?_getD, List.getElem?_append_right (Nat.le_refl _), Nat.sub_self]
                rfl
              | succ m ih =>
                have h3 : (cl s v).length < (cl s (v + 1 + m)).length := by
                  have hs : List.Sublist (List.range (v + 1)) (List.range (v + 1 + m)) := List.range_sublist.mpr (by omega)
                  have := (hs.filter (cb s)).length_le
                  have h4 : (cl s (v + 1)).length ≤ (cl s (v + 1 + m)).length := this
                  rw [e2, List.length_append, List.length_singleton] at h4
                  omega
                rw [show v + 1 + (m + 1) = v + 1 + m + 1 from rfl, cl_succ, List.getD_eq_getElem?_getD, List.getElem?_append_left h3, ← List.getD_eq_getElem?_getD]
                exact ih
            have h5 := h2 (120 - (v + 1))
            rw [show v + 1 + (120 - (v + 1)) = 120 by omega] at h5
            rw [h5]
        · refine Or.inr ⟨(), ?_, ?_⟩
          · rw [e, if_neg (by rw [c]; decide), if_neg q, e2, List.length_append, List.length_singleton]
          · rw [e2, List.length_append, List.length_singleton]
            intro j hj
            by_cases z : j = (cl s v).length
            · rw [z]
              exact fun w => q w.symm
            · exact hP j (by omega)) 120 fu 0 () (by omega) (fu_gt (by omega)) (fun j hj => absurd hj (Nat.not_lt_zero j))
  have hl := cl_len s 120
  unfold m_could
  rcases h with ⟨h1, h2⟩ | ⟨j, hj, ej, h1⟩
  · have h1 : m_could_l4 I' a fu 0 0 = some (.inr (nI (cl s 120).length)) := h1
    rw [h1, pz_lbr]
    by_cases c : a = -nI 1
    · rw [if_pos (show a = -1 from c), if_pos c]
    · rw [if_neg (show ¬ a = -1 from c), if_neg c, if_neg (fun q => by
        rcases pz_cases a with n | ⟨p, hp, rfl⟩
        · exact pz_neg n 0 (by omega) q.1
        · exact h2 p ((pz_le1 hp (by omega)).mp q.2) rfl)]
      rfl
  · have h1 : m_could_l4 I' a fu 0 0 = some (.inl (nI ((cl s 120).getD j 0))) := h1
    subst ej
    rw [h1, pz_lbl, if_neg (pz_ne1 (by omega)), if_pos ⟨(nI_leI (by omega) (by omega)).mpr (Nat.zero_le _), (pz_le1 (by omega) (by omega)).mpr hj⟩, pz_ix (by omega)]
theorem pu_could (h : CC s si I T X tN I' J') (a : Int32) : ∃ (r : Int32) (I1 : PI), x_could I a = some (r, I1) ∧ m_could I' a = some r ∧ CC s si I1 T X tN I' J' := by
  have ht := h.2.2.2.1
  have hV := h.1.1
  have hX := h.1.2.2.1
  have hM := h.1.2.2.2.2.1
  obtain ⟨I1, e1, d⟩ := px_laysCould hV hX ht
  have hm := pm_could hV hM ht a
  have hl := cl_len s 120
  have hC : CC s si I1 T X tN I' J' := h.step d.fx Fm.rf hV (hX.keep d.2.2.1) hM rfl h.lea
  obtain ⟨d1, d2, -, -⟩ := d
  unfold x_could
  rw [e1, pz_bs]
  by_cases c : a = -nI 1
  · refine ⟨nI (cl s 120).length, I1, ?_, ?_, hC⟩
    · rw [if_pos (show a = -1 from c), d1]
    · rw [hm, if_pos c]
  · rw [if_neg (show ¬ a = -1 from c)]
    rw [if_neg c] at hm
    obtain ⟨b, e, q⟩ := pz_idx a (cl s 120).length (by omega)
    cases b with
    | false =>
      refine ⟨-nI 2, I1, by simp (disch := omega) only [pz_0, pz_1, pz_3, pz_4, pz_9, pz_60, pz_99, pz_119, pz_lt, pz_bs, pz_isb, pz_isb0, pz_isb1, pz_bI0, pz_bIf, if_true, Bool.true_eq_false, if_false, pz_ck, pz_2, x_in_s, d1, e], ?_, hC⟩
      rw [hm, if_neg (of_decide_eq_false e)]
    | true =>
      obtain ⟨p, hp, rfl⟩ := q rfl
      refine ⟨nI ((cl s 120).getD p 0), I1, ?_, ?_, hC⟩
      · have e9 := d2 p hp
        simp (disch := omega) only [pz_0, pz_1, x_in_s, d1, e, pz_bs, pz_bI0, Bool.true_eq_false, if_false, pz_inb, pz_ck, pz_ix, e9]
      · rw [hm, if_pos (of_decide_eq_true e), pz_ix (by omega)]
end OPJ
