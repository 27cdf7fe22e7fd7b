/-! members one by one, 8: what could be -/
/-- whether order i can be by what is said -/
def cbB (s : SN) (i : Nat) : Nat → Bool
  | 0 => true
  | n + 1 => cbB s i n && soB (plcT i) (s (11 + n) 0) (s (11 + n) 1) (s (11 + n) 2)
def cb (s : SN) (i : Nat) : Bool := cbB s i (s 2 6)
theorem cb_stop {s : SN} {i k : Nat} : ∀ {n : Nat}, k < n → soB (plcT i) (s (11 + k) 0) (s (11 + k) 1) (s (11 + k) 2) = false → cbB s i n = false
  | n + 1, h, e => by
    show (cbB s i n && _) = false
    by_cases q : k = n
    · subst q
      rw [e, Bool.and_false]
    · rw [cb_stop (by omega) e, Bool.false_and]
/-- those that could be, in order -/
def cl (s : SN) (n : Nat) : List Nat := (List.range n).filter (cb s)
theorem cl_succ (s : SN) (n : Nat) : cl s (n + 1) = cl s n ++ (if cb s n then [n] else []) := by
  unfold cl
  rw [List.range_succ, List.filter_append]
  congr 1
  by_cases c : cb s n = true
  · rw [if_pos c, List.filter_cons_of_pos c]; rfl
  · rw [if_neg c, List.filter_cons_of_neg c]; rfl
theorem cl_len (s : SN) (n : Nat) : (cl s n).length ≤ n := by
  unfold cl
  have := List.length_filter_le (cb s) (List.range n)
  rwa [List.length_range] at this
section OPI
variable {s si : SN} {I : PI} {T : PT} {X : TS} {tN : XCo} {I' : PI} {J' : PJ}
theorem px_canBe (hV : VSt s) (hX : XR s I) (ht : CTab I I') {i : Nat} (hi : i < 120) : x_canBe I (nI i) = some (bI (cb s i)) := by
  obtain ⟨⟨v0, v1, v2, v3, v4, v5, v6, v7⟩, vr, vf, vs, va, ve, vt⟩ := hV
  have hx := hX.1
  have h := pz_loopE (fun k v (_ : Unit) => x_canBe_l2 I (nI i) k (nI v)) (s 2 6) (fun v _ => cbB s i v = true) (fun o => (o = some (.inr ()) ∧ cb s i = true) ∨ (o = some (.inl (nI 0)) ∧ cb s i = false)) (fun k _ hP => Or.inl ⟨by
      show x_canBe_b2 I (nI i) (x_canBe_l2 I (nI i) k) (nI (s 2 6)) = some (.inr ())
      unfold x_canBe_b2
      simp (disch := omega) only [pz_0, pz_1, pz_2, pz_3, pz_4, pz_5, pz_6, pz_7, pz_8, pz_9, pz_10, pz_11, pz_12, pz_13, pz_14, pz_15, pz_16, pz_20, pz_21, pz_22, pz_24, pz_25, pz_30, pz_31, pz_32, pz_35, pz_40, pz_41, pz_42, pz_43, pz_45, pz_47, pz_48, pz_52, pz_57, pz_58, pz_59, pz_60, pz_61, pz_62, pz_63, pz_65, pz_85, pz_90, pz_97, pz_98, pz_99, pz_100, pz_101, pz_102, pz_103, pz_104, pz_105, pz_107, pz_108, pz_109, pz_110, pz_111, pz_112, pz_114, pz_115, pz_116, pz_119, pz_120, pz_121, pz_122, pz_125, pz_127, pz_153, pz_200, pz_201, pz_202, pz_203, pz_204, pz_205, pz_206, pz_207, pz_208, pz_209, pz_210, pz_211, pz_212, pz_213, pz_214, pz_215, pz_216, pz_217, pz_218, pz_219, pz_220, pz_221, pz_222, pz_223, pz_224, pz_225, pz_255, pz_256, pz_271, pz_300, pz_301, pz_302, pz_303, pz_304, pz_400, pz_401, pz_521, pz_705, pz_1000, pz_1508, pz_1661, pz_1691, pz_2400, pz_3125, pz_9999, pz_10000, pz_30703, pz_65536, pz_99999, pz_1000000, pz_lt, pz_ck, pz_u2, pz_u3, pz_u4, pz_bs, pz_ix, pz_inb, pz_add, pz_mul, pz_sub, nI_leI, nI_ltI, nI_eq, pz_bIt, pz_bIf, pz_isb, pz_isb0, pz_isb1, pz_bI0, pz_bI1, Nat.zero_le, true_and, and_true, decide_true, decide_false, Bool.true_eq_false, Bool.false_eq_true, if_true, if_false, Nat.reduceAdd, Nat.reduceMul, Nat.reduceSub, Nat.reduceEqDiff, Nat.reduceLeDiff, Nat.reduceLT, Nat.one_ne_zero, Nat.zero_ne_one, hx, Nat.le_refl], hP⟩) (fun k v _ hv hP => by
      obtain ⟨a1, a2, a3⟩ := va v hv
      obtain ⟨q, -⟩ := pe_isSo ht (i := i) (k := s (11 + v) 0) (a := s (11 + v) 1) (b := s (11 + v) 2) hi a2 a3 a1
      have e : x_canBe_l2 I (nI i) (k + 1) (nI v) = if soB (plcT i) (s (11 + v) 0) (s (11 + v) 1) (s (11 + v) 2) = false then some (.inl (nI 0)) else x_canBe_l2 I (nI i) k (nI (v + 1)) := by
        show x_canBe_b2 I (nI i) (x_canBe_l2 I (nI i) k) (nI v) = _
        unfold x_canBe_b2
        simp (disch := omega) only [pz_0, pz_1, pz_2, pz_3, pz_4, pz_5, pz_6, pz_7, pz_8, pz_9, pz_10, pz_11, pz_12, pz_13, pz_14, pz_15, pz_16, pz_20, pz_21, pz_22, pz_24, pz_25, pz_30, pz_31, pz_32, pz_35, pz_40, pz_41, pz_42, pz_43, pz_45, pz_47, pz_48, pz_52, pz_57, pz_58, pz_59, pz_60, pz_61, pz_62, pz_63, pz_65, pz_85, pz_90, pz_97, pz_98, pz_99, pz_100, pz_101, pz_102, pz_103, pz_104, pz_105, pz_107, pz_108, pz_109, pz_110, pz_111, pz_112, pz_114, pz_115, pz_116, pz_119, pz_120, pz_121, pz_122, pz_125, pz_127, pz_153, pz_200, pz_201, pz_202, pz_203, pz_204, pz_205, pz_206, pz_207, pz_208, pz_209, pz_210, pz_211, pz_212, pz_213, pz_214, pz_215, pz_216, pz_217, pz_218, pz_219, pz_220, pz_221, pz_222, pz_223, pz_224, pz_225, pz_255, pz_256, pz_271, pz_300, pz_301, pz_302, pz_303, pz_304, pz_400, pz_401, pz_521, pz_705, pz_1000, pz_1508, pz_1661, pz_1691, pz_2400, pz_3125, pz_9999, pz_10000, pz_30703, pz_65536, pz_99999, pz_1000000, pz_lt, pz_ck, pz_u2, pz_u3, pz_u4, pz_bs, pz_ix, pz_inb, pz_add, pz_mul, pz_sub, nI_leI, nI_ltI, nI_eq, pz_bIt, pz_bIf, pz_isb, pz_isb0, pz_isb1, pz_bI0, pz_bI1, Nat.zero_le, true_and, and_true, decide_true, decide_false, Bool.true_eq_false, Bool.false_eq_true, if_true, if_false, Nat.reduceAdd, Nat.reduceMul, Nat.reduceSub, Nat.reduceEqDiff, Nat.reduceLeDiff, Nat.reduceLT, Nat.one_ne_zero, Nat.zero_ne_one, hx, Nat.not_le.mpr hv, q]
      cases hs : soB (plcT i) (s (11 + v) 0) (s (11 + v) 1) (s (11 + v) 2) with
      | false => exact Or.inl (Or.inr ⟨by rw [e, if_pos hs], cb_stop hv hs⟩)
      | true => exact Or.inr ⟨(), by rw [e, if_neg (by rw [hs]; decide)], by show (cbB s i v && _) = true; rw [hP, hs]; rfl⟩) (s 2 6) fu 0 () (by omega) (fu_gt (by omega)) rfl
  unfold x_canBe
  rcases h with ⟨h1, h2⟩ | ⟨h1, h2⟩
  · have h1 : x_canBe_l2 I (nI i) fu 0 = some (.inr ()) := h1
    rw [h1, h2]
    rfl
  · have h1 : x_canBe_l2 I (nI i) fu 0 = some (.inl (nI 0)) := h1
    rw [h1, h2]
    rfl
theorem pm_canBe (hV : VSt s) (hM : MR s (I' 1)) (ht : CTab I I') {i : Nat} (hi : i < 120) : m_canBe I' (nI i) = some (bI (cb s i)) := by
  obtain ⟨⟨v0, v1, v2, v3, v4, v5, v6, v7⟩, vr, vf, vs, va, ve, vt⟩ := hV
  obtain ⟨⟨m0, m1, m2, m3, m4, m5, m6, m7, m8, m9, m10⟩, mp, mf, ms, ma, me, mb, mt⟩ := hM
  have h := pz_loopE (fun k v (_ : Unit) => m_canBe_l3 I' (nI i) k (nI (61 + 3 * v))) (s 2 6) (fun v _ => cbB s i v = true) (fun o => (o = some (.inr ()) ∧ cb s i = true) ∨ (o = some (.inl (nI 0)) ∧ cb s i = false)) (fun k _ hP => Or.inl ⟨by
      show m_canBe_b3 I' (nI i) (m_canBe_l3 I' (nI i) k) (nI (61 + 3 * s 2 6)) = some (.inr ())
      unfold m_canBe_b3
      simp (disch := omega) only [pz_0, pz_1, pz_2, pz_3, pz_4, pz_5, pz_6, pz_7, pz_8, pz_9, pz_10, pz_11, pz_12, pz_13, pz_14, pz_15, pz_16, pz_20, pz_21, pz_22, pz_24, pz_25, pz_30, pz_31, pz_32, pz_35, pz_40, pz_41, pz_42, pz_43, pz_45, pz_47, pz_48, pz_52, pz_57, pz_58, pz_59, pz_60, pz_61, pz_62, pz_63, pz_65, pz_85, pz_90, pz_97, pz_98, pz_99, pz_100, pz_101, pz_102, pz_103, pz_104, pz_105, pz_107, pz_108, pz_109, pz_110, pz_111, pz_112, pz_114, pz_115, pz_116, pz_119, pz_120, pz_121, pz_122, pz_125, pz_127, pz_153, pz_200, pz_201, pz_202, pz_203, pz_204, pz_205, pz_206, pz_207, pz_208, pz_209, pz_210, pz_211, pz_212, pz_213, pz_214, pz_215, pz_216, pz_217, pz_218, pz_219, pz_220, pz_221, pz_222, pz_223, pz_224, pz_225, pz_255, pz_256, pz_271, pz_300, pz_301, pz_302, pz_303, pz_304, pz_400, pz_401, pz_521, pz_705, pz_1000, pz_1508, pz_1661, pz_1691, pz_2400, pz_3125, pz_9999, pz_10000, pz_30703, pz_65536, pz_99999, pz_1000000, pz_lt, pz_ck, pz_u2, pz_u3, pz_u4, pz_bs, pz_ix, pz_inb, pz_add, pz_mul, pz_sub, nI_leI, nI_ltI, nI_eq, pz_bIt, pz_bIf, pz_isb, pz_isb0, pz_isb1, pz_bI0, pz_bI1, Nat.zero_le, true_and, and_true, decide_true, decide_false, Bool.true_eq_false, Bool.false_eq_true, if_true, if_false, Nat.reduceAdd, Nat.reduceMul, Nat.reduceSub, Nat.reduceEqDiff, Nat.reduceLeDiff, Nat.reduceLT, Nat.one_ne_zero, Nat.zero_ne_one, m6, Nat.le_refl], hP⟩) (fun k v _ hv hP => by
      obtain ⟨a1, a2, a3⟩ := va v hv
      obtain ⟨-, q⟩ := pe_isSo ht (i := i) (k := s (11 + v) 0) (a := s (11 + v) 1) (b := s (11 + v) 2) hi a2 a3 a1
      have r0 : I' 1 (61 + 3 * v) = nI (s (11 + v) 0) := ma v 0 hv (by decide)
      have r1 : I' 1 (61 + 3 * v + 1) = nI (s (11 + v) 1) := ma v 1 hv (by decide)
      have r2 : I' 1 (61 + 3 * v + 2) = nI (s (11 + v) 2) := ma v 2 hv (by decide)
      have c : ¬ 61 + 3 * s 2 6 ≤ 61 + 3 * v := by omega
      have e3 : 61 + 3 * v + 3 = 61 + 3 * (v + 1) := by omega
      have e : m_canBe_l3 I' (nI i) (k + 1) (nI (61 + 3 * v)) = if soB (plcT i) (s (11 + v) 0) (s (11 + v) 1) (s (11 + v) 2) = false then some (.inl (nI 0)) else m_canBe_l3 I' (nI i) k (nI (61 + 3 * (v + 1))) := by
        show m_canBe_b3 I' (nI i) (m_canBe_l3 I' (nI i) k) (nI (61 + 3 * v)) = _
        unfold m_canBe_b3
        simp (disch := omega) only [pz_0, pz_1, pz_2, pz_3, pz_4, pz_5, pz_6, pz_7, pz_8, pz_9, pz_10, pz_11, pz_12, pz_13, pz_14, pz_15, pz_16, pz_20, pz_21, pz_22, pz_24, pz_25, pz_30, pz_31, pz_32, pz_35, pz_40, pz_41, pz_42, pz_43, pz_45, pz_47, pz_48, pz_52, pz_57, pz_58, pz_59, pz_60, pz_61, pz_62, pz_63, pz_65, pz_85, pz_90, pz_97, pz_98, pz_99, pz_100, pz_101, pz_102, pz_103, pz_104, pz_105, pz_107, pz_108, pz_109, pz_110, pz_111, pz_112, pz_114, pz_115, pz_116, pz_119, pz_120, pz_121, pz_122, pz_125, pz_127, pz_153, pz_200, pz_201, pz_202, pz_203, pz_204, pz_205, pz_206, pz_207, pz_208, pz_209, pz_210, pz_211, pz_212, pz_213, pz_214, pz_215, pz_216, pz_217, pz_218, pz_219, pz_220, pz_221, pz_222, pz_223, pz_224, pz_225, pz_255, pz_256, pz_271, pz_300, pz_301, pz_302, pz_303, pz_304, pz_400, pz_401, pz_521, pz_705, pz_1000, pz_1508, pz_1661, pz_1691, pz_2400, pz_3125, pz_9999, pz_10000, pz_30703, pz_65536, pz_99999, pz_1000000, pz_lt, pz_ck, pz_u2, pz_u3, pz_u4, pz_bs, pz_ix, pz_inb, pz_add, pz_mul, pz_sub, nI_leI, nI_ltI, nI_eq, pz_bIt, pz_bIf, pz_isb, pz_isb0, pz_isb1, pz_bI0, pz_bI1, Nat.zero_le, true_and, and_true, decide_true, decide_false, Bool.true_eq_false, Bool.false_eq_true, if_true, if_false, Nat.reduceAdd, Nat.reduceMul, Nat.reduceSub, Nat.reduceEqDiff, Nat.reduceLeDiff, Nat.reduceLT, Nat.one_ne_zero, Nat.zero_ne_one, m6, c, r0, r1, r2, q, e3]
      cases hs : soB (plcT i) (s (11 + v) 0) (s (11 + v) 1) (s (11 + v) 2) with
      | false => exact Or.inl (Or.inr ⟨by rw [e, if_pos hs], cb_stop hv hs⟩)
      | true => exact Or.inr ⟨(), by rw [e, if_neg (by rw [hs]; decide)], by show (cbB s i v && _) = true; rw [hP, hs]; rfl⟩) (s 2 6) fu 0 () (by omega) (fu_gt (by omega)) rfl
  unfold m_canBe
  rcases h with ⟨h1, h2⟩ | ⟨h1, h2⟩
  · have h1 : m_canBe_l3 I' (nI i) fu 61 = some (.inr ()) := h1
    rw [h1, h2]
    rfl
  · have h1 : m_canBe_l3 I' (nI i) fu 61 = some (.inl (nI 0)) := h1
    rw [h1, h2]
    rfl
end OPI
