theorem px_laysOrder (I : PI) {p : Nat} (hp : p < 120) : ∃ I1, x_laysOrder I (nI p) = some I1 ∧ (∀ d, d < 5 → I1 (122 + p) d = nI (ordT p d) ∧ I1 (242 + p) d = nI (plcT p d)) ∧ ∀ k, k ≠ 122 + p → k ≠ 242 + p → I1 k = I k := by
  obtain ⟨⟨v1, v2, v3, A⟩, ⟨-, -, -, h4, h5⟩, h6⟩ := pz_loop (fun k d (x : Int32 × Int32 × Int32 × PI) => x_laysOrder_l12 (nI p) k x.1 x.2.1 x.2.2.1 (nI d) x.2.2.2) 5 (fun x => some x.2.2.2) (fun d x => x.1 = nI (remS p d) ∧ x.2.1 = nI (p % cS d) ∧ x.2.2.1 = nI (cS d) ∧ (∀ e, e < d → x.2.2.2 (122 + p) e = nI (ordT p e) ∧ x.2.2.2 (242 + p) (ordT p e) = nI e) ∧ ∀ k, k ≠ 122 + p → k ≠ 242 + p → x.2.2.2 k = I k) (fun k x _ => by
      show x_laysOrder_b12 (nI p) (x_laysOrder_l12 (nI p) k) x.1 x.2.1 x.2.2.1 (nI 5) x.2.2.2 = _
      unfold x_laysOrder_b12
      simp (disch := omega) only [pz_0, pz_1, pz_2, pz_3, pz_4, pz_5, pz_6, pz_7, pz_8, pz_9, pz_10, pz_11, pz_12, pz_13, pz_14, pz_15, pz_16, pz_20, pz_21, pz_22, pz_24, pz_25, pz_30, pz_31, pz_32, pz_35, pz_40, pz_41, pz_42, pz_43, pz_45, pz_47, pz_48, pz_52, pz_57, pz_58, pz_59, pz_60, pz_61, pz_62, pz_63, pz_65, pz_85, pz_90, pz_97, pz_98, pz_99, pz_100, pz_101, pz_102, pz_103, pz_104, pz_105, pz_107, pz_108, pz_109, pz_110, pz_111, pz_112, pz_114, pz_115, pz_116, pz_119, pz_120, pz_121, pz_122, pz_125, pz_127, pz_153, pz_200, pz_201, pz_202, pz_203, pz_204, pz_205, pz_206, pz_207, pz_208, pz_209, pz_210, pz_211, pz_212, pz_213, pz_214, pz_215, pz_216, pz_217, pz_218, pz_219, pz_220, pz_221, pz_222, pz_223, pz_224, pz_225, pz_255, pz_256, pz_271, pz_300, pz_301, pz_302, pz_303, pz_304, pz_400, pz_401, pz_521, pz_705, pz_1000, pz_1508, pz_1661, pz_1691, pz_2400, pz_3125, pz_9999, pz_10000, pz_30703, pz_65536, pz_99999, pz_1000000, pz_lt, pz_ck, pz_u2, pz_u3, pz_u4, pz_bs, pz_ix, pz_inb, pz_add, pz_mul, pz_sub, nI_leI, nI_ltI, nI_eq, pz_bIt, pz_bIf, pz_isb, pz_isb0, pz_isb1, pz_bI0, pz_bI1, Nat.zero_le, true_and, and_true, decide_true, decide_false, Bool.true_eq_false, Bool.false_eq_true, if_true, if_false, Nat.reduceAdd, Nat.reduceMul, Nat.reduceSub, Nat.reduceEqDiff, Nat.reduceLeDiff, Nat.reduceLT, Nat.one_ne_zero, Nat.zero_ne_one, Nat.le_refl]) (fun k d x hd hP => by
      obtain ⟨v1, v2, v3, A⟩ := x
      obtain ⟨p1, p2, p3, p4, p5⟩ := hP
      have p1 : v1 = nI (remS p d) := p1
      have p2 : v2 = nI (p % cS d) := p2
      have p3 : v3 = nI (cS d) := p3
      subst p1 p2 p3
      obtain ⟨c1, c2, c3⟩ := lo_chk p hp d hd
      obtain ⟨c4, c5, c6⟩ := cS_chk d hd
      have ho := (ord_ok p hp d hd).1
      refine ⟨(nI (remS p (d + 1)), nI (p % cS (d + 1)), nI (cS (d + 1)), u2 (u2 A (122 + p) d (nI (ordT p d))) (242 + p) (ordT p d) (nI d)), ?_, rfl, rfl, rfl, fun e he => ?_, fun k h1 h2 => ?_⟩
      · show x_laysOrder_b12 (nI p) (x_laysOrder_l12 (nI p) k) (nI (remS p d)) (nI (p % cS d)) (nI (cS d)) (nI d) A = _
        unfold x_laysOrder_b12
        simp (disch := omega) only [pz_5, pz_1, pz_31, nI_leI, Nat.not_le.mpr hd, if_false, pz_lt, pz_ck, pz_bs, pz_ix, pz_inb, pz_add]
        simp (disch := omega) only [c4, c5, c6, c1, c2, c3, pz_ck, pz_bs, pz_ix, pz_inb]
      · by_cases q : e = d
        · subst q
          simp (disch := omega) only [pz_row, pz_at, pz_no]
          exact ⟨trivial, trivial⟩
        · have h1 := p4 e (by omega)
          have ne := ord_ne hp (show e < 5 by omega) hd q
          simp (disch := omega) only [pz_row, pz_at, pz_no]
          exact h1
      · simp (disch := omega) only [pz_row, pz_at, pz_no]
        exact p5 k h1 h2) 5 fu 0 (nI 31, nI p, nI 120, I) (by omega) (fu_gt (by omega)) ⟨rfl, by show nI p = nI (p % 120); rw [Nat.mod_eq_of_lt hp], rfl, fun e he => absurd he (Nat.not_lt_zero e), fun _ _ _ => rfl⟩
  refine ⟨A, ?_, fun d hd => ⟨(h4 d hd).1, ?_⟩, h5⟩
  · unfold x_laysOrder
    have h6 : x_laysOrder_l12 (nI p) fu (nI 31) (nI p) (nI 120) (nI 0) I = some A := h6
    simp (disch := omega) only [pz_31, pz_120, pz_0, h6, pz_bs]
  · obtain ⟨q1, q2, q3, q4⟩ := ord_ok p hp d hd
    have := (h4 (plcT p d) q2).2
    have h : A (242 + p) (ordT p (plcT p d)) = nI (plcT p d) := this
    rw [q4] at h
    exact h
/-- the tables of the class -/
def XTab (n : Nat) (I : PI) : Prop := ∀ i d, i < n → d < 5 → I (122 + i) d = nI (ordT i d) ∧ I (242 + i) d = nI (plcT i d)
theorem px_layAll : ∀ (m n : Nat) (f : Nat) (I : PI), n + m = 120 → m < f → XTab n I → ∃ I1, x_layAll f (nI n) I = some I1 ∧ XTab 120 I1 ∧ ∀ k, k < 122 → I1 k = I k := by
  intro m
  induction m with
  | zero =>
    intro n f I e hf hI
    obtain ⟨f, rfl⟩ : ∃ q, f = q + 1 := ⟨f - 1, by omega⟩
    have e : n = 120 := by omega
    subst e
    exact ⟨I, by unfold x_layAll; rw [if_pos (by decide)], hI, fun _ _ => rfl⟩
  | succ m ih =>
    intro n f I e hf hI
    obtain ⟨f, rfl⟩ : ∃ q, f = q + 1 := ⟨f - 1, by omega⟩
    obtain ⟨I1, e1, h1, h2⟩ := px_laysOrder I (p := n) (by omega)
    have hI1 : XTab (n + 1) I1 := fun i d hi hd => by
      by_cases q : i = n
      · subst q
        exact h1 d hd
      · rw [h2 _ (by omega) (by omega), h2 _ (by omega) (by omega)]
        exact hI i d (by omega) hd
    obtain ⟨I2, e2, h3, h4⟩ := ih (n + 1) f I1 (by omega) (by omega) hI1
    refine ⟨I2, ?_, h3, fun k hk => (h4 k hk).trans (h2 k (by omega) (by omega))⟩
    unfold x_layAll
    have c : ¬ nI n ≥ 120 := by
      show ¬ nI 120 ≤ nI n
      rw [nI_leI (by omega) (by omega)]
      omega
    rw [if_neg c, e1, pz_bs, show (1 : Int32) = nI 1 from rfl, pz_add]
    exact e2
