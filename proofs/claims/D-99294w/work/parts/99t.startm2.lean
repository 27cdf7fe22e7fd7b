/-! the start, 3: all the reference's orders -/
theorem pm_layOrders (I : PI) : ∃ I1, m_layOrders I = some I1 ∧ (∀ i, i < 120 → MOrd i I1) ∧ ∀ k, k ≠ 4 → k ≠ 5 → I1 k = I k := by
  obtain ⟨⟨i, A⟩, ⟨h1, h2, h3, h4⟩, h5⟩ := pz_loop (fun f v (x : Nat × PI) => m_layOrders_l4 f (nI x.1) (nI v) x.2) 3125 (fun x => some x.2) (fun v x => scanO (3125 - v) v x.1 = true ∧ x.1 ≤ 120 ∧ (∀ i, i < x.1 → MOrd i x.2) ∧ ∀ k, k ≠ 4 → k ≠ 5 → x.2 k = I k) (fun f x _ => by
      show m_layOrders_b4 (m_layOrders_l4 f) (nI x.1) (nI 3125) x.2 = _
      unfold m_layOrders_b4
      simp (disch := omega) only [pz_0, pz_1, pz_2, pz_3, pz_4, pz_5, pz_6, pz_7, pz_8, pz_9, pz_10, pz_11, pz_12, pz_13, pz_14, pz_15, pz_16, pz_20, pz_21, pz_22, pz_24, pz_25, pz_30, pz_31, pz_32, pz_35, pz_40, pz_41, pz_42, pz_43, pz_45, pz_47, pz_48, pz_52, pz_57, pz_58, pz_59, pz_60, pz_61, pz_62, pz_63, pz_65, pz_85, pz_90, pz_97, pz_98, pz_99, pz_100, pz_101, pz_102, pz_103, pz_104, pz_105, pz_107, pz_108, pz_109, pz_110, pz_111, pz_112, pz_114, pz_115, pz_116, pz_119, pz_120, pz_121, pz_122, pz_125, pz_127, pz_153, pz_200, pz_201, pz_202, pz_203, pz_204, pz_205, pz_206, pz_207, pz_208, pz_209, pz_210, pz_211, pz_212, pz_213, pz_214, pz_215, pz_216, pz_217, pz_218, pz_219, pz_220, pz_221, pz_222, pz_223, pz_224, pz_225, pz_255, pz_256, pz_271, pz_300, pz_301, pz_302, pz_303, pz_304, pz_400, pz_401, pz_521, pz_705, pz_1000, pz_1508, pz_1661, pz_1691, pz_2400, pz_3125, pz_9999, pz_10000, pz_30703, pz_65536, pz_99999, pz_1000000, pz_lt, pz_ck, pz_u2, pz_u3, pz_u4, pz_bs, pz_ix, pz_inb, pz_add, pz_mul, pz_sub, nI_leI, nI_ltI, nI_eq, pz_bIt, pz_bIf, pz_isb, pz_isb0, pz_isb1, pz_bI0, pz_bI1, Nat.zero_le, true_and, and_true, decide_true, decide_false, Bool.true_eq_false, Bool.false_eq_true, if_true, if_false, Nat.reduceAdd, Nat.reduceMul, Nat.reduceSub, Nat.reduceEqDiff, Nat.reduceLeDiff, Nat.reduceLT, Nat.one_ne_zero, Nat.zero_ne_one, Nat.le_refl]) (fun f v x hv hP => by
      obtain ⟨i, A⟩ := x
      obtain ⟨p1, p2, p3, p4⟩ := hP
      have p1 : scanO (3125 - v) v i = true := p1
      have p2 : i ≤ 120 := p2
      have p3 : ∀ j, j < i → MOrd j A := p3
      have p4 : ∀ k, k ≠ 4 → k ≠ 5 → A k = I k := p4
      rw [show 3125 - v = 3125 - (v + 1) + 1 by omega] at p1
      have p1 : (if mkA v 5 = 31 then (decide (i < 120) && decide (codeO i = v)) && scanO (3125 - (v + 1)) (v + 1) (i + 1) else scanO (3125 - (v + 1)) (v + 1) i) = true := p1
      have hl := pm_l19 hv
      have hlt := mkA_lt v 5
      by_cases c : mkA v 5 = 31
      · rw [if_pos c, Bool.and_eq_true, Bool.and_eq_true, decide_eq_true_eq, decide_eq_true_eq] at p1
        obtain ⟨⟨hi, hc⟩, hs⟩ := p1
        obtain ⟨A1, e1, m1, m2, m3⟩ := pm_l61 hi (by omega) A
        rw [hc] at e1
        refine ⟨(i + 1, A1), ?_, hs, hi, fun j hj => ?_, fun k h1 h2 => (m3 k h1 h2).trans (p4 k h1 h2)⟩
        · show m_layOrders_b4 (m_layOrders_l4 f) (nI i) (nI v) A = _
          rw [c] at hl
          unfold m_layOrders_b4 m_layOrders_j111
          simp (disch := omega) only [pz_3125, pz_0, pz_31, pz_4, pz_1, nI_leI, Nat.not_le.mpr hv, if_false, if_true, hl, pz_bs, e1, pz_lt, pz_add]
        · have hj : j < i + 1 := hj
          by_cases q : j = i
          · rw [q]; exact m1
          · intro d hd
            obtain ⟨y1, y2⟩ := m2 (5 * j + d) (by omega)
            show A1 4 (5 * j + d) = _ ∧ A1 5 (5 * j + d) = _
            rw [y1, y2]
            exact p3 j (by omega) d hd
      · rw [if_neg c] at p1
        refine ⟨(i, A), ?_, p1, p2, p3, p4⟩
        show m_layOrders_b4 (m_layOrders_l4 f) (nI i) (nI v) A = _
        unfold m_layOrders_b4 m_layOrders_j111
        simp (disch := omega) only [pz_3125, pz_0, pz_31, pz_4, pz_1, nI_leI, nI_eq, Nat.not_le.mpr hv, if_false, c, hl, pz_bs, pz_lt, pz_add]) 3125 fu 0 (0, I) (by omega) (fu_gt (by omega)) ⟨scanO_ok, Nat.zero_le _, fun j hj => absurd hj (Nat.not_lt_zero j), fun _ _ _ => rfl⟩
  have h1 : scanO 0 3125 i = true := h1
  have hi : i = 120 := of_decide_eq_true h1
  refine ⟨A, ?_, fun j hj => h3 j (by show j < i; omega), h4⟩
  unfold m_layOrders
  have h5 : m_layOrders_l4 fu 0 0 I = some A := h5
  rw [h5]
  rfl
