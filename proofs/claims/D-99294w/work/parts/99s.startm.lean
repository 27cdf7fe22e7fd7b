/-! the start, 2: the reference's orders laid -/
def mkA (v : Nat) : Nat → Nat
  | 0 => 0
  | k + 1 => mkA v k ||| 2 ^ ((v / 5 ^ k) % 5)
def codeO (i : Nat) : Nat := (((ordT i 0 * 5 + ordT i 1) * 5 + ordT i 2) * 5 + ordT i 3) * 5 + ordT i 4
def scanO : Nat → Nat → Nat → Bool
  | 0, _, i => decide (i = 120)
  | f + 1, v, i => if mkA v 5 = 31 then (decide (i < 120) && decide (codeO i = v)) && scanO f (v + 1) (i + 1) else scanO f (v + 1) i
theorem scanO_ok : scanO 3125 0 0 = true := by decide +kernel
theorem dig_ok : ∀ i, i < 120 → ∀ d, d < 5 → codeO i / 5 ^ (4 - d) % 5 = ordT i d := by decide +kernel
theorem mkA_lt (v : Nat) : ∀ k, mkA v k < 2 ^ 5
  | 0 => Nat.two_pow_pos 5
  | k + 1 => Nat.or_lt_two_pow (mkA_lt v k) (Nat.pow_lt_pow_right (by decide) (Nat.mod_lt _ (by decide)))
theorem mod5 (w : Nat) : w - w / 5 * 5 = w % 5 := by omega
theorem pm_b19 {a u k : Nat} (hk : k < 5) (hu : u < 3125) (self : Int32 → Int32 → Int32 → Option Int32) : m_layOrders_b19 self (nI a) (nI u) (nI k) = self (nI (a ||| 2 ^ (u % 5))) (nI (u / 5)) (nI (k + 1)) := by
  have hm := mod5 u
  have hs := pz_shl (u % 5) (by omega)
  have hle : u / 5 * 5 ≤ u := Nat.div_mul_le_self u 5
  unfold m_layOrders_b19
  simp (disch := omega) only [pz_5, pz_1, pz_31, nI_leI, Nat.not_le.mpr hk, if_false, pz_lt, pz_div, pz_mul, pz_sub, pz_add, hm, hs, pz_or]
theorem pm_l19 {v : Nat} (hv : v < 3125) : m_layOrders_l19 fu (nI 0) (nI v) (nI 0) = some (nI (mkA v 5)) := by
  obtain ⟨⟨a, w⟩, ⟨h1, -⟩, h2⟩ := pz_loop (fun f k (x : Int32 × Int32) => m_layOrders_l19 f x.1 x.2 (nI k)) 5 (fun x => some x.1) (fun k x => x.1 = nI (mkA v k) ∧ x.2 = nI (v / 5 ^ k)) (fun f x _ => by
      show m_layOrders_b19 (m_layOrders_l19 f) x.1 x.2 (nI 5) = _
      unfold m_layOrders_b19
      simp (disch := omega) only [pz_0, pz_1, pz_2, pz_3, pz_4, pz_5, pz_6, pz_7, pz_8, pz_9, pz_10, pz_11, pz_12, pz_13, pz_14, pz_15, pz_16, pz_20, pz_21, pz_22, pz_24, pz_25, pz_30, pz_31, pz_32, pz_35, pz_40, pz_41, pz_42, pz_43, pz_45, pz_47, pz_48, pz_52, pz_57, pz_58, pz_59, pz_60, pz_61, pz_62, pz_63, pz_65, pz_85, pz_90, pz_97, pz_98, pz_99, pz_100, pz_101, pz_102, pz_103, pz_104, pz_105, pz_107, pz_108, pz_109, pz_110, pz_111, pz_112, pz_114, pz_115, pz_116, pz_119, pz_120, pz_121, pz_122, pz_125, pz_127, pz_153, pz_200, pz_201, pz_202, pz_203, pz_204, pz_205, pz_206, pz_207, pz_208, pz_209, pz_210, pz_211, pz_212, pz_213, pz_214, pz_215, pz_216, pz_217, pz_218, pz_219, pz_220, pz_221, pz_222, pz_223, pz_224, pz_225, pz_255, pz_256, pz_271, pz_300, pz_301, pz_302, pz_303, pz_304, pz_400, pz_401, pz_521, pz_705, pz_1000, pz_1508, pz_1661, pz_1691, pz_2400, pz_3125, pz_9999, pz_10000, pz_30703, pz_65536, pz_99999, pz_1000000, pz_lt, pz_ck, pz_u2, pz_u3, pz_u4, pz_bs, pz_ix, pz_inb, pz_add, pz_mul, pz_sub, nI_leI, nI_ltI, nI_eq, pz_bIt, pz_bIf, pz_isb, pz_isb0, pz_isb1, pz_bI0, pz_bI1, Nat.zero_le, true_and, and_true, decide_true, decide_false, Bool.true_eq_false, Bool.false_eq_true, if_true, if_false, Nat.reduceAdd, Nat.reduceMul, Nat.reduceSub, Nat.reduceEqDiff, Nat.reduceLeDiff, Nat.reduceLT, Nat.one_ne_zero, Nat.zero_ne_one, Nat.le_refl]) (fun f k x hk hP => by
      obtain ⟨a, w⟩ := x
      obtain ⟨p1, p2⟩ := hP
      have p1 : a = nI (mkA v k) := p1
      have p2 : w = nI (v / 5 ^ k) := p2
      have hd : v / 5 ^ (k + 1) = v / 5 ^ k / 5 := by rw [Nat.pow_succ, Nat.div_div_eq_div_mul]
      have hw : v / 5 ^ k ≤ v := Nat.div_le_self _ _
      refine ⟨(nI (mkA v (k + 1)), nI (v / 5 ^ (k + 1))), ?_, rfl, rfl⟩
      show m_layOrders_b19 (m_layOrders_l19 f) a w (nI k) = m_layOrders_l19 f (nI (mkA v k ||| 2 ^ ((v / 5 ^ k) % 5))) (nI (v / 5 ^ (k + 1))) (nI (k + 1))
      rw [hd, p1, p2]
      exact pm_b19 hk (by omega) (m_layOrders_l19 f)) 5 fu 0 (nI 0, nI v) (by omega) (fu_gt (by omega)) ⟨rfl, by show nI v = nI (v / 5 ^ 0); rw [Nat.pow_zero, Nat.div_one]⟩
  have h1 : a = nI (mkA v 5) := h1
  rw [← h1]
  exact h2
/-- one order of the reference -/
def MOrd (i : Nat) (A : PI) : Prop := ∀ d, d < 5 → A 4 (5 * i + d) = nI (ordT i d) ∧ A 5 (5 * i + d) = nI (plcT i d)
theorem pm_l61s {i w d : Nat} (hi : i < 120) (hd : d < 5) (hw : w < 3125) (k : Nat) (A : PI) : m_layOrders_l61 (nI i) (k + 1) (nI w) (nI d) A = m_layOrders_l61 (nI i) k (nI (w / 5)) (nI d + -nI 1) (u2 (u2 A 4 (5 * i + d) (nI (w % 5))) 5 (5 * i + w % 5) (nI d)) := by
  have hm := mod5 w
  have h5 : w % 5 < 5 := Nat.mod_lt _ (by decide)
  have hle : w / 5 * 5 ≤ w := Nat.div_mul_le_self w 5
  have ng : ¬ nI d < nI 0 := by rw [nI_ltI (by omega) (by omega)]; omega
  show m_layOrders_b61 (nI i) (m_layOrders_l61 (nI i) k) (nI w) (nI d) A = _
  unfold m_layOrders_b61
  simp (disch := omega) only [pz_5, pz_1, pz_0, ng, if_false, pz_lt, pz_ck, pz_div, pz_mul, pz_sub, pz_add, hm, pz_inb, pz_ix]
theorem pm_l61 {i : Nat} (hi : i < 120) (hc : codeO i < 3125) (A : PI) : ∃ A1, m_layOrders_l61 (nI i) fu (nI (codeO i)) (nI 4) A = some A1 ∧ MOrd i A1 ∧ (∀ j, j < 5 * i → A1 4 j = A 4 j ∧ A1 5 j = A 5 j) ∧ ∀ k, k ≠ 4 → k ≠ 5 → A1 k = A k := by
  obtain ⟨o0, o1, o2, o3, o4⟩ : (ordT i 0 < 5 ∧ ordT i 1 < 5 ∧ ordT i 2 < 5 ∧ ordT i 3 < 5 ∧ ordT i 4 < 5) := ⟨(ord_ok i hi 0 (by decide)).1, (ord_ok i hi 1 (by decide)).1, (ord_ok i hi 2 (by decide)).1, (ord_ok i hi 3 (by decide)).1, (ord_ok i hi 4 (by decide)).1⟩
  have d4 : codeO i % 5 = ordT i 4 ∧ codeO i / 5 % 5 = ordT i 3 ∧ codeO i / 5 / 5 % 5 = ordT i 2 ∧ codeO i / 5 / 5 / 5 % 5 = ordT i 1 ∧ codeO i / 5 / 5 / 5 / 5 % 5 = ordT i 0 := by
    unfold codeO
    omega
  obtain ⟨d4, d3, d2, d1, d0⟩ := d4
  have hfu : fu = 1099511627770 + 1 + 1 + 1 + 1 + 1 + 1 := rfl
  have q4 : nI 4 + -nI 1 = nI 3 := by decide
  have q3 : nI 3 + -nI 1 = nI 2 := by decide
  have q2 : nI 2 + -nI 1 = nI 1 := by decide
  have q1 : nI 1 + -nI 1 = nI 0 := by decide
  have fin : ∀ (w : Int32) (B : PI), m_layOrders_l61 (nI i) (1099511627770 + 1) w (nI 0 + -nI 1) B = some B := fun w B => by
    show m_layOrders_b61 (nI i) _ w (nI 0 + -nI 1) B = _
    unfold m_layOrders_b61
    rw [if_pos (by decide)]
  have e := pm_l61s hi (d := 4) (by decide) hc (1099511627770 + 1 + 1 + 1 + 1 + 1) A
  rw [q4, pm_l61s hi (d := 3) (by decide) (by omega), q3, pm_l61s hi (d := 2) (by decide) (by omega), q2, pm_l61s hi (d := 1) (by decide) (by omega), q1, pm_l61s hi (d := 0) (by decide) (by omega), fin, d4, d3, d2, d1, d0] at e
  refine ⟨_, by rw [hfu]; exact e, fun d hd => ?_, fun j hj => ⟨?_, ?_⟩, fun k h4 h5 => ?_⟩
  · have n01 := ord_ne hi (a := 0) (b := 1) (by decide) (by decide) (by decide)
    have n02 := ord_ne hi (a := 0) (b := 2) (by decide) (by decide) (by decide)
    have n03 := ord_ne hi (a := 0) (b := 3) (by decide) (by decide) (by decide)
    have n04 := ord_ne hi (a := 0) (b := 4) (by decide) (by decide) (by decide)
    have n12 := ord_ne hi (a := 1) (b := 2) (by decide) (by decide) (by decide)
    have n13 := ord_ne hi (a := 1) (b := 3) (by decide) (by decide) (by decide)
    have n14 := ord_ne hi (a := 1) (b := 4) (by decide) (by decide) (by decide)
    have n23 := ord_ne hi (a := 2) (b := 3) (by decide) (by decide) (by decide)
    have n24 := ord_ne hi (a := 2) (b := 4) (by decide) (by decide) (by decide)
    have n34 := ord_ne hi (a := 3) (b := 4) (by decide) (by decide) (by decide)
    obtain ⟨z1, z2, z3, z4⟩ := ord_ok i hi d hd
    refine ⟨?_, ?_⟩
    · have hc : d = 0 ∨ d = 1 ∨ d = 2 ∨ d = 3 ∨ d = 4 := by omega
      rcases hc with q | q | q | q | q <;> subst q <;> simp (disch := omega) only [pz_row, pz_at, pz_no]
    · have hc : plcT i d = 0 ∨ plcT i d = 1 ∨ plcT i d = 2 ∨ plcT i d = 3 ∨ plcT i d = 4 := by omega
      rcases hc with q | q | q | q | q <;> rw [q] at z4 ⊢ <;> simp (disch := omega) only [pz_row, pz_at, pz_no]
  · simp (disch := omega) only [pz_row, pz_at, pz_no]
  · simp (disch := omega) only [pz_row, pz_at, pz_no]
  · simp (disch := omega) only [pz_row, pz_at, pz_no]
