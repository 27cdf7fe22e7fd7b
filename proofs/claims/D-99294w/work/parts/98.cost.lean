/-! the least group, 1: what the kinds cost -/
def shV (c : Nat) : Nat := if c = 0 then 99999 else c
theorem shV_lt {a c : Nat} (ha : a ≤ 9) : a < shV c ↔ c = 0 ∨ a < c := by
  unfold shV
  by_cases h : c = 0
  · rw [if_pos h]
    exact ⟨fun _ => Or.inl h, fun _ => by omega⟩
  · rw [if_neg h]
    exact ⟨fun q => Or.inr q, fun q => q.elim (fun z => absurd z h) id⟩
section CST
variable {s si : SN} {I : PI} {T : PT} {X : TS} {tN : XCo} {I' : PI} {J' : PJ}
theorem cstF_le (hV : VSt s) (forms kind : Nat) : ∀ f, f ≤ s 2 0 → cstF s forms kind f ≤ 9
  | 0, _ => Nat.zero_le _
  | f + 1, h => by
    have ih := cstF_le hV forms kind f (by omega)
    have := (hV.2.2.1 f (by omega)).2.2
    unfold cstF
    split <;> omega
theorem cst_le (hV : VSt s) (forms kind : Nat) : cst s forms kind ≤ 9 := cstF_le hV forms kind _ (Nat.le_refl _)
theorem cstF_succ (forms kind f : Nat) : cstF s forms kind (f + 1) = if forms.testBit f = true ∧ s 4 f = kind ∧ (cstF s forms kind f = 0 ∨ s 5 f < cstF s forms kind f) then s 5 f else cstF s forms kind f := by
  show (if (forms.testBit f && decide (s 4 f = kind) && (decide (cstF s forms kind f = 0) || decide (s 5 f < cstF s forms kind f))) = true then _ else _) = _
  simp only [Bool.and_eq_true, Bool.or_eq_true, decide_eq_true_eq, and_assoc]
theorem px_shortest (hV : VSt s) (hX : XR s I) {forms kind : Nat} (hf : forms < 256) (hk : kind < 5) : x_shortest I (nI forms) (nI kind) = some (nI (shV (cst s forms kind))) := by
  have hcl := cstF_le hV forms kind
  obtain ⟨⟨v0, v1, v2, v3, v4, v5, v6, v7⟩, vr, vf, vs, va, ve, vt⟩ := hV
  have hx := hX.1
  obtain ⟨c, h1, h2⟩ := pz_loop (fun k v (c : Nat) => x_shortest_l6 I (nI forms) (nI kind) k (nI c) (nI v)) (s 2 0) (fun c => some (nI c)) (fun v c => c = shV (cstF s forms kind v)) (fun k c _ => by
      show x_shortest_b6 I (nI forms) (nI kind) (x_shortest_l6 I (nI forms) (nI kind) k) (nI c) (nI (s 2 0)) = _
      unfold x_shortest_b6
      simp (disch := omega) only [pz_0, pz_1, pz_2, pz_3, pz_4, pz_5, pz_6, pz_7, pz_8, pz_9, pz_10, pz_11, pz_12, pz_13, pz_14, pz_15, pz_16, pz_20, pz_21, pz_22, pz_24, pz_25, pz_30, pz_31, pz_32, pz_35, pz_40, pz_41, pz_42, pz_43, pz_45, pz_47, pz_48, pz_52, pz_57, pz_58, pz_59, pz_60, pz_61, pz_62, pz_63, pz_65, pz_85, pz_90, pz_97, pz_98, pz_99, pz_100, pz_101, pz_102, pz_103, pz_104, pz_105, pz_107, pz_108, pz_109, pz_110, pz_111, pz_112, pz_114, pz_115, pz_116, pz_119, pz_120, pz_121, pz_122, pz_125, pz_127, pz_153, pz_200, pz_201, pz_202, pz_203, pz_204, pz_205, pz_206, pz_207, pz_208, pz_209, pz_210, pz_211, pz_212, pz_213, pz_214, pz_215, pz_216, pz_217, pz_218, pz_219, pz_220, pz_221, pz_222, pz_223, pz_224, pz_225, pz_255, pz_256, pz_271, pz_300, pz_301, pz_302, pz_303, pz_304, pz_400, pz_401, pz_521, pz_705, pz_1000, pz_1508, pz_1661, pz_1691, pz_2400, pz_3125, pz_9999, pz_10000, pz_30703, pz_65536, pz_99999, pz_1000000, pz_lt, pz_ck, pz_u2, pz_u3, pz_u4, pz_bs, pz_ix, pz_inb, pz_add, pz_mul, pz_sub, nI_leI, nI_ltI, nI_eq, pz_bIt, pz_bIf, pz_isb, pz_isb0, pz_isb1, pz_bI0, pz_bI1, Nat.zero_le, true_and, and_true, decide_true, decide_false, Bool.true_eq_false, Bool.false_eq_true, if_true, if_false, Nat.reduceAdd, Nat.reduceMul, Nat.reduceSub, Nat.reduceEqDiff, Nat.reduceLeDiff, Nat.reduceLT, Nat.one_ne_zero, Nat.zero_ne_one, hx, Nat.le_refl]) (fun k v c hv hP => by
      have hb := px_has forms hf v (by omega)
      obtain ⟨f1, f2, f3⟩ := vf v hv
      have hc := hcl v (by omega)
      have hc1 : c ≤ 99999 := by subst hP; unfold shV; split <;> omega
      refine ⟨shV (cstF s forms kind (v + 1)), ?_, rfl⟩
      show x_shortest_b6 I (nI forms) (nI kind) (x_shortest_l6 I (nI forms) (nI kind) k) (nI c) (nI v) = _
      unfold x_shortest_b6 x_shortest_j58
      simp (disch := omega) only [pz_0, pz_1, pz_2, pz_3, pz_4, pz_5, pz_6, pz_7, pz_8, pz_9, pz_10, pz_11, pz_12, pz_13, pz_14, pz_15, pz_16, pz_20, pz_21, pz_22, pz_24, pz_25, pz_30, pz_31, pz_32, pz_35, pz_40, pz_41, pz_42, pz_43, pz_45, pz_47, pz_48, pz_52, pz_57, pz_58, pz_59, pz_60, pz_61, pz_62, pz_63, pz_65, pz_85, pz_90, pz_97, pz_98, pz_99, pz_100, pz_101, pz_102, pz_103, pz_104, pz_105, pz_107, pz_108, pz_109, pz_110, pz_111, pz_112, pz_114, pz_115, pz_116, pz_119, pz_120, pz_121, pz_122, pz_125, pz_127, pz_153, pz_200, pz_201, pz_202, pz_203, pz_204, pz_205, pz_206, pz_207, pz_208, pz_209, pz_210, pz_211, pz_212, pz_213, pz_214, pz_215, pz_216, pz_217, pz_218, pz_219, pz_220, pz_221, pz_222, pz_223, pz_224, pz_225, pz_255, pz_256, pz_271, pz_300, pz_301, pz_302, pz_303, pz_304, pz_400, pz_401, pz_521, pz_705, pz_1000, pz_1508, pz_1661, pz_1691, pz_2400, pz_3125, pz_9999, pz_10000, pz_30703, pz_65536, pz_99999, pz_1000000, pz_lt, pz_ck, pz_u2, pz_u3, pz_u4, pz_bs, pz_ix, pz_inb, pz_add, pz_mul, pz_sub, nI_leI, nI_ltI, nI_eq, pz_bIt, pz_bIf, pz_isb, pz_isb0, pz_isb1, pz_bI0, pz_bI1, Nat.zero_le, true_and, and_true, decide_true, decide_false, Bool.true_eq_false, Bool.false_eq_true, if_true, if_false, Nat.reduceAdd, Nat.reduceMul, Nat.reduceSub, Nat.reduceEqDiff, Nat.reduceLeDiff, Nat.reduceLT, Nat.one_ne_zero, Nat.zero_ne_one, hx, Nat.not_le.mpr hv, hb]
      rw [cstF_succ]
      by_cases b : forms.testBit v = true
      · rw [if_neg (by rw [b]; decide)]
        by_cases q : s 4 v = kind
        · rw [if_pos q]
          subst hP
          by_cases z : s 5 v < shV (cstF s forms kind v)
          · rw [if_pos z, if_pos ⟨b, q, (shV_lt f3).mp z⟩]
            unfold shV
            rw [if_neg (by omega)]
          · rw [if_neg z, if_neg (fun w => z ((shV_lt f3).mpr w.2.2))]
        · rw [if_neg q, if_neg (fun w => q w.2.1), hP]
      · rw [if_pos (by simpa using b), if_neg (fun w => b w.1), hP]) (s 2 0) fu 0 99999 (by omega) (fu_gt (by omega)) rfl
  unfold x_shortest
  have h2 : x_shortest_l6 I (nI forms) (nI kind) fu 99999 0 = some (nI c) := h2
  rw [h2, h1]
  rfl
/-- the reference's costs laid -/
def CsM (s : SN) (forms n : Nat) (I I1 : PI) : Prop := (∀ k, k < n → I1 14 k = nI (cst s forms k)) ∧ ∀ k, k ≠ 14 → I1 k = I k
theorem codeC_le {c : Nat → Nat} (h : ∀ k, k < 5 → c k ≤ 9) : codeC c ≤ 99999 := by
  have h0 := h 0 (by decide)
  have h1 := h 1 (by decide)
  have h2 := h 2 (by decide)
  have h3 := h 3 (by decide)
  have h4 := h 4 (by decide)
  unfold codeC
  omega
theorem codeC_inj {c d : Nat → Nat} (h : ∀ k, k < 5 → c k ≤ 9) (g : ∀ k, k < 5 → d k ≤ 9) (e : codeC c = codeC d) : ∀ k, k < 5 → c k = d k := by
  have h0 := h 0 (by decide)
  have h1 := h 1 (by decide)
  have h2 := h 2 (by decide)
  have h3 := h 3 (by decide)
  have h4 := h 4 (by decide)
  have g0 := g 0 (by decide)
  have g1 := g 1 (by decide)
  have g2 := g 2 (by decide)
  have g3 := g 3 (by decide)
  have g4 := g 4 (by decide)
  unfold codeC at e
  intro k hk
  have hc : k = 0 ∨ k = 1 ∨ k = 2 ∨ k = 3 ∨ k = 4 := by omega
  rcases hc with q | q | q | q | q <;> subst q <;> omega
def codeN (c : Nat → Nat) : Nat → Nat
  | 0 => 0
  | n + 1 => 10 * codeN c n + c n
theorem codeN_5 (c : Nat → Nat) : codeN c 5 = codeC c := by
  show 10 * (10 * (10 * (10 * (10 * 0 + c 0) + c 1) + c 2) + c 3) + c 4 = _
  unfold codeC
  omega
theorem pm_costs1 (hV : VSt s) (hM : MR s (I' 1)) {forms kind : Nat} (hf : forms < 256) (hk : kind < 5) {A : PI} (hA : ∀ k, k ≠ 14 → A k = I' k) (hA0 : A 14 kind = nI 0) :
    ∃ A1, m_layCosts_l19 (nI forms) (nI kind) fu 0 A = some A1 ∧ A1 14 kind = nI (cst s forms kind) ∧ (∀ k, k ≠ 14 → A1 k = I' k) ∧ ∀ j, j ≠ kind → A1 14 j = A 14 j := by
  have hcl := cstF_le hV forms kind
  obtain ⟨⟨v0, v1, v2, v3, v4, v5, v6, v7⟩, vr, vf, vs, va, ve, vt⟩ := hV
  obtain ⟨⟨m0, m1, m2, m3, m4, m5, m6, m7, m8, m9, m10⟩, mp, mf, ms, ma, me, mb, mt⟩ := hM
  obtain ⟨A1, h1, h2⟩ := pz_loop (fun k v (A : PI) => m_layCosts_l19 (nI forms) (nI kind) k (nI v) A) (s 2 0) (fun A => some A) (fun v B => B 14 kind = nI (cstF s forms kind v) ∧ (∀ k, k ≠ 14 → B k = I' k) ∧ ∀ j, j ≠ kind → B 14 j = A 14 j) (fun k B hB => by
      show m_layCosts_b19 (nI forms) (nI kind) (m_layCosts_l19 (nI forms) (nI kind) k) (nI (s 2 0)) B = _
      unfold m_layCosts_b19
      simp (disch := omega) only [pz_0, pz_1, pz_2, pz_3, pz_4, pz_5, pz_6, pz_7, pz_8, pz_9, pz_10, pz_11, pz_12, pz_13, pz_14, pz_15, pz_16, pz_20, pz_21, pz_22, pz_24, pz_25, pz_30, pz_31, pz_32, pz_35, pz_40, pz_41, pz_42, pz_43, pz_45, pz_47, pz_48, pz_52, pz_57, pz_58, pz_59, pz_60, pz_61, pz_62, pz_63, pz_65, pz_85, pz_90, pz_97, pz_98, pz_99, pz_100, pz_101, pz_102, pz_103, pz_104, pz_105, pz_107, pz_108, pz_109, pz_110, pz_111, pz_112, pz_114, pz_115, pz_116, pz_119, pz_120, pz_121, pz_122, pz_125, pz_127, pz_153, pz_200, pz_201, pz_202, pz_203, pz_204, pz_205, pz_206, pz_207, pz_208, pz_209, pz_210, pz_211, pz_212, pz_213, pz_214, pz_215, pz_216, pz_217, pz_218, pz_219, pz_220, pz_221, pz_222, pz_223, pz_224, pz_225, pz_255, pz_256, pz_271, pz_300, pz_301, pz_302, pz_303, pz_304, pz_400, pz_401, pz_521, pz_705, pz_1000, pz_1508, pz_1661, pz_1691, pz_2400, pz_3125, pz_9999, pz_10000, pz_30703, pz_65536, pz_99999, pz_1000000, pz_lt, pz_ck, pz_u2, pz_u3, pz_u4, pz_bs, pz_ix, pz_inb, pz_add, pz_mul, pz_sub, nI_leI, nI_ltI, nI_eq, pz_bIt, pz_bIf, pz_isb, pz_isb0, pz_isb1, pz_bI0, pz_bI1, Nat.zero_le, true_and, and_true, decide_true, decide_false, Bool.true_eq_false, Bool.false_eq_true, if_true, if_false, Nat.reduceAdd, Nat.reduceMul, Nat.reduceSub, Nat.reduceEqDiff, Nat.reduceLeDiff, Nat.reduceLT, Nat.one_ne_zero, Nat.zero_ne_one, hB.2.1, m0, Nat.le_refl]) (fun k v B hv hP => by
      have hb := pm_has forms hf v (by omega)
      obtain ⟨f1, f2, f3⟩ := vf v hv
      have hc := hcl v (by omega)
      obtain ⟨p1, p2, p3⟩ := hP
      obtain ⟨w1, w2⟩ := mf v (by omega)
      have hkd := pm_kindOf B (f := v) (by omega)
      have hln := pm_lengthOf B (f := v) (by omega)
      rw [p2 1 (by decide)] at hkd hln
      rw [w1] at hkd
      rw [w2] at hln
      have st : m_layCosts_b19 (nI forms) (nI kind) (m_layCosts_l19 (nI forms) (nI kind) k) (nI v) B = if forms.testBit v = true ∧ s 4 v = kind ∧ (cstF s forms kind v = 0 ∨ s 5 v < cstF s forms kind v) then m_layCosts_l19 (nI forms) (nI kind) k (nI (v + 1)) (u2 B 14 kind (nI (s 5 v))) else m_layCosts_l19 (nI forms) (nI kind) k (nI (v + 1)) B := by
        unfold m_layCosts_b19 m_layCosts_j73 m_layCosts_j85
        simp (disch := omega) only [pz_0, pz_1, pz_2, pz_3, pz_4, pz_5, pz_6, pz_7, pz_8, pz_9, pz_10, pz_11, pz_12, pz_13, pz_14, pz_15, pz_16, pz_20, pz_21, pz_22, pz_24, pz_25, pz_30, pz_31, pz_32, pz_35, pz_40, pz_41, pz_42, pz_43, pz_45, pz_47, pz_48, pz_52, pz_57, pz_58, pz_59, pz_60, pz_61, pz_62, pz_63, pz_65, pz_85, pz_90, pz_97, pz_98, pz_99, pz_100, pz_101, pz_102, pz_103, pz_104, pz_105, pz_107, pz_108, pz_109, pz_110, pz_111, pz_112, pz_114, pz_115, pz_116, pz_119, pz_120, pz_121, pz_122, pz_125, pz_127, pz_153, pz_200, pz_201, pz_202, pz_203, pz_204, pz_205, pz_206, pz_207, pz_208, pz_209, pz_210, pz_211, pz_212, pz_213, pz_214, pz_215, pz_216, pz_217, pz_218, pz_219, pz_220, pz_221, pz_222, pz_223, pz_224, pz_225, pz_255, pz_256, pz_271, pz_300, pz_301, pz_302, pz_303, pz_304, pz_400, pz_401, pz_521, pz_705, pz_1000, pz_1508, pz_1661, pz_1691, pz_2400, pz_3125, pz_9999, pz_10000, pz_30703, pz_65536, pz_99999, pz_1000000, pz_lt, pz_ck, pz_u2, pz_u3, pz_u4, pz_bs, pz_ix, pz_inb, pz_add, pz_mul, pz_sub, nI_leI, nI_ltI, nI_eq, pz_bIt, pz_bIf, pz_isb, pz_isb0, pz_isb1, pz_bI0, pz_bI1, Nat.zero_le, true_and, and_true, decide_true, decide_false, Bool.true_eq_false, Bool.false_eq_true, if_true, if_false, Nat.reduceAdd, Nat.reduceMul, Nat.reduceSub, Nat.reduceEqDiff, Nat.reduceLeDiff, Nat.reduceLT, Nat.one_ne_zero, Nat.zero_ne_one, p2, m0, Nat.not_le.mpr hv, hb, hkd, hln, p1]
        by_cases b : forms.testBit v = true
        · rw [if_neg (by rw [b]; decide)]
          by_cases q : s 4 v = kind
          · rw [if_pos q]
            by_cases z : cstF s forms kind v = 0
            · rw [if_pos z, if_pos ⟨b, q, Or.inl z⟩]
            · rw [if_neg z]
              by_cases y : cstF s forms kind v ≤ s 5 v
              · rw [if_pos y, if_neg (fun w => by rcases w.2.2 with t | t <;> omega)]
              · rw [if_neg y, if_pos ⟨b, q, Or.inr (by omega)⟩]
          · rw [if_neg q, if_neg (fun w => q w.2.1)]
        · rw [if_pos (by simpa using b), if_neg (fun w => b w.1)]
      by_cases c : forms.testBit v = true ∧ s 4 v = kind ∧ (cstF s forms kind v = 0 ∨ s 5 v < cstF s forms kind v)
      · refine ⟨_, st.trans (if_pos c), ?_, fun k hk => by simp (disch := omega) only [pz_row, pz_at, pz_no]; exact p2 k hk, fun j hj => by simp (disch := omega) only [pz_row, pz_at, pz_no]; exact p3 j hj⟩
        rw [cstF_succ, if_pos c]
        simp (disch := omega) only [pz_row, pz_at, pz_no]
      · exact ⟨B, st.trans (if_neg c), by rw [cstF_succ, if_neg c]; exact p1, p2, p3⟩) (s 2 0) fu 0 A (by omega) (fu_gt (by omega)) ⟨hA0, hA, fun _ _ => rfl⟩
  exact ⟨A1, h2, h1⟩
theorem pm_layCosts (hV : VSt s) (hM : MR s (I' 1)) {forms : Nat} (hf : forms < 256) : ∃ I1, m_layCosts I' (nI forms) = some (nI (codeC (cst s forms)), I1) ∧ CsM s forms 5 I' I1 := by
  obtain ⟨⟨n, A⟩, h1, h2⟩ := pz_loop (fun k v (x : Nat × PI) => m_layCosts_l4 (nI forms) k (nI x.1) (nI v) x.2) 5 (fun x => some (nI x.1, x.2)) (fun v x => x.1 = codeN (cst s forms) v ∧ CsM s forms v I' x.2) (fun k x _ => by
      show m_layCosts_b4 (nI forms) (m_layCosts_l4 (nI forms) k) (nI x.1) (nI 5) x.2 = _
      unfold m_layCosts_b4
      simp (disch := omega) only [pz_0, pz_1, pz_2, pz_3, pz_4, pz_5, pz_6, pz_7, pz_8, pz_9, pz_10, pz_11, pz_12, pz_13, pz_14, pz_15, pz_16, pz_20, pz_21, pz_22, pz_24, pz_25, pz_30, pz_31, pz_32, pz_35, pz_40, pz_41, pz_42, pz_43, pz_45, pz_47, pz_48, pz_52, pz_57, pz_58, pz_59, pz_60, pz_61, pz_62, pz_63, pz_65, pz_85, pz_90, pz_97, pz_98, pz_99, pz_100, pz_101, pz_102, pz_103, pz_104, pz_105, pz_107, pz_108, pz_109, pz_110, pz_111, pz_112, pz_114, pz_115, pz_116, pz_119, pz_120, pz_121, pz_122, pz_125, pz_127, pz_153, pz_200, pz_201, pz_202, pz_203, pz_204, pz_205, pz_206, pz_207, pz_208, pz_209, pz_210, pz_211, pz_212, pz_213, pz_214, pz_215, pz_216, pz_217, pz_218, pz_219, pz_220, pz_221, pz_222, pz_223, pz_224, pz_225, pz_255, pz_256, pz_271, pz_300, pz_301, pz_302, pz_303, pz_304, pz_400, pz_401, pz_521, pz_705, pz_1000, pz_1508, pz_1661, pz_1691, pz_2400, pz_3125, pz_9999, pz_10000, pz_30703, pz_65536, pz_99999, pz_1000000, pz_lt, pz_ck, pz_u2, pz_u3, pz_u4, pz_bs, pz_ix, pz_inb, pz_add, pz_mul, pz_sub, nI_leI, nI_ltI, nI_eq, pz_bIt, pz_bIf, pz_isb, pz_isb0, pz_isb1, pz_bI0, pz_bI1, Nat.zero_le, true_and, and_true, decide_true, decide_false, Bool.true_eq_false, Bool.false_eq_true, if_true, if_false, Nat.reduceAdd, Nat.reduceMul, Nat.reduceSub, Nat.reduceEqDiff, Nat.reduceLeDiff, Nat.reduceLT, Nat.one_ne_zero, Nat.zero_ne_one, Nat.le_refl]) (fun k v x hv hP => by
      obtain ⟨n, A⟩ := x
      obtain ⟨p1, p2, p3⟩ := hP
      obtain ⟨A1, e1, e2, e3, e4⟩ := pm_costs1 hV hM hf hv (A := u2 A 14 v (nI 0)) (fun k hk => by simp (disch := omega) only [pz_row, pz_at, pz_no]; exact p3 k hk) (by simp (disch := omega) only [pz_row, pz_at, pz_no])
      refine ⟨(codeN (cst s forms) (v + 1), A1), ?_, rfl, fun j hj => ?_, e3⟩
      · show m_layCosts_b4 (nI forms) (m_layCosts_l4 (nI forms) k) (nI n) (nI v) A = _
        unfold m_layCosts_b4
        rw [pz_0] at e1
        simp (disch := omega) only [pz_0, pz_1, pz_2, pz_3, pz_4, pz_5, pz_6, pz_7, pz_8, pz_9, pz_10, pz_11, pz_12, pz_13, pz_14, pz_15, pz_16, pz_20, pz_21, pz_22, pz_24, pz_25, pz_30, pz_31, pz_32, pz_35, pz_40, pz_41, pz_42, pz_43, pz_45, pz_47, pz_48, pz_52, pz_57, pz_58, pz_59, pz_60, pz_61, pz_62, pz_63, pz_65, pz_85, pz_90, pz_97, pz_98, pz_99, pz_100, pz_101, pz_102, pz_103, pz_104, pz_105, pz_107, pz_108, pz_109, pz_110, pz_111, pz_112, pz_114, pz_115, pz_116, pz_119, pz_120, pz_121, pz_122, pz_125, pz_127, pz_153, pz_200, pz_201, pz_202, pz_203, pz_204, pz_205, pz_206, pz_207, pz_208, pz_209, pz_210, pz_211, pz_212, pz_213, pz_214, pz_215, pz_216, pz_217, pz_218, pz_219, pz_220, pz_221, pz_222, pz_223, pz_224, pz_225, pz_255, pz_256, pz_271, pz_300, pz_301, pz_302, pz_303, pz_304, pz_400, pz_401, pz_521, pz_705, pz_1000, pz_1508, pz_1661, pz_1691, pz_2400, pz_3125, pz_9999, pz_10000, pz_30703, pz_65536, pz_99999, pz_1000000, pz_lt, pz_ck, pz_u2, pz_u3, pz_u4, pz_bs, pz_ix, pz_inb, pz_add, pz_mul, pz_sub, nI_leI, nI_ltI, nI_eq, pz_bIt, pz_bIf, pz_isb, pz_isb0, pz_isb1, pz_bI0, pz_bI1, Nat.zero_le, true_and, and_true, decide_true, decide_false, Bool.true_eq_false, Bool.false_eq_true, if_true, if_false, Nat.reduceAdd, Nat.reduceMul, Nat.reduceSub, Nat.reduceEqDiff, Nat.reduceLeDiff, Nat.reduceLT, Nat.one_ne_zero, Nat.zero_ne_one, Nat.not_le.mpr hv, e1, e2]
        rw [show codeN (cst s forms) (v + 1) = 10 * n + cst s forms v by rw [show n = codeN (cst s forms) v from p1]; rfl]
      · by_cases q : j = v
        · rw [q]; exact e2
        · have p2 : A 14 j = nI (cst s forms j) := p2 j (by omega)
          show A1 14 j = _
          rw [e4 j q, ← p2]
          simp (disch := omega) only [pz_row, pz_at, pz_no]) 5 fu 0 (0, I') (by omega) (fu_gt (by omega)) ⟨rfl, fun j hj => absurd hj (Nat.not_lt_zero j), fun _ _ => rfl⟩
  obtain ⟨p1, p2⟩ := h1
  refine ⟨A, ?_, p2⟩
  unfold m_layCosts
  have h2 : m_layCosts_l4 (nI forms) fu 0 0 I' = some (nI n, A) := h2
  have p1 : n = codeC (cst s forms) := p1.trans (codeN_5 _)
  rw [h2, p1]
  rfl
end CST
