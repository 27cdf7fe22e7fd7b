/-! members one by one, 12: least, blurred, of, both, tell -/
/-- whether some forms are enough -/
def en (s : SN) (forms : Nat) : Bool := decide (ctN (fun i => blM s forms i 20) 120 = 1)
def FxS (I I1 : PI) : Prop := (∀ k, k ≠ 0 → k ≠ 119 → I1 k = I k) ∧ ∀ i, i ≠ 12 → i ≠ 13 → I1 0 i = I 0 i
theorem FxS.rf {I : PI} : FxS I I := ⟨fun _ _ _ => rfl, fun _ _ _ => rfl⟩
theorem FxS.tr {I I1 I2 : PI} (h : FxS I I1) (g : FxS I1 I2) : FxS I I2 := ⟨fun k a b => (g.1 k a b).trans (h.1 k a b), fun i a b => (g.2 i a b).trans (h.2 i a b)⟩
theorem FxS.fx {I I1 : PI} (h : FxS I I1) : Fx I I1 := ⟨fun k hk => h.1 k (by omega) (by omega), h.2 3 (by omega) (by omega), h.2 4 (by omega) (by omega), h.2 5 (by omega) (by omega)⟩
section TEL
variable {s si : SN} {I : PI} {T : PT} {X : TS} {tN : XCo} {I' : PI} {J' : PJ}
theorem CC.xs {I1 : PI} (h : CC s si I T X tN I' J') (f : FxS I I1) : CC s si I1 T X tN I' J' := h.step f.fx Fm.rf h.1.1 (h.1.2.2.1.keepY f.1) h.1.2.2.2.2.1 rfl h.lea
theorem CC.ms {I1 : PI} {J1 : PJ} (h : CC s si I T X tN I' J') (f : Fm I' I1 J' J1) (e : I1 1 = I' 1) (hl : CLea I1) : CC s si I T X tN I1 J1 := h.step Fx.rf f h.1.1 h.1.2.2.1 (by rw [e]; exact h.1.2.2.2.2.1) rfl hl
theorem CsM.fm {forms n : Nat} {I1 : PI} (f : CsM s forms n I' I1) : Fm I' I1 J' J' := by
  have e0 := f.2 0 (by decide)
  exact ⟨fun k h1 h2 => f.2 k (by omega), by rw [e0], by rw [e0], by rw [e0], by rw [e0], rfl, rfl⟩
theorem CC.cs {forms n : Nat} {I1 : PI} (h : CC s si I T X tN I' J') (f : CsM s forms n I' I1) : CC s si I T X tN I1 J' := h.ms f.fm (f.2 1 (by decide)) (h.lea.of (by rw [f.2 0 (by decide)]) (by rw [f.2 0 (by decide)]) (by rw [f.2 0 (by decide)]))
theorem px_blurred {I1 : PI} {J1 : PJ} {J : PJ} {forms o : Nat} (ho : o < 120) (h : CSY s forms o 125 I J I1 J1) : x_blurredBy I1 J1 = some (nI (ctN (fun i => blM s forms i 20) 120)) := by
  rw [← bl_count (o := o) ho]
  exact px_blurredBy (xl_len s forms o 125) h.1 (fun j hj => (h.2.1 j hj).2)
theorem CSY.fxs {I1 : PI} {J1 : PJ} {J : PJ} {forms o n : Nat} (h : CSY s forms o n I J I1 J1) : FxS I I1 := ⟨h.2.2.1, fun i hi _ => h.2.2.2 i hi⟩
theorem px_canTell (h : CC s si I T X tN I' J') (J : PJ) {forms i : Nat} (hf : forms < 256) (hi : i < s 2 2) : ∃ I1 J1, x_canTell I J (nI forms) (nI i) = some (bI (en s forms), I1, J1) ∧ FxS I I1 := by
  have hV := h.1.1
  have hX := h.1.2.2.1
  have hM := h.1.2.2.2.2.1
  obtain ⟨⟨v0, v1, v2, v3, v4, v5, v6, v7⟩, vr, vf, vs, va, ve, vt⟩ := id hV
  obtain ⟨⟨m0, m1, m2, m3, m4, m5, m6, m7, m8, m9, m10⟩, mp, mf, ms, ma, me, mb, mt⟩ := id hM
  have hx := hX.1
  have ho := vs i hi
  obtain ⟨I1, J1, e1, d⟩ := px_laysSayings hV hX h.2.2.2.1 J hf ho
  have e2 := px_blurred ho d
  have hl := ctN_le (fun i => blM s forms i 20) 120
  refine ⟨I1, J1, ?_, d.fxs⟩
  unfold x_canTell en
  simp (disch := omega) only [pz_0, pz_1, pz_2, pz_3, pz_4, pz_5, pz_6, pz_7, pz_8, pz_9, pz_10, pz_11, pz_12, pz_13, pz_14, pz_15, pz_16, pz_20, pz_21, pz_22, pz_24, pz_25, pz_30, pz_31, pz_32, pz_35, pz_40, pz_41, pz_42, pz_43, pz_45, pz_47, pz_48, pz_52, pz_57, pz_58, pz_59, pz_60, pz_61, pz_62, pz_63, pz_65, pz_85, pz_90, pz_97, pz_98, pz_99, pz_100, pz_101, pz_102, pz_103, pz_104, pz_105, pz_107, pz_108, pz_109, pz_110, pz_111, pz_112, pz_114, pz_115, pz_116, pz_119, pz_120, pz_121, pz_122, pz_125, pz_127, pz_153, pz_200, pz_201, pz_202, pz_203, pz_204, pz_205, pz_206, pz_207, pz_208, pz_209, pz_210, pz_211, pz_212, pz_213, pz_214, pz_215, pz_216, pz_217, pz_218, pz_219, pz_220, pz_221, pz_222, pz_223, pz_224, pz_225, pz_255, pz_256, pz_271, pz_300, pz_301, pz_302, pz_303, pz_304, pz_400, pz_401, pz_521, pz_705, pz_1000, pz_1508, pz_1661, pz_1691, pz_2400, pz_3125, pz_9999, pz_10000, pz_30703, pz_65536, pz_99999, pz_1000000, pz_lt, pz_ck, pz_u2, pz_u3, pz_u4, pz_bs, pz_ix, pz_inb, pz_add, pz_mul, pz_sub, nI_leI, nI_ltI, nI_eq, pz_bIt, pz_bIf, pz_isb, pz_isb0, pz_isb1, pz_bI0, pz_bI1, Nat.zero_le, true_and, and_true, decide_true, decide_false, Bool.true_eq_false, Bool.false_eq_true, if_true, if_false, Nat.reduceAdd, Nat.reduceMul, Nat.reduceSub, Nat.reduceEqDiff, Nat.reduceLeDiff, Nat.reduceLT, Nat.one_ne_zero, Nat.zero_ne_one, hx, e1, e2]
  by_cases c : ctN (fun i => blM s forms i 20) 120 = 1
  · rw [if_pos c, decide_eq_true c]; rfl
  · rw [if_neg c, decide_eq_false c]; rfl
theorem pm_isEnough (h : CC s si I T X tN I' J') {forms : Nat} (hf : forms < 256) : ∃ I1, m_isEnough I' J' (nI forms) = some (bI (en s forms), I1) ∧ CsM s forms 5 I' I1 := by
  have hV := h.1.1
  have hX := h.1.2.2.1
  have hM := h.1.2.2.2.2.1
  obtain ⟨⟨v0, v1, v2, v3, v4, v5, v6, v7⟩, vr, vf, vs, va, ve, vt⟩ := id hV
  obtain ⟨⟨m0, m1, m2, m3, m4, m5, m6, m7, m8, m9, m10⟩, mp, mf, ms, ma, me, mb, mt⟩ := id hM
  have hx := hX.1
  obtain ⟨I1, e1, d⟩ := pm_blurredBy hV hM h.2.2.2.2.1 hf
  have hl := ctN_le (fun i => blM s forms i 20) 120
  refine ⟨I1, ?_, d⟩
  unfold m_isEnough en
  simp (disch := omega) only [pz_0, pz_1, pz_2, pz_3, pz_4, pz_5, pz_6, pz_7, pz_8, pz_9, pz_10, pz_11, pz_12, pz_13, pz_14, pz_15, pz_16, pz_20, pz_21, pz_22, pz_24, pz_25, pz_30, pz_31, pz_32, pz_35, pz_40, pz_41, pz_42, pz_43, pz_45, pz_47, pz_48, pz_52, pz_57, pz_58, pz_59, pz_60, pz_61, pz_62, pz_63, pz_65, pz_85, pz_90, pz_97, pz_98, pz_99, pz_100, pz_101, pz_102, pz_103, pz_104, pz_105, pz_107, pz_108, pz_109, pz_110, pz_111, pz_112, pz_114, pz_115, pz_116, pz_119, pz_120, pz_121, pz_122, pz_125, pz_127, pz_153, pz_200, pz_201, pz_202, pz_203, pz_204, pz_205, pz_206, pz_207, pz_208, pz_209, pz_210, pz_211, pz_212, pz_213, pz_214, pz_215, pz_216, pz_217, pz_218, pz_219, pz_220, pz_221, pz_222, pz_223, pz_224, pz_225, pz_255, pz_256, pz_271, pz_300, pz_301, pz_302, pz_303, pz_304, pz_400, pz_401, pz_521, pz_705, pz_1000, pz_1508, pz_1661, pz_1691, pz_2400, pz_3125, pz_9999, pz_10000, pz_30703, pz_65536, pz_99999, pz_1000000, pz_lt, pz_ck, pz_u2, pz_u3, pz_u4, pz_bs, pz_ix, pz_inb, pz_add, pz_mul, pz_sub, nI_leI, nI_ltI, nI_eq, pz_bIt, pz_bIf, pz_isb, pz_isb0, pz_isb1, pz_bI0, pz_bI1, Nat.zero_le, true_and, and_true, decide_true, decide_false, Bool.true_eq_false, Bool.false_eq_true, if_true, if_false, Nat.reduceAdd, Nat.reduceMul, Nat.reduceSub, Nat.reduceEqDiff, Nat.reduceLeDiff, Nat.reduceLT, Nat.one_ne_zero, Nat.zero_ne_one, e1]
  by_cases c : ctN (fun i => blM s forms i 20) 120 = 1
  · rw [if_pos c, decide_eq_true c]; rfl
  · rw [if_neg c, decide_eq_false c]; rfl
theorem without_ok : ∀ o, o < 120 → ∀ i, i < 64 → ((x_without (nI o) (nI 1)).map fun w => bitL w i) = some (decide (i < 60) && decide (i ≠ o)) ∧ ((x_without (nI o) (nI 0)).map fun w => bitL w i) = some (decide (i < 60) && decide (60 + i ≠ o)) := by decide +kernel
theorem px_without {o : Nat} (ho : o < 120) : ∃ w5 w6, x_without (nI o) (nI 1) = some w5 ∧ x_without (nI o) (nI 0) = some w6 ∧ msk w5 (fun i => decide (i ≠ o)) ∧ msk w6 (fun i => decide (60 + i ≠ o)) := by
  have h := without_ok o ho
  cases e5 : x_without (nI o) (nI 1) with
  | none => have := (h 0 (by decide)).1; rw [e5] at this; cases this
  | some w5 =>
    cases e6 : x_without (nI o) (nI 0) with
    | none => have := (h 0 (by decide)).2; rw [e6] at this; cases this
    | some w6 =>
      refine ⟨w5, w6, rfl, rfl, fun i hi => ?_, fun i hi => ?_⟩
      · have := (h i hi).1
        rw [e5] at this
        exact Option.some.inj this
      · have := (h i hi).2
        rw [e6] at this
        exact Option.some.inj this
theorem px_telling (h : CC s si I T X tN I' J') (J : PJ) {forms i L M : Nat} (hf : forms < 256) (hi : i < s 2 2) (he : en s forms = true) (hm : isLeast (cst s forms) L M) : (∃ I1 J1, x_tellingOf I J (nI forms) (nI (s 6 i)) = some (nI (100 * L + M), I1, J1) ∧ FxS I I1) ∧ M ≤ 20 ∧ 1 ≤ M ∧ L ≤ 180 := by
  have hV := h.1.1
  have hX := h.1.2.2.1
  have hM := h.1.2.2.2.2.1
  obtain ⟨⟨v0, v1, v2, v3, v4, v5, v6, v7⟩, vr, vf, vs, va, ve, vt⟩ := id hV
  obtain ⟨⟨m0, m1, m2, m3, m4, m5, m6, m7, m8, m9, m10⟩, mp, mf, ms, ma, me, mb, mt⟩ := id hM
  have hx := hX.1
  have ho := vs i hi
  obtain ⟨I1, J1, e1, d⟩ := px_laysSayings hV hX h.2.2.2.1 J hf ho
  have he : ctN (fun i => blM s forms i 20) 120 = 1 := of_decide_eq_true he
  have e2 : x_blurredBy (u2 I1 0 13 (nI 99999)) J1 = some (nI 1) := by
    rw [← he, ← bl_count (o := s 6 i) ho]
    refine px_blurredBy (xl_len s forms (s 6 i) 125) ?_ (fun j hj => (d.2.1 j hj).2)
    simp (disch := omega) only [pz_row, pz_at, pz_no]
    exact d.1
  obtain ⟨w5, w6, e5, e6, k5, k6⟩ := px_without ho
  have hop : ctN (fun i_1 => decide (i_1 ≠ s 6 i)) 120 ≤ 120 := ctN_le _ _
  obtain ⟨I2, b', f1, f2, f3, f4⟩ := px_shuts (n := (xl s forms (s 6 i) 125).length) (out := fun j => outX ((xl s forms (s 6 i) 125).getD j 0)) (cw := fun j => cst s forms ((xl s forms (s 6 i) 125).getD j 0 / 25)) (J := J1) (xl_len _ _ _ _) (fun j _ => cst_le hV forms _) (fun j hj => (d.2.1 j hj).2) 130 (fun j => decide (j ≠ s 6 i)) w5 w6 0 99999 (u2 I1 0 13 (nI 99999)) (by omega) k5 k6 (by simp (disch := omega) only [pz_row, pz_at, pz_no]; exact d.1) (fun j hj => by simp (disch := omega) only [pz_row, pz_at, pz_no]; exact (d.2.1 j hj).1) (by simp (disch := omega) only [pz_row, pz_at, pz_no]) (Nat.le_refl _) (by omega)
  obtain ⟨q1, q2⟩ := least_same hV ho he hm f4
  subst q1
  refine ⟨⟨I2, J1, ?_, fun k a b => ?_, fun j a b => ?_⟩, q2⟩
  · unfold x_tellingOf
    have f1 : x_shuts 130 (u2 I1 0 13 (nI 99999)) J1 w5 w6 (nI 0) = some I2 := f1
    rw [e1, pz_bs, pz_u2]
    simp (disch := omega) only [pz_99999, pz_lt, pz_1, pz_0, pz_bs, if_true, e2, e5, e6, f1, f3]
  · rw [f2.1 k a]
    simp (disch := omega) only [pz_row, pz_at, pz_no]
    exact d.2.2.1 k a b
  · rw [f2.2 j b]
    simp (disch := omega) only [pz_row, pz_at, pz_no]
    exact d.2.2.2 j a
theorem pm_lengthBy (h : CC s si I T X tN I' J') {forms : Nat} (hf : forms < 256) : (en s forms = false ∧ ∃ I1, m_lengthBy I' J' (nI forms) = some (-nI 1, I1, J') ∧ Fm I' I1 J' J' ∧ CLea I1 ∧ I1 1 = I' 1) ∨ (en s forms = true ∧ ∃ I1 J1 L M, m_lengthBy I' J' (nI forms) = some (nI L, I1, J1) ∧ I1 0 30 = nI L ∧ I1 0 31 = nI M ∧ isLeast (cst s forms) L M ∧ CLea I1 ∧ Fm I' I1 J' J1 ∧ I1 1 = I' 1) := by
  obtain ⟨I1, e1, d⟩ := pm_isEnough h hf
  have h1 := h.cs d
  unfold m_lengthBy
  rw [e1, pz_bs, pz_u2]
  cases c : en s forms with
  | false =>
    refine Or.inl ⟨rfl, I1, ?_, d.fm, h1.lea, d.2 1 (by decide)⟩
    rw [if_pos (show bI false = 0 from rfl)]
    rfl
  | true =>
    obtain ⟨I2, J2, L, M, e2, q1, q2, q3, q4, q5, q6⟩ := pm_layLeast h1.1.1 h1.1.2.2.2.2.1 h1.2.2.2.2.1 h1.lea hf
    refine Or.inr ⟨rfl, I2, J2, L, M, ?_, q1, q2, q3, q4, d.fm.tr q5, q6.trans (d.2 1 (by decide))⟩
    rw [if_neg (show ¬ bI true = 0 by decide), e2, pz_bs, pz_u2, q1]
end TEL
