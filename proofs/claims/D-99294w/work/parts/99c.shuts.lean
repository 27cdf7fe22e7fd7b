/-! the least group, 4: the class's search -/
def FrS (I I1 : PI) : Prop := (∀ k, k ≠ 0 → I1 k = I k) ∧ ∀ i, i ≠ 13 → I1 0 i = I 0 i
theorem FrS.tr {I I1 I2 : PI} (h : FrS I I1) (g : FrS I1 I2) : FrS I I2 := ⟨fun k hk => (g.1 k hk).trans (h.1 k hk), fun i hi => (g.2 i hi).trans (h.2 i hi)⟩
theorem open_fewer {out : Nat → Nat → Bool} {U : Nat → Bool} {k i0 d : Nat} (hi : i0 < 120) (hU : U i0 = true) (ho : out k i0 = true) (h : ctN U 120 < d + 1) : ctN (cvL out U k) 120 < d := by
  have h1 := ctN_drop (p := U) (q := fun i => U i && decide (i ≠ i0)) hU (by rw [decide_eq_false (fun z => z rfl), Bool.and_false]) hi (fun j _ hj => by rw [decide_eq_true hj, Bool.and_true])
  have h2 := ctN_not (cvL out U k) 120
  have h3 := ctN_not (fun i => U i && decide (i ≠ i0)) 120
  have h4 : ∀ n, ctN (cvL out U k) n ≤ ctN (fun i => U i && decide (i ≠ i0)) n := by
    intro n
    induction n with
    | zero => exact Nat.le_refl _
    | succ n ih =>
      show ctN (cvL out U k) n + (if (U n && !out k n) = true then 1 else 0) ≤ ctN _ n + (if (U n && decide (n ≠ i0)) = true then 1 else 0)
      by_cases c : (U n && !out k n) = true
      · rw [if_pos c, if_pos (by
          rw [Bool.and_eq_true] at c
          rw [c.1, Bool.true_and, decide_eq_true_eq]
          intro e
          rw [e, ho] at c
          exact absurd c.2 (by decide))]
        exact Nat.add_le_add_right ih 1
      · rw [if_neg c]
        exact Nat.le_trans ih (Nat.le_add_right _ _)
  have h5 := h4 120
  omega
section SHU
variable {n : Nat} {out : Nat → Nat → Bool} {cw : Nat → Nat} {J : PJ}
theorem px_shuts (hn : n ≤ 125) (hw : ∀ j, j < n → cw j ≤ 9) (hJ : ∀ j, j < n → msk (J 117 j) (out j) ∧ msk (J 118 j) (fun i => out j (60 + i))) :
    ∀ (d : Nat) (U : Nat → Bool) (p1 p3 : Int64) (c b : Nat) (I : PI), ctN U 120 < d → msk p1 U → msk p3 (fun i => U (60 + i)) → I 0 12 = nI n → (∀ j, j < n → I 119 j = nI (cw j)) → I 0 13 = nI b → b ≤ 99999 → c ≤ 200000 →
      ∃ I1 b', x_shuts d I J p1 p3 (nI c) = some I1 ∧ FrS I I1 ∧ I1 0 13 = nI b' ∧ cvR n out (fun k => 100 * cw k + 1) U c b b' := by
  intro d
  induction d with
  | zero => intro U p1 p3 c b I h; exact absurd h (Nat.not_lt_zero _)
  | succ d ih =>
    intro U p1 p3 c b I hU h1 h3 h12 h119 h13 hb hc
    by_cases cb : c < b
    · -- the loop, over the sayings that shut out order i0
      have loop : ∀ (v1 t i0 : Nat), i0 < 120 → U i0 = true → (∀ j, j < n → ((v1 = 0 ∧ bitL (J 118 j) t = out j i0) ∨ (v1 = 1 ∧ bitL (J 117 j) t = out j i0))) → t < 64 → ∃ I1 b', x_shuts_l60 J (x_shuts d) p1 (nI v1) p3 (nI t) (nI c) fu (nI 0) I = some I1 ∧ FrS I I1 ∧ I1 0 13 = nI b' ∧ cvR n out (fun k => 100 * cw k + 1) U c b b' := by
        intro v1 t i0 hi0 hUi hbit ht
        obtain ⟨I1, ⟨f1, bk, f2, f3⟩, f4⟩ := pz_loop (fun f v (A : PI) => x_shuts_l60 J (x_shuts d) p1 (nI v1) p3 (nI t) (nI c) f (nI v) A) n (fun A => some A) (fun v A => FrS I A ∧ ∃ bk, A 0 13 = nI bk ∧ cvP n out (fun k => 100 * cw k + 1) U c b i0 v bk) (fun f A hA => by
            have a12 : A 0 12 = nI n := (hA.1.2 12 (by decide)).trans h12
            show x_shuts_b60 J (x_shuts d) p1 (nI v1) p3 (nI t) (nI c) (x_shuts_l60 J (x_shuts d) p1 (nI v1) p3 (nI t) (nI c) f) (nI n) A = _
            unfold x_shuts_b60
            simp (disch := omega) only [pz_0, pz_1, pz_2, pz_3, pz_4, pz_5, pz_6, pz_7, pz_8, pz_9, pz_10, pz_11, pz_12, pz_13, pz_14, pz_15, pz_16, pz_20, pz_21, pz_22, pz_24, pz_25, pz_30, pz_31, pz_32, pz_35, pz_40, pz_41, pz_42, pz_43, pz_45, pz_47, pz_48, pz_52, pz_57, pz_58, pz_59, pz_60, pz_61, pz_62, pz_63, pz_65, pz_85, pz_90, pz_97, pz_98, pz_99, pz_100, pz_101, pz_102, pz_103, pz_104, pz_105, pz_107, pz_108, pz_109, pz_110, pz_111, pz_112, pz_114, pz_115, pz_116, pz_119, pz_120, pz_121, pz_122, pz_125, pz_127, pz_153, pz_200, pz_201, pz_202, pz_203, pz_204, pz_205, pz_206, pz_207, pz_208, pz_209, pz_210, pz_211, pz_212, pz_213, pz_214, pz_215, pz_216, pz_217, pz_218, pz_219, pz_220, pz_221, pz_222, pz_223, pz_224, pz_225, pz_255, pz_256, pz_271, pz_300, pz_301, pz_302, pz_303, pz_304, pz_400, pz_401, pz_521, pz_705, pz_1000, pz_1508, pz_1661, pz_1691, pz_2400, pz_3125, pz_9999, pz_10000, pz_30703, pz_65536, pz_99999, pz_1000000, pz_lt, pz_ck, pz_u2, pz_u3, pz_u4, pz_bs, pz_ix, pz_inb, pz_add, pz_mul, pz_sub, nI_leI, nI_ltI, nI_eq, pz_bIt, pz_bIf, pz_isb, pz_isb0, pz_isb1, pz_bI0, pz_bI1, Nat.zero_le, true_and, and_true, decide_true, decide_false, Bool.true_eq_false, Bool.false_eq_true, if_true, if_false, Nat.reduceAdd, Nat.reduceMul, Nat.reduceSub, Nat.reduceEqDiff, Nat.reduceLeDiff, Nat.reduceLT, Nat.one_ne_zero, Nat.zero_ne_one, a12, Nat.le_refl]) (fun f v A hv hP => by
            obtain ⟨fr, bk, g1, g2⟩ := hP
            have a12 : A 0 12 = nI n := (fr.2 12 (by decide)).trans h12
            have a119 : ∀ j, j < n → A 119 j = nI (cw j) := fun j hj => by rw [fr.1 119 (by decide)]; exact h119 j hj
            obtain ⟨m1, m2⟩ := hJ v hv
            have hwv := hw v hv
            -- the test
            have st : x_shuts_b60 J (x_shuts d) p1 (nI v1) p3 (nI t) (nI c) (x_shuts_l60 J (x_shuts d) p1 (nI v1) p3 (nI t) (nI c) f) (nI v) A = if out v i0 = true then (x_shuts d A J (p1 &&& ((J 117 v) ^^^ (-1 : Int64))) (p3 &&& ((J 118 v) ^^^ (-1 : Int64))) (nI (c + 100 * cw v + 1))).bind (fun I10 => x_shuts_l60 J (x_shuts d) p1 (nI v1) p3 (nI t) (nI c) f (nI (v + 1)) I10) else x_shuts_l60 J (x_shuts d) p1 (nI v1) p3 (nI t) (nI c) f (nI (v + 1)) A := by
              unfold x_shuts_b60 x_shuts_j91 x_shuts_j150
              rcases hbit v hv with ⟨e1, e2⟩ | ⟨e1, e2⟩
              · have e3 := bitL_test (J 118 v) ht
                rw [e2] at e3
                subst e1
                simp (disch := omega) only [pz_0, pz_1, pz_2, pz_3, pz_4, pz_5, pz_6, pz_7, pz_8, pz_9, pz_10, pz_11, pz_12, pz_13, pz_14, pz_15, pz_16, pz_20, pz_21, pz_22, pz_24, pz_25, pz_30, pz_31, pz_32, pz_35, pz_40, pz_41, pz_42, pz_43, pz_45, pz_47, pz_48, pz_52, pz_57, pz_58, pz_59, pz_60, pz_61, pz_62, pz_63, pz_65, pz_85, pz_90, pz_97, pz_98, pz_99, pz_100, pz_101, pz_102, pz_103, pz_104, pz_105, pz_107, pz_108, pz_109, pz_110, pz_111, pz_112, pz_114, pz_115, pz_116, pz_119, pz_120, pz_121, pz_122, pz_125, pz_127, pz_153, pz_200, pz_201, pz_202, pz_203, pz_204, pz_205, pz_206, pz_207, pz_208, pz_209, pz_210, pz_211, pz_212, pz_213, pz_214, pz_215, pz_216, pz_217, pz_218, pz_219, pz_220, pz_221, pz_222, pz_223, pz_224, pz_225, pz_255, pz_256, pz_271, pz_300, pz_301, pz_302, pz_303, pz_304, pz_400, pz_401, pz_521, pz_705, pz_1000, pz_1508, pz_1661, pz_1691, pz_2400, pz_3125, pz_9999, pz_10000, pz_30703, pz_65536, pz_99999, pz_1000000, pz_lt, pz_ck, pz_u2, pz_u3, pz_u4, pz_bs, pz_ix, pz_inb, pz_add, pz_mul, pz_sub, nI_leI, nI_ltI, nI_eq, pz_bIt, pz_bIf, pz_isb, pz_isb0, pz_isb1, pz_bI0, pz_bI1, Nat.zero_le, true_and, and_true, decide_true, decide_false, Bool.true_eq_false, Bool.false_eq_true, if_true, if_false, Nat.reduceAdd, Nat.reduceMul, Nat.reduceSub, Nat.reduceEqDiff, Nat.reduceLeDiff, Nat.reduceLT, Nat.one_ne_zero, Nat.zero_ne_one, a12, a119, Nat.not_le.mpr hv, e3]
              · have e3 := bitL_test (J 117 v) ht
                rw [e2] at e3
                subst e1
                simp (disch := omega) only [pz_0, pz_1, pz_2, pz_3, pz_4, pz_5, pz_6, pz_7, pz_8, pz_9, pz_10, pz_11, pz_12, pz_13, pz_14, pz_15, pz_16, pz_20, pz_21, pz_22, pz_24, pz_25, pz_30, pz_31, pz_32, pz_35, pz_40, pz_41, pz_42, pz_43, pz_45, pz_47, pz_48, pz_52, pz_57, pz_58, pz_59, pz_60, pz_61, pz_62, pz_63, pz_65, pz_85, pz_90, pz_97, pz_98, pz_99, pz_100, pz_101, pz_102, pz_103, pz_104, pz_105, pz_107, pz_108, pz_109, pz_110, pz_111, pz_112, pz_114, pz_115, pz_116, pz_119, pz_120, pz_121, pz_122, pz_125, pz_127, pz_153, pz_200, pz_201, pz_202, pz_203, pz_204, pz_205, pz_206, pz_207, pz_208, pz_209, pz_210, pz_211, pz_212, pz_213, pz_214, pz_215, pz_216, pz_217, pz_218, pz_219, pz_220, pz_221, pz_222, pz_223, pz_224, pz_225, pz_255, pz_256, pz_271, pz_300, pz_301, pz_302, pz_303, pz_304, pz_400, pz_401, pz_521, pz_705, pz_1000, pz_1508, pz_1661, pz_1691, pz_2400, pz_3125, pz_9999, pz_10000, pz_30703, pz_65536, pz_99999, pz_1000000, pz_lt, pz_ck, pz_u2, pz_u3, pz_u4, pz_bs, pz_ix, pz_inb, pz_add, pz_mul, pz_sub, nI_leI, nI_ltI, nI_eq, pz_bIt, pz_bIf, pz_isb, pz_isb0, pz_isb1, pz_bI0, pz_bI1, Nat.zero_le, true_and, and_true, decide_true, decide_false, Bool.true_eq_false, Bool.false_eq_true, if_true, if_false, Nat.reduceAdd, Nat.reduceMul, Nat.reduceSub, Nat.reduceEqDiff, Nat.reduceLeDiff, Nat.reduceLT, Nat.one_ne_zero, Nat.zero_ne_one, a12, a119, Nat.not_le.mpr hv, e3]
            by_cases ho : out v i0 = true
            · obtain ⟨I1, b', q1, q2, q3, q4⟩ := ih (cvL out U v) (p1 &&& ((J 117 v) ^^^ (-1 : Int64))) (p3 &&& ((J 118 v) ^^^ (-1 : Int64))) (c + 100 * cw v + 1) bk A (open_fewer hi0 hUi ho hU) (msk_andn h1 m1) (msk_andn h3 m2) a12 a119 g1 (Nat.le_trans g2.1 hb) (by omega)
              refine ⟨I1, ?_, fr.tr q2, b', q3, cvP_yes g2 hv ho ?_⟩
              · show x_shuts_b60 _ _ _ _ _ _ _ _ _ _ = _
                rw [st, if_pos ho, q1, pz_bs]
              · rw [← Nat.add_assoc]
                exact q4
            · exact ⟨A, st.trans (if_neg ho), fr, bk, g1, cvP_no g2 (by simpa using ho)⟩) n fu 0 I (by omega) (fu_gt (by omega)) ⟨⟨fun _ _ => rfl, fun _ _ => rfl⟩, b, h13, cvP_0⟩
        exact ⟨I1, bk, f4, f1, f2, cvP_end f3 hi0 hUi⟩
      show ∃ I1 b', x_shuts_B (x_shuts d) I J p1 p3 (nI c) = some I1 ∧ _
      unfold x_shuts_B x_shuts_j29 x_shuts_j40 x_shuts_j52
      simp (disch := omega) only [pz_13, pz_0, pz_1, h13, nI_ltI, nI_eq, cb, if_true, if_false, Nat.one_ne_zero]
      by_cases z1 : p1 = 0
      · rw [if_pos z1, if_pos z1]
        by_cases z3 : p3 = 0
        · rw [if_pos z3, pz_lt]
          refine ⟨_, c, rfl, ⟨fun k hk => u2_row _ _ _ _ hk, fun i hi => u2_ne _ _ (Or.inr hi)⟩, u2_eq _ _ _ _, cvR_end cb fun i hi => ?_⟩
          by_cases ci : i < 60
          · have := h1 i (by omega)
            rw [z1, bitL_0, decide_eq_true ci, Bool.true_and] at this
            exact this.symm
          · have := h3 (i - 60) (by omega)
            rw [z3, bitL_0, decide_eq_true (by omega), Bool.true_and] at this
            have this : false = U (60 + (i - 60)) := this
            rw [show 60 + (i - 60) = i by omega] at this
            exact this.symm
        · rw [if_neg z3]
          obtain ⟨t, ht, e1, e2⟩ := px_ntz p3 z3
          rw [h3 t ht, Bool.and_eq_true, decide_eq_true_eq] at e2
          obtain ⟨I1, b', f1, f2⟩ := loop 0 t (60 + t) (by omega) e2.2 (fun j hj => Or.inl ⟨rfl, by rw [(hJ j hj).2 t ht, decide_eq_true e2.1, Bool.true_and]⟩) ht
          refine ⟨I1, b', ?_, f2⟩
          rw [e1, pz_bs, f1, pz_bs]
      · rw [if_neg z1, if_neg z1]
        obtain ⟨t, ht, e1, e2⟩ := px_ntz p1 z1
        rw [h1 t ht, Bool.and_eq_true, decide_eq_true_eq] at e2
        obtain ⟨I1, b', f1, f2⟩ := loop 1 t t (by omega) e2.2 (fun j hj => Or.inr ⟨rfl, by rw [(hJ j hj).1 t ht, decide_eq_true e2.1, Bool.true_and]⟩) ht
        refine ⟨I1, b', ?_, f2⟩
        rw [e1, pz_bs, f1, pz_bs]
    · refine ⟨I, b, ?_, ⟨fun _ _ => rfl, fun _ _ => rfl⟩, h13, cvR_cut (by omega)⟩
      show x_shuts_B (x_shuts d) I J p1 p3 (nI c) = some I
      unfold x_shuts_B
      simp (disch := omega) only [pz_13, pz_0, h13, nI_ltI, cb, if_false]
end SHU
