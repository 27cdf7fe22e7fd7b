/-! the least group, 5: the reference's search -/
/-- what the search reads alone -/
def LStat (c : Nat → Nat) (A : PI) (B : PJ) : Prop := (∀ k, k < 20 → A 6 k = nI (sayK k) ∧ msk (B 7 k) (fun i => !outM k i) ∧ msk (B 8 k) (fun i => !outM k (60 + i))) ∧ ∀ k, k < 5 → A 14 k = nI (c k)
/-- where it may write: behind depth v -/
def LFr (v : Nat) (A A1 : PI) (B B1 : PJ) : Prop := (∀ i, i < v → A1 15 i = A 15 i) ∧ (∀ i, i ≤ v → A1 16 i = A 16 i ∧ B1 17 i = B 17 i ∧ B1 18 i = B 18 i) ∧ (∀ k, k ≠ 0 → k ≠ 15 → k ≠ 16 → A1 k = A k) ∧ (∀ i, i ≠ 30 → i ≠ 31 → A1 0 i = A 0 i) ∧ ∀ k, k ≠ 17 → k ≠ 18 → B1 k = B k
theorem LFr.tr {v : Nat} {A A1 A2 : PI} {B B1 B2 : PJ} (h : LFr v A A1 B B1) (g : LFr v A1 A2 B1 B2) : LFr v A A2 B B2 := by
  obtain ⟨h1, h2, h3, h4, h5⟩ := h
  obtain ⟨g1, g2, g3, g4, g5⟩ := g
  exact ⟨fun i hi => (g1 i hi).trans (h1 i hi), fun i hi => ⟨(g2 i hi).1.trans (h2 i hi).1, (g2 i hi).2.1.trans (h2 i hi).2.1, (g2 i hi).2.2.trans (h2 i hi).2.2⟩, fun k a b c => (g3 k a b c).trans (h3 k a b c), fun i a b => (g4 i a b).trans (h4 i a b), fun k a b => (g5 k a b).trans (h5 k a b)⟩
theorem LFr.up {v : Nat} {A A1 : PI} {B B1 : PJ} (h : LFr (v + 1) A A1 B B1) : LFr v A A1 B B1 := ⟨fun i hi => h.1 i (by omega), fun i hi => h.2.1 i (by omega), h.2.2⟩
theorem LStat.fr {c : Nat → Nat} {v : Nat} {A A1 : PI} {B B1 : PJ} (h : LStat c A B) (g : LFr v A A1 B B1) : LStat c A1 B1 := ⟨fun k hk => by
  rw [g.2.2.1 6 (by decide) (by decide) (by decide), g.2.2.2.2 7 (by decide) (by decide), g.2.2.2.2 8 (by decide) (by decide)]
  exact h.1 k hk, fun k hk => by
  rw [g.2.2.1 14 (by decide) (by decide) (by decide)]
  exact h.2 k hk⟩
/-- one saying may be tried yet -/
abbrev gd (c : Nat → Nat) (cb v L M k : Nat) : Prop := c (sayK k) ≠ 0 ∧ (cb + c (sayK k) < L ∨ (cb + c (sayK k) = L ∧ v + 1 < M))
theorem gd_iff {c : Nat → Nat} {cb v L M k : Nat} (hv : v ≤ 20) (hM : M ≤ 1000000) : (cb + c (sayK k) < L ∨ (cb + c (sayK k) = L ∧ v + 1 < M)) ↔ KB * cb + v + (KB * c (sayK k) + 1) < KB * L + M := by
  unfold KB
  omega
section ML
variable {c : Nat → Nat}
theorem pm_nextSaying (hc : ∀ k, k < 5 → c k ≤ 9) {A : PI} {B : PJ} (hS : LStat c A B) {v j cb L M : Nat} (hv : v ≤ 20) (hj : j ≤ 20) (h15 : A 15 v = nI j - nI 1) (h16 : A 16 v = nI cb) (hcb : cb ≤ 1000) (h30 : A 0 30 = nI L) (h31 : A 0 31 = nI M) (hL : L ≤ 1000000) (hM : M ≤ 1000000) :
    (m_nextSaying A (nI v) = some (-nI 1) ∧ ∀ k, j ≤ k → k < 20 → ¬ gd c cb v L M k) ∨ ∃ k, j ≤ k ∧ k < 20 ∧ gd c cb v L M k ∧ (∀ k', j ≤ k' → k' < k → ¬ gd c cb v L M k') ∧ m_nextSaying A (nI v) = some (nI k) := by
  have h := pz_loopE (fun f k (_ : Unit) => m_nextSaying_l9 A (nI v) f (nI k)) 20 (fun k _ => j ≤ k ∧ ∀ k', j ≤ k' → k' < k → ¬ gd c cb v L M k') (fun o => (o = some (.inr ()) ∧ ∀ k, j ≤ k → k < 20 → ¬ gd c cb v L M k) ∨ ∃ k, j ≤ k ∧ k < 20 ∧ gd c cb v L M k ∧ (∀ k', j ≤ k' → k' < k → ¬ gd c cb v L M k') ∧ o = some (.inl (nI k))) (fun f _ hP => Or.inl ⟨by
      show m_nextSaying_b9 A (nI v) (m_nextSaying_l9 A (nI v) f) (nI 20) = _
      unfold m_nextSaying_b9
      simp (disch := omega) only [pz_0, pz_1, pz_2, pz_3, pz_4, pz_5, pz_6, pz_7, pz_8, pz_9, pz_10, pz_11, pz_12, pz_13, pz_14, pz_15, pz_16, pz_20, pz_21, pz_22, pz_24, pz_25, pz_30, pz_31, pz_32, pz_35, pz_40, pz_41, pz_42, pz_43, pz_45, pz_47, pz_48, pz_52, pz_57, pz_58, pz_59, pz_60, pz_61, pz_62, pz_63, pz_65, pz_85, pz_90, pz_97, pz_98, pz_99, pz_100, pz_101, pz_102, pz_103, pz_104, pz_105, pz_107, pz_108, pz_109, pz_110, pz_111, pz_112, pz_114, pz_115, pz_116, pz_119, pz_120, pz_121, pz_122, pz_125, pz_127, pz_153, pz_200, pz_201, pz_202, pz_203, pz_204, pz_205, pz_206, pz_207, pz_208, pz_209, pz_210, pz_211, pz_212, pz_213, pz_214, pz_215, pz_216, pz_217, pz_218, pz_219, pz_220, pz_221, pz_222, pz_223, pz_224, pz_225, pz_255, pz_256, pz_271, pz_300, pz_301, pz_302, pz_303, pz_304, pz_400, pz_401, pz_521, pz_705, pz_1000, pz_1508, pz_1661, pz_1691, pz_2400, pz_3125, pz_9999, pz_10000, pz_30703, pz_65536, pz_99999, pz_1000000, pz_lt, pz_ck, pz_u2, pz_u3, pz_u4, pz_bs, pz_ix, pz_inb, pz_add, pz_mul, pz_sub, nI_leI, nI_ltI, nI_eq, pz_bIt, pz_bIf, pz_isb, pz_isb0, pz_isb1, pz_bI0, pz_bI1, Nat.zero_le, true_and, and_true, decide_true, decide_false, Bool.true_eq_false, Bool.false_eq_true, if_true, if_false, Nat.reduceAdd, Nat.reduceMul, Nat.reduceSub, Nat.reduceEqDiff, Nat.reduceLeDiff, Nat.reduceLT, Nat.one_ne_zero, Nat.zero_ne_one, Nat.le_refl], hP.2⟩) (fun f k _ hk hP => by
      obtain ⟨s1, s2, s3⟩ := hS.1 k hk
      have s4 := hS.2 (sayK k) (say_ok k hk).1
      have c9 := hc (sayK k) (say_ok k hk).1
      have hk5 := (say_ok k hk).1
      have st : m_nextSaying_b9 A (nI v) (m_nextSaying_l9 A (nI v) f) (nI k) = if gd c cb v L M k then some (.inl (nI k)) else m_nextSaying_l9 A (nI v) f (nI (k + 1)) := by
        unfold m_nextSaying_b9 m_nextSaying_j76
        simp (disch := omega) only [pz_0, pz_1, pz_2, pz_3, pz_4, pz_5, pz_6, pz_7, pz_8, pz_9, pz_10, pz_11, pz_12, pz_13, pz_14, pz_15, pz_16, pz_20, pz_21, pz_22, pz_24, pz_25, pz_30, pz_31, pz_32, pz_35, pz_40, pz_41, pz_42, pz_43, pz_45, pz_47, pz_48, pz_52, pz_57, pz_58, pz_59, pz_60, pz_61, pz_62, pz_63, pz_65, pz_85, pz_90, pz_97, pz_98, pz_99, pz_100, pz_101, pz_102, pz_103, pz_104, pz_105, pz_107, pz_108, pz_109, pz_110, pz_111, pz_112, pz_114, pz_115, pz_116, pz_119, pz_120, pz_121, pz_122, pz_125, pz_127, pz_153, pz_200, pz_201, pz_202, pz_203, pz_204, pz_205, pz_206, pz_207, pz_208, pz_209, pz_210, pz_211, pz_212, pz_213, pz_214, pz_215, pz_216, pz_217, pz_218, pz_219, pz_220, pz_221, pz_222, pz_223, pz_224, pz_225, pz_255, pz_256, pz_271, pz_300, pz_301, pz_302, pz_303, pz_304, pz_400, pz_401, pz_521, pz_705, pz_1000, pz_1508, pz_1661, pz_1691, pz_2400, pz_3125, pz_9999, pz_10000, pz_30703, pz_65536, pz_99999, pz_1000000, pz_lt, pz_ck, pz_u2, pz_u3, pz_u4, pz_bs, pz_ix, pz_inb, pz_add, pz_mul, pz_sub, nI_leI, nI_ltI, nI_eq, pz_bIt, pz_bIf, pz_isb, pz_isb0, pz_isb1, pz_bI0, pz_bI1, Nat.zero_le, true_and, and_true, decide_true, decide_false, Bool.true_eq_false, Bool.false_eq_true, if_true, if_false, Nat.reduceAdd, Nat.reduceMul, Nat.reduceSub, Nat.reduceEqDiff, Nat.reduceLeDiff, Nat.reduceLT, Nat.one_ne_zero, Nat.zero_ne_one, Nat.not_le.mpr hk, s1, s4, h16, h30, h31]
        by_cases c0 : c (sayK k) ≤ 0
        · rw [if_pos c0, if_neg (fun q => q.1 (by omega))]
        · rw [if_neg c0]
          by_cases c1 : cb + c (sayK k) < L
          · rw [if_pos c1, if_pos ⟨by omega, Or.inl c1⟩]
          · rw [if_neg c1]
            by_cases c2 : cb + c (sayK k) = L
            · rw [if_pos c2]
              by_cases c3 : M ≤ v + 1
              · rw [if_pos c3, if_neg (fun q => by rcases q.2 with z | z <;> omega)]
              · rw [if_neg c3, if_pos ⟨by omega, Or.inr ⟨c2, by omega⟩⟩]
            · rw [if_neg c2, if_neg (fun q => by rcases q.2 with z | z <;> omega)]
      by_cases g : gd c cb v L M k
      · exact Or.inl (Or.inr ⟨k, hP.1, hk, g, hP.2, st.trans (if_pos g)⟩)
      · refine Or.inr ⟨(), st.trans (if_neg g), by omega, fun k' h1 h2 => ?_⟩
        by_cases q : k' = k
        · rw [q]; exact g
        · exact hP.2 k' h1 (by omega)) (20 - j) fu j () (by omega) (fu_gt (by omega)) ⟨Nat.le_refl _, fun k' h1 h2 => absurd h1 (by omega)⟩
  have e0 : nI j - nI 1 + nI 1 = nI j := by
    unfold nI
    rw [Int32.sub_add_cancel]
  unfold m_nextSaying
  rcases h with ⟨h1, h2⟩ | ⟨k, k1, k2, k3, k4, h1⟩
  · refine Or.inl ⟨?_, h2⟩
    have h1 : m_nextSaying_l9 A (nI v) fu (nI j) = some (.inr ()) := h1
    simp (disch := omega) only [pz_1, pz_0, pz_21, pz_inb, pz_ix, pz_ck, h15, e0, pz_lt]
    rw [h1]
    rfl
  · refine Or.inr ⟨k, k1, k2, k3, k4, ?_⟩
    have h1 : m_nextSaying_l9 A (nI v) fu (nI j) = some (.inl (nI k)) := h1
    simp (disch := omega) only [pz_1, pz_0, pz_21, pz_inb, pz_ix, pz_ck, h15, e0, pz_lt]
    rw [h1]
    rfl
/-- the masks: order 0 and what is open yet -/
def MkU (U : Nat → Bool) (w17 w18 : Int64) : Prop := U 0 = false ∧ msk w17 (fun i => decide (i = 0) || U i) ∧ msk w18 (fun i => U (60 + i))
theorem out0 {k : Nat} (hk : k < 20) : outM k 0 = false := by
  unfold outM
  rw [(say_ok k hk).2.2.2]
  rfl
theorem MkU.nx {U : Nat → Bool} {w17 w18 a b : Int64} {k : Nat} (h : MkU U w17 w18) (hk : k < 20) (ha : msk a (fun i => !outM k i)) (hb : msk b (fun i => !outM k (60 + i))) : MkU (cvL outM U k) (w17 &&& a) (w18 &&& b) := by
  refine ⟨by unfold cvL; rw [h.1, Bool.false_and], fun i hi => ?_, fun i hi => ?_⟩
  · rw [msk_and h.2.1 ha i hi]
    by_cases c0 : i = 0
    · subst c0
      show (decide (0 < 60) && ((decide (0 = 0) || U 0) && !outM k 0)) = (decide (0 < 60) && (decide (0 = 0) || (U 0 && !outM k 0)))
      rw [out0 hk]
      rfl
    · show (decide (i < 60) && ((decide (i = 0) || U i) && !outM k i)) = (decide (i < 60) && (decide (i = 0) || (U i && !outM k i)))
      rw [decide_eq_false c0, Bool.false_or, Bool.false_or]
  · exact msk_and h.2.2 hb i hi
theorem MkU.done {U : Nat → Bool} {w17 w18 : Int64} (h : MkU U w17 w18) : (w17 = 1 ∧ w18 = 0) ↔ ∀ i, i < 120 → U i = false := by
  have b1 : ∀ i, i < 64 → bitL 1 i = decide (i = 0) := by decide +kernel
  obtain ⟨h0, h1, h2⟩ := h
  refine ⟨fun ⟨e1, e2⟩ i hi => ?_, fun hU => ⟨bitL_ext fun i hi => ?_, (bitL_z w18).mpr fun i hi => ?_⟩⟩
  · by_cases ci : i < 60
    · have := h1 i (by omega)
      rw [e1, b1 i (by omega), decide_eq_true ci, Bool.true_and] at this
      have this : decide (i = 0) = (decide (i = 0) || U i) := this
      by_cases c0 : i = 0
      · rw [c0]; exact h0
      · rw [decide_eq_false c0, Bool.false_or] at this
        exact this.symm
    · have := h2 (i - 60) (by omega)
      rw [e2, bitL_0, decide_eq_true (by omega), Bool.true_and] at this
      have this : false = U (60 + (i - 60)) := this
      rw [show 60 + (i - 60) = i by omega] at this
      exact this.symm
  · rw [h1 i hi, b1 i hi]
    by_cases ci : i < 60
    · rw [decide_eq_true ci, Bool.true_and]
      show (decide (i = 0) || U i) = _
      rw [hU i (by omega), Bool.or_false]
    · rw [decide_eq_false ci, Bool.false_and, decide_eq_false (by omega)]
  · rw [h2 i hi]
    by_cases ci : i < 60
    · show (decide (i < 60) && U (60 + i)) = false
      rw [hU (60 + i) (by omega), Bool.and_false]
    · rw [decide_eq_false ci, Bool.false_and]
def avC (c : Nat → Nat) (k : Nat) : Bool := decide (c (sayK k) ≠ 0)
def wtC (c : Nat → Nat) (k : Nat) : Nat := KB * c (sayK k) + 1
theorem ml_step (hc : ∀ k, k < 5 → c k ≤ 9) {A : PI} {B : PJ} (hS : LStat c A B) {v k cb : Nat} {U : Nat → Bool} (hv : v < 20) (hk : k < 20) (h16 : A 16 v = nI cb) (hcb : cb ≤ 1000) (hU : MkU U (B 17 v) (B 18 v)) (hn : m_nextSaying A (nI v) = some (nI k)) (self : Int32 → PI → PJ → Option (PI × PJ)) :
    ((∀ i, i < 120 → cvL outM U k i = false) ∧ m_layLeast_b68 self (nI v) A B = self (nI v) (u2 (u2 (u2 A 15 v (nI k)) 0 30 (nI (cb + c (sayK k)))) 0 31 (nI (v + 1))) B) ∨ ((∃ i, i < 120 ∧ cvL outM U k i = true) ∧ m_layLeast_b68 self (nI v) A B = self (nI (v + 1)) (u2 (u2 (u2 A 15 v (nI k)) 15 (v + 1) (nI k)) 16 (v + 1) (nI (cb + c (sayK k)))) (u2 (u2 B 17 (v + 1) (B 17 v &&& B 7 k)) 18 (v + 1) (B 18 v &&& B 8 k))) := by
  obtain ⟨s1, s2, s3⟩ := hS.1 k hk
  have hk5 := (say_ok k hk).1
  have s4 := hS.2 (sayK k) hk5
  have c9 := hc (sayK k) hk5
  have hd := (hU.nx hk s2 s3).done
  have hm1 := pz_ne1 (n := k) (by omega)
  have ng : ¬ nI v < 0 := nI_pos (by omega)
  by_cases cA : ∀ i, i < 120 → cvL outM U k i = false
  · refine Or.inl ⟨cA, ?_⟩
    obtain ⟨d1, d2⟩ := hd.mpr cA
    unfold m_layLeast_b68
    rw [if_neg ng, hn, pz_bs]
    simp (disch := omega) only [pz_0, pz_1, pz_2, pz_3, pz_4, pz_5, pz_6, pz_7, pz_8, pz_9, pz_10, pz_11, pz_12, pz_13, pz_14, pz_15, pz_16, pz_20, pz_21, pz_22, pz_24, pz_25, pz_30, pz_31, pz_32, pz_35, pz_40, pz_41, pz_42, pz_43, pz_45, pz_47, pz_48, pz_52, pz_57, pz_58, pz_59, pz_60, pz_61, pz_62, pz_63, pz_65, pz_85, pz_90, pz_97, pz_98, pz_99, pz_100, pz_101, pz_102, pz_103, pz_104, pz_105, pz_107, pz_108, pz_109, pz_110, pz_111, pz_112, pz_114, pz_115, pz_116, pz_119, pz_120, pz_121, pz_122, pz_125, pz_127, pz_153, pz_200, pz_201, pz_202, pz_203, pz_204, pz_205, pz_206, pz_207, pz_208, pz_209, pz_210, pz_211, pz_212, pz_213, pz_214, pz_215, pz_216, pz_217, pz_218, pz_219, pz_220, pz_221, pz_222, pz_223, pz_224, pz_225, pz_255, pz_256, pz_271, pz_300, pz_301, pz_302, pz_303, pz_304, pz_400, pz_401, pz_521, pz_705, pz_1000, pz_1508, pz_1661, pz_1691, pz_2400, pz_3125, pz_9999, pz_10000, pz_30703, pz_65536, pz_99999, pz_1000000, pz_lt, pz_ck, pz_u2, pz_u3, pz_u4, pz_bs, pz_ix, pz_inb, pz_add, pz_mul, pz_sub, nI_leI, nI_ltI, nI_eq, pz_bIt, pz_bIf, pz_isb, pz_isb0, pz_isb1, pz_bI0, pz_bI1, Nat.zero_le, true_and, and_true, decide_true, decide_false, Bool.true_eq_false, Bool.false_eq_true, if_true, if_false, Nat.reduceAdd, Nat.reduceMul, Nat.reduceSub, Nat.reduceEqDiff, Nat.reduceLeDiff, Nat.reduceLT, Nat.one_ne_zero, Nat.zero_ne_one, hm1, pz_row, pz_at, pz_no, s1, s4, h16, d1, d2]
  · refine Or.inr ⟨?_, ?_⟩
    · refine Classical.byContradiction fun q => cA fun i hi => ?_
      cases e : cvL outM U k i with
      | false => rfl
      | true => exact absurd ⟨i, hi, e⟩ q
    · have nd : ¬ (B 17 v &&& B 7 k = 1 ∧ B 18 v &&& B 8 k = 0) := fun q => cA (hd.mp q)
      unfold m_layLeast_b68 m_layLeast_j182
      rw [if_neg ng, hn, pz_bs]
      by_cases z1 : B 17 v &&& B 7 k = 1
      · have z2 : ¬ B 18 v &&& B 8 k = 0 := fun q => nd ⟨z1, q⟩
        simp (disch := omega) only [pz_0, pz_1, pz_2, pz_3, pz_4, pz_5, pz_6, pz_7, pz_8, pz_9, pz_10, pz_11, pz_12, pz_13, pz_14, pz_15, pz_16, pz_20, pz_21, pz_22, pz_24, pz_25, pz_30, pz_31, pz_32, pz_35, pz_40, pz_41, pz_42, pz_43, pz_45, pz_47, pz_48, pz_52, pz_57, pz_58, pz_59, pz_60, pz_61, pz_62, pz_63, pz_65, pz_85, pz_90, pz_97, pz_98, pz_99, pz_100, pz_101, pz_102, pz_103, pz_104, pz_105, pz_107, pz_108, pz_109, pz_110, pz_111, pz_112, pz_114, pz_115, pz_116, pz_119, pz_120, pz_121, pz_122, pz_125, pz_127, pz_153, pz_200, pz_201, pz_202, pz_203, pz_204, pz_205, pz_206, pz_207, pz_208, pz_209, pz_210, pz_211, pz_212, pz_213, pz_214, pz_215, pz_216, pz_217, pz_218, pz_219, pz_220, pz_221, pz_222, pz_223, pz_224, pz_225, pz_255, pz_256, pz_271, pz_300, pz_301, pz_302, pz_303, pz_304, pz_400, pz_401, pz_521, pz_705, pz_1000, pz_1508, pz_1661, pz_1691, pz_2400, pz_3125, pz_9999, pz_10000, pz_30703, pz_65536, pz_99999, pz_1000000, pz_lt, pz_ck, pz_u2, pz_u3, pz_u4, pz_bs, pz_ix, pz_inb, pz_add, pz_mul, pz_sub, nI_leI, nI_ltI, nI_eq, pz_bIt, pz_bIf, pz_isb, pz_isb0, pz_isb1, pz_bI0, pz_bI1, Nat.zero_le, true_and, and_true, decide_true, decide_false, Bool.true_eq_false, Bool.false_eq_true, if_true, if_false, Nat.reduceAdd, Nat.reduceMul, Nat.reduceSub, Nat.reduceEqDiff, Nat.reduceLeDiff, Nat.reduceLT, Nat.one_ne_zero, Nat.zero_ne_one, hm1, pz_row, pz_at, pz_no, s1, s4, h16, z1, z2]
      · simp (disch := omega) only [pz_0, pz_1, pz_2, pz_3, pz_4, pz_5, pz_6, pz_7, pz_8, pz_9, pz_10, pz_11, pz_12, pz_13, pz_14, pz_15, pz_16, pz_20, pz_21, pz_22, pz_24, pz_25, pz_30, pz_31, pz_32, pz_35, pz_40, pz_41, pz_42, pz_43, pz_45, pz_47, pz_48, pz_52, pz_57, pz_58, pz_59, pz_60, pz_61, pz_62, pz_63, pz_65, pz_85, pz_90, pz_97, pz_98, pz_99, pz_100, pz_101, pz_102, pz_103, pz_104, pz_105, pz_107, pz_108, pz_109, pz_110, pz_111, pz_112, pz_114, pz_115, pz_116, pz_119, pz_120, pz_121, pz_122, pz_125, pz_127, pz_153, pz_200, pz_201, pz_202, pz_203, pz_204, pz_205, pz_206, pz_207, pz_208, pz_209, pz_210, pz_211, pz_212, pz_213, pz_214, pz_215, pz_216, pz_217, pz_218, pz_219, pz_220, pz_221, pz_222, pz_223, pz_224, pz_225, pz_255, pz_256, pz_271, pz_300, pz_301, pz_302, pz_303, pz_304, pz_400, pz_401, pz_521, pz_705, pz_1000, pz_1508, pz_1661, pz_1691, pz_2400, pz_3125, pz_9999, pz_10000, pz_30703, pz_65536, pz_99999, pz_1000000, pz_lt, pz_ck, pz_u2, pz_u3, pz_u4, pz_bs, pz_ix, pz_inb, pz_add, pz_mul, pz_sub, nI_leI, nI_ltI, nI_eq, pz_bIt, pz_bIf, pz_isb, pz_isb0, pz_isb1, pz_bI0, pz_bI1, Nat.zero_le, true_and, and_true, decide_true, decide_false, Bool.true_eq_false, Bool.false_eq_true, if_true, if_false, Nat.reduceAdd, Nat.reduceMul, Nat.reduceSub, Nat.reduceEqDiff, Nat.reduceLeDiff, Nat.reduceLT, Nat.one_ne_zero, Nat.zero_ne_one, hm1, pz_row, pz_at, pz_no, s1, s4, h16, z1]
end ML
