/-! the start, 4: the reference's sayings laid -/
section SM3
variable {I : PI}
theorem pm_say60 {A : PI} (ht : CTab I A) {k a b n : Nat} (hk : k < 5) (ha : a < 5) (hb : b < 5) (hn : n < 20) (B : PJ) (h7 : B 7 n = 0) (h8 : B 8 n = 0) : ∃ B1, m_laySayings_l60 (nI k) (nI a) (nI n) (nI b) A fu (nI 0) B = some B1 ∧ msk (B1 7 n) (fun i => soB (plcT i) k a b) ∧ msk (B1 8 n) (fun i => soB (plcT (60 + i)) k a b) ∧ ∀ q j, (q ≠ 7 ∧ q ≠ 8) ∨ j ≠ n → B1 q j = B q j := by
  obtain ⟨B1, ⟨h1, h2, h3⟩, h4⟩ := pz_loop (fun f v (C : PJ) => m_laySayings_l60 (nI k) (nI a) (nI n) (nI b) A f (nI v) C) 60 (fun C => some C) (fun v C => mskV (C 7 n) v (fun i => soB (plcT i) k a b) ∧ mskV (C 8 n) v (fun i => soB (plcT (60 + i)) k a b) ∧ ∀ q j, (q ≠ 7 ∧ q ≠ 8) ∨ j ≠ n → C q j = B q j) (fun f C _ => by
      show m_laySayings_b60 (nI k) (nI a) (nI n) (nI b) A (m_laySayings_l60 (nI k) (nI a) (nI n) (nI b) A f) (nI 60) C = _
      unfold m_laySayings_b60
      simp (disch := omega) only [pz_0, pz_1, pz_2, pz_3, pz_4, pz_5, pz_6, pz_7, pz_8, pz_9, pz_10, pz_11, pz_12, pz_13, pz_14, pz_15, pz_16, pz_20, pz_21, pz_22, pz_24, pz_25, pz_30, pz_31, pz_32, pz_35, pz_40, pz_41, pz_42, pz_43, pz_45, pz_47, pz_48, pz_52, pz_57, pz_58, pz_59, pz_60, pz_61, pz_62, pz_63, pz_65, pz_85, pz_90, pz_97, pz_98, pz_99, pz_100, pz_101, pz_102, pz_103, pz_104, pz_105, pz_107, pz_108, pz_109, pz_110, pz_111, pz_112, pz_114, pz_115, pz_116, pz_119, pz_120, pz_121, pz_122, pz_125, pz_127, pz_153, pz_200, pz_201, pz_202, pz_203, pz_204, pz_205, pz_206, pz_207, pz_208, pz_209, pz_210, pz_211, pz_212, pz_213, pz_214, pz_215, pz_216, pz_217, pz_218, pz_219, pz_220, pz_221, pz_222, pz_223, pz_224, pz_225, pz_255, pz_256, pz_271, pz_300, pz_301, pz_302, pz_303, pz_304, pz_400, pz_401, pz_521, pz_705, pz_1000, pz_1508, pz_1661, pz_1691, pz_2400, pz_3125, pz_9999, pz_10000, pz_30703, pz_65536, pz_99999, pz_1000000, pz_lt, pz_ck, pz_u2, pz_u3, pz_u4, pz_bs, pz_ix, pz_inb, pz_add, pz_mul, pz_sub, nI_leI, nI_ltI, nI_eq, pz_bIt, pz_bIf, pz_isb, pz_isb0, pz_isb1, pz_bI0, pz_bI1, Nat.zero_le, true_and, and_true, decide_true, decide_false, Bool.true_eq_false, Bool.false_eq_true, if_true, if_false, Nat.reduceAdd, Nat.reduceMul, Nat.reduceSub, Nat.reduceEqDiff, Nat.reduceLeDiff, Nat.reduceLT, Nat.one_ne_zero, Nat.zero_ne_one, Nat.le_refl]) (fun f v C hv hP => by
      obtain ⟨p1, p2, p3⟩ := hP
      obtain ⟨-, q1⟩ := pe_isSo ht (i := v) (k := k) (a := a) (b := b) (by omega) ha hb hk
      obtain ⟨-, q2⟩ := pe_isSo ht (i := 60 + v) (k := k) (a := a) (b := b) (by omega) ha hb hk
      have z : ∀ x : Int64, x ||| 0 = x := fun x => by simp
      have st : m_laySayings_b60 (nI k) (nI a) (nI n) (nI b) A (m_laySayings_l60 (nI k) (nI a) (nI n) (nI b) A f) (nI v) C = m_laySayings_l60 (nI k) (nI a) (nI n) (nI b) A f (nI (v + 1)) (u2 (u2 C 7 n (if soB (plcT v) k a b then (C 7 n) ||| ((1 : Int64) <<< (Int32.toInt64 (nI v) &&& 63)) else C 7 n)) 8 n (if soB (plcT (60 + v)) k a b then (C 8 n) ||| ((1 : Int64) <<< (Int32.toInt64 (nI v) &&& 63)) else C 8 n)) := by
        unfold m_laySayings_b60 m_laySayings_j95 m_laySayings_j128
        simp (disch := omega) only [pz_60, pz_1, pz_0, nI_leI, Nat.not_le.mpr hv, if_false, pz_lt, pz_ck, pz_bs, pz_ix, pz_inb, pz_add, pz_bI0, q1, q2, z, pz_row, pz_at, pz_no]
        cases soB (plcT v) k a b <;> cases soB (plcT (60 + v)) k a b <;> simp only [Bool.false_eq_true, Bool.true_eq_false, if_true, if_false]
      refine ⟨_, st, ?_, ?_, fun q j hq => ?_⟩
      · simp (disch := omega) only [pz_row, pz_at, pz_no]
        cases hs : soB (plcT v) k a b with
        | true =>
          rw [if_pos rfl]
          exact mskV_yes p1 hs hv
        | false =>
          rw [if_neg (by decide)]
          exact mskV_no p1 (Or.inl hs)
      · simp (disch := omega) only [pz_row, pz_at, pz_no]
        cases hs : soB (plcT (60 + v)) k a b with
        | true =>
          rw [if_pos rfl]
          exact mskV_yes p2 hs hv
        | false =>
          rw [if_neg (by decide)]
          exact mskV_no p2 (Or.inl hs)
      · rw [u2_ne _ _ (by omega), u2_ne _ _ (by omega)]
        exact p3 q j hq) 60 fu 0 B (by omega) (fu_gt (by omega)) ⟨by rw [h7]; exact mskV_0, by rw [h8]; exact mskV_0, fun _ _ _ => rfl⟩
  exact ⟨B1, h4, mskV_full h1 (by omega), mskV_full h2 (by omega), h3⟩
end SM3
def cdS (k : Nat) : Nat := 25 * sayK k + 5 * sayD k + sayE k
def vlS (t : Nat) : Bool := decide (t / 5 % 5 ≤ t % 5) && (sayV (t / 25) (t / 5 % 5) (t % 5) && soB (plcT 0) (t / 25) (t / 5 % 5) (t % 5))
def scanS : Nat → Nat → Nat → Bool
  | 0, _, i => decide (i = 20)
  | f + 1, t, i => if vlS t = true then (decide (i < 20) && decide (cdS i = t)) && scanS f (t + 1) (i + 1) else scanS f (t + 1) i
theorem scanS_ok : scanS 125 0 0 = true := by decide +kernel
def SayM (n : Nat) (A : PI) (B : PJ) : Prop := (∀ k, k < n → A 6 k = nI (sayK k) ∧ msk (B 7 k) (fun i => !outM k i) ∧ msk (B 8 k) (fun i => !outM k (60 + i))) ∧ ∀ k, n ≤ k → B 7 k = 0 ∧ B 8 k = 0
