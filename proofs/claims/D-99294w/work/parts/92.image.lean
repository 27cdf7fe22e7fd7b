/-! members one by one, 15: image, back -/
def wd (k : Nat) : Nat := if k = 3 then 141 else if k = 6 then 4 else if k < 11 then 8 else if k < 19 then 3 else if k < 27 then 2 else 141
/-- the state s where rows reach, else z -/
def mix (s z : SN) : SN := fun k j => if j < wd k then s k j else z k j
theorem mix_at {s z : SN} {k j : Nat} (h : j < wd k) : mix s z k j = s k j := if_pos h
theorem wd_3 : wd 3 = 141 := rfl
theorem wd_2 : wd 2 = 8 := rfl
theorem wd_st {k : Nat} (h : k < 30) : wd (27 + k) = 141 := by
  unfold wd
  rw [if_neg (by omega), if_neg (by omega), if_neg (by omega), if_neg (by omega), if_neg (by omega)]
theorem wd_sa {i : Nat} (h : i < 8) : wd (11 + i) = 3 := by
  unfold wd
  rw [if_neg (by omega), if_neg (by omega), if_neg (by omega), if_pos (by omega)]
theorem wd_se {i : Nat} (h : i < 8) : wd (19 + i) = 2 := by
  unfold wd
  rw [if_neg (by omega), if_neg (by omega), if_neg (by omega), if_neg (by omega), if_pos (by omega)]
theorem mix_V {s z : SN} (hV : VSt s) : VSt (mix s z) := by
  obtain ⟨⟨v0, v1, v2, v3, v4, v5, v6, v7⟩, vr, vf, vs, va, ve, vt⟩ := hV
  have n : ∀ j, j < 8 → mix s z 2 j = s 2 j := fun j hj => mix_at hj
  have r3 : ∀ j, j < 141 → mix s z 3 j = s 3 j := fun j hj => mix_at hj
  refine ⟨⟨by rw [n 0 (by omega)]; exact v0, by rw [n 1 (by omega)]; exact v1, by rw [n 2 (by omega)]; exact v2, by rw [n 3 (by omega)]; exact v3, by rw [n 4 (by omega), n 3 (by omega)]; exact v4, by rw [n 5 (by omega)]; exact v5, by rw [n 6 (by omega)]; exact v6, by rw [n 7 (by omega)]; exact v7⟩, ?_, fun f hf => ?_, fun i hi => ?_, fun i hi => ?_, fun i hi => ?_, fun k hk => ?_⟩
  · rw [n 0 (by omega), n 1 (by omega)]
    exact vr.c v1 r3
  · rw [n 0 (by omega)] at hf
    rw [mix_at (k := 4) (show f < 8 by omega), mix_at (k := 5) (show f < 8 by omega)]
    exact vf f hf
  · rw [n 2 (by omega)] at hi
    rw [mix_at (k := 6) (show i < 4 by omega)]
    exact vs i hi
  · rw [n 6 (by omega)] at hi
    have w := wd_sa (i := i) (by omega)
    rw [mix_at (by rw [w]; omega), mix_at (by rw [w]; omega), mix_at (by rw [w]; omega)]
    exact va i hi
  · rw [n 7 (by omega)] at hi
    have w := wd_se (i := i) (by omega)
    rw [n 1 (by omega), mix_at (k := 19 + i) (j := 0) (by rw [w]; omega), mix_at (k := 19 + i) (j := 1) (by rw [w]; omega)]
    exact ve i hi
  · rw [n 5 (by omega)] at hk
    have w := wd_st (k := k) (by omega)
    rw [n 0 (by omega), n 1 (by omega)]
    exact (vt k hk).c v1 (fun j hj => mix_at (by rw [w]; exact hj))
theorem mix_M {s z : SN} {A A1 : Nat → Int32} (hV : VSt s) (hM : MR s A) (hA : ∀ i, i < 1691 → A1 i = A i) : MR (mix s z) A1 := by
  obtain ⟨⟨v0, v1, v2, v3, v4, v5, v6, v7⟩, vr, vf, vs, va, ve, vt⟩ := hV
  obtain ⟨⟨m0, m1, m2, m3, m4, m5, m6, m7, m8, m9, m10⟩, mp, mf, ms, ma, me, mb, mt⟩ := hM
  have n : ∀ j, j < 8 → mix s z 2 j = s 2 j := fun j hj => mix_at hj
  have r3 : ∀ j, j < 141 → mix s z 3 j = s 3 j := fun j hj => mix_at hj
  refine ⟨⟨by rw [hA _ (by omega), n 0 (by omega)]; exact m0, by rw [hA _ (by omega), n 1 (by omega)]; exact m1, by rw [hA _ (by omega), n 2 (by omega)]; exact m2, by rw [hA _ (by omega), n 3 (by omega)]; exact m3, by rw [hA _ (by omega), n 4 (by omega)]; exact m4, by rw [hA _ (by omega), n 5 (by omega)]; exact m5, by rw [hA _ (by omega), n 6 (by omega)]; exact m6, by rw [hA _ (by omega), n 7 (by omega)]; exact m7, by rw [hA _ (by omega), r3 0 (by omega)]; exact m8, by rw [hA _ (by omega), r3 1 (by omega)]; exact m9, by rw [hA _ (by omega), r3 20 (by omega)]; exact m10⟩, fun p hp => ?_, fun f hf => ?_, fun i hi => ?_, fun i j hi hj => ?_, fun i j hi hj => ?_, fun i hi => ?_, fun k hk => ?_⟩
  · rw [n 1 (by omega)] at hp
    rw [hA _ (by omega), hA _ (by omega), hA _ (by omega), r3 _ (by omega), r3 _ (by omega), r3 _ (by omega)]
    exact mp p hp
  · rw [hA _ (by omega), hA _ (by omega), mix_at (k := 4) (show f < 8 by omega), mix_at (k := 5) (show f < 8 by omega)]
    exact mf f hf
  · rw [n 2 (by omega)] at hi
    rw [hA _ (by omega), mix_at (k := 6) (show i < 4 by omega)]
    exact ms i hi
  · rw [n 6 (by omega)] at hi
    have w := wd_sa (i := i) (by omega)
    rw [hA _ (by omega), mix_at (by rw [w]; omega)]
    exact ma i j hi hj
  · rw [n 7 (by omega)] at hi
    have w := wd_se (i := i) (by omega)
    rw [hA _ (by omega), mix_at (by rw [w]; omega)]
    exact me i j hi hj
  · have h20 := vr.2.2.1
    rw [r3 20 (by omega)] at hi
    rw [hA _ (by omega), page_c (by omega) r3]
    exact mb i hi
  · rw [n 5 (by omega)] at hk
    obtain ⟨c, hc⟩ := mt k hk
    have w := wd_st (k := k) (by omega)
    refine ⟨c, ?_⟩
    rw [n 1 (by omega)]
    exact (hc.c v1 (vt k hk).2.2.1 (fun i h1 h2 => hA i (by omega)) (fun p w hp h1 h2 => hA _ (by omega))).r v1 (vt k hk).2.2.1 (fun j hj => mix_at (by rw [w]; exact hj))
theorem px_copyN (I : PI) (k0 k1 : Nat) {n : Nat} (h : n = 2 ∨ n = 3 ∨ n = 4 ∨ n = 8 ∨ n = 141) : xs_copy I k0 n k1 n = some (uc I k0 k1 0 0 n) := by
  have h3 : ix (0 : Int32) = 0 := by decide
  unfold xs_copy
  rcases h with e | e | e | e | e <;> subst e
  · rw [show cpk (0 : Int32) (0 : Int32) (Int32.ofNat 2) 2 2 = true by decide, pz_ck, pz_lt, h3]; rfl
  · rw [show cpk (0 : Int32) (0 : Int32) (Int32.ofNat 3) 3 3 = true by decide, pz_ck, pz_lt, h3]; rfl
  · rw [show cpk (0 : Int32) (0 : Int32) (Int32.ofNat 4) 4 4 = true by decide, pz_ck, pz_lt, h3]; rfl
  · rw [show cpk (0 : Int32) (0 : Int32) (Int32.ofNat 8) 8 8 = true by decide, pz_ck, pz_lt, h3]; rfl
  · rw [show cpk (0 : Int32) (0 : Int32) (Int32.ofNat 141) 141 141 = true by decide, pz_ck, pz_lt, h3]; rfl
theorem uc_j2 {α : Type} (f : Nat → Nat → α) {k0 k1 n j : Nat} (h : ¬ j < n) : uc f k0 k1 0 0 n k1 j = f k1 j := by
  have e : uc f k0 k1 0 0 n k1 = va_cpy (f k0) (f k1) 0 0 n := by
    unfold uc
    rw [if_pos rfl]
  rw [e, pk_cpy_out (by omega)]
/-- rows a + v copied to rows b + v, v < n, w places -/
def Rc (A B : PI) (a b n w : Nat) : Prop := (∀ v j, v < n → A (b + v) j = if j < w then B (a + v) j else B (b + v) j) ∧ ∀ k, (k < b ∨ b + n ≤ k) → A k = B k
theorem rc_1 (B : PI) (a b w : Nat) : Rc (uc B a b 0 0 w) B a b 1 w := by
  refine ⟨fun v j hv => ?_, fun k hk => uc_ne _ (by omega)⟩
  have e : v = 0 := by omega
  subst e
  rw [Nat.add_zero, Nat.add_zero]
  by_cases c : j < w
  · rw [if_pos c, uc_j _ c]
  · rw [if_neg c, uc_j2 _ c]
theorem rc_loop (L : Nat → Nat → PI → Option PI) (n a b w : Nat) (B : PI) (hf : n < 1099511627776) (hab : a + n ≤ b ∨ b + n ≤ a) (h0 : ∀ k A, L (k + 1) n A = some A) (h1 : ∀ k v A, v < n → L (k + 1) v A = L k (v + 1) (uc A (a + v) (b + v) 0 0 w)) : ∃ A, L fu 0 B = some A ∧ Rc A B a b n w := by
  obtain ⟨A, hA, e⟩ := pz_loop L n (fun A => some A) (fun v A => Rc A B a b v w) (fun k A _ => h0 k A) (fun k v A hv hA => ⟨_, h1 k v A hv, by
    obtain ⟨a1, a2⟩ := hA
    refine ⟨fun u j hu => ?_, fun k hk => ?_⟩
    · by_cases c : u = v
      · subst c
        by_cases z : j < w
        · rw [if_pos z, uc_j _ z, a2 _ (by omega)]
        · rw [if_neg z, uc_j2 _ z, a2 _ (by omega)]
      · rw [uc_ne _ (by omega)]
        exact a1 u j (by omega)
    · rw [uc_ne _ (by omega)]
      exact a2 k (by omega)⟩) n fu 0 B (by omega) (fu_gt hf) ⟨fun v j hv => absurd hv (Nat.not_lt_zero v), fun _ _ => rfl⟩
  exact ⟨A, e, hA⟩
theorem px_c7 (B : PI) : ∃ A, xs_copy_2_7_63 B = some A ∧ Rc A B 11 67 8 3 := by
  obtain ⟨A, e, h⟩ := rc_loop (fun k v A => xs_copy_2_7_63_l2 k (nI v) A) 8 11 67 3 B (by decide) (by omega) (fun k A => by
    show xs_copy_2_7_63_b2 (xs_copy_2_7_63_l2 k) (nI 8) A = some A
    unfold xs_copy_2_7_63_b2
    simp (disch := omega) only [pz_0, pz_1, pz_2, pz_3, pz_4, pz_5, pz_6, pz_7, pz_8, pz_9, pz_10, pz_11, pz_12, pz_13, pz_14, pz_15, pz_16, pz_20, pz_21, pz_22, pz_24, pz_25, pz_30, pz_31, pz_32, pz_35, pz_40, pz_41, pz_42, pz_43, pz_45, pz_47, pz_48, pz_52, pz_57, pz_58, pz_59, pz_60, pz_61, pz_62, pz_63, pz_65, pz_85, pz_90, pz_97, pz_98, pz_99, pz_100, pz_101, pz_102, pz_103, pz_104, pz_105, pz_107, pz_108, pz_109, pz_110, pz_111, pz_112, pz_114, pz_115, pz_116, pz_119, pz_120, pz_121, pz_122, pz_125, pz_127, pz_153, pz_200, pz_201, pz_202, pz_203, pz_204, pz_205, pz_206, pz_207, pz_208, pz_209, pz_210, pz_211, pz_212, pz_213, pz_214, pz_215, pz_216, pz_217, pz_218, pz_219, pz_220, pz_221, pz_222, pz_223, pz_224, pz_225, pz_255, pz_256, pz_271, pz_300, pz_301, pz_302, pz_303, pz_304, pz_400, pz_401, pz_521, pz_705, pz_1000, pz_1508, pz_1661, pz_1691, pz_2400, pz_3125, pz_9999, pz_10000, pz_30703, pz_65536, pz_99999, pz_1000000, pz_lt, pz_ck, pz_u2, pz_u3, pz_u4, pz_bs, pz_ix, pz_inb, pz_add, pz_mul, pz_sub, nI_leI, nI_ltI, nI_eq, pz_bIt, pz_bIf, pz_isb, pz_isb0, pz_isb1, pz_bI0, pz_bI1, Nat.zero_le, true_and, and_true, decide_true, decide_false, Bool.true_eq_false, Bool.false_eq_true, if_true, if_false, Nat.reduceAdd, Nat.reduceMul, Nat.reduceSub, Nat.reduceEqDiff, Nat.reduceLeDiff, Nat.reduceLT, Nat.one_ne_zero, Nat.zero_ne_one, Nat.le_refl]) (fun k v A hv => by
    show xs_copy_2_7_63_b2 (xs_copy_2_7_63_l2 k) (nI v) A = _
    unfold xs_copy_2_7_63_b2
    simp (disch := omega) only [pz_0, pz_1, pz_2, pz_3, pz_4, pz_5, pz_6, pz_7, pz_8, pz_9, pz_10, pz_11, pz_12, pz_13, pz_14, pz_15, pz_16, pz_20, pz_21, pz_22, pz_24, pz_25, pz_30, pz_31, pz_32, pz_35, pz_40, pz_41, pz_42, pz_43, pz_45, pz_47, pz_48, pz_52, pz_57, pz_58, pz_59, pz_60, pz_61, pz_62, pz_63, pz_65, pz_85, pz_90, pz_97, pz_98, pz_99, pz_100, pz_101, pz_102, pz_103, pz_104, pz_105, pz_107, pz_108, pz_109, pz_110, pz_111, pz_112, pz_114, pz_115, pz_116, pz_119, pz_120, pz_121, pz_122, pz_125, pz_127, pz_153, pz_200, pz_201, pz_202, pz_203, pz_204, pz_205, pz_206, pz_207, pz_208, pz_209, pz_210, pz_211, pz_212, pz_213, pz_214, pz_215, pz_216, pz_217, pz_218, pz_219, pz_220, pz_221, pz_222, pz_223, pz_224, pz_225, pz_255, pz_256, pz_271, pz_300, pz_301, pz_302, pz_303, pz_304, pz_400, pz_401, pz_521, pz_705, pz_1000, pz_1508, pz_1661, pz_1691, pz_2400, pz_3125, pz_9999, pz_10000, pz_30703, pz_65536, pz_99999, pz_1000000, pz_lt, pz_ck, pz_u2, pz_u3, pz_u4, pz_bs, pz_ix, pz_inb, pz_add, pz_mul, pz_sub, nI_leI, nI_ltI, nI_eq, pz_bIt, pz_bIf, pz_isb, pz_isb0, pz_isb1, pz_bI0, pz_bI1, Nat.zero_le, true_and, and_true, decide_true, decide_false, Bool.true_eq_false, Bool.false_eq_true, if_true, if_false, Nat.reduceAdd, Nat.reduceMul, Nat.reduceSub, Nat.reduceEqDiff, Nat.reduceLeDiff, Nat.reduceLT, Nat.one_ne_zero, Nat.zero_ne_one, Nat.not_le.mpr hv, px_copyN])
  refine ⟨A, ?_, h⟩
  unfold xs_copy_2_7_63
  have e : xs_copy_2_7_63_l2 fu 0 B = some A := e
  rw [e]
  rfl
theorem px_c8 (B : PI) : ∃ A, xs_copy_2_8_64 B = some A ∧ Rc A B 19 75 8 2 := by
  obtain ⟨A, e, h⟩ := rc_loop (fun k v A => xs_copy_2_8_64_l2 k (nI v) A) 8 19 75 2 B (by decide) (by omega) (fun k A => by
    show xs_copy_2_8_64_b2 (xs_copy_2_8_64_l2 k) (nI 8) A = some A
    unfold xs_copy_2_8_64_b2
    simp (disch := omega) only [pz_0, pz_1, pz_2, pz_3, pz_4, pz_5, pz_6, pz_7, pz_8, pz_9, pz_10, pz_11, pz_12, pz_13, pz_14, pz_15, pz_16, pz_20, pz_21, pz_22, pz_24, pz_25, pz_30, pz_31, pz_32, pz_35, pz_40, pz_41, pz_42, pz_43, pz_45, pz_47, pz_48, pz_52, pz_57, pz_58, pz_59, pz_60, pz_61, pz_62, pz_63, pz_65, pz_85, pz_90, pz_97, pz_98, pz_99, pz_100, pz_101, pz_102, pz_103, pz_104, pz_105, pz_107, pz_108, pz_109, pz_110, pz_111, pz_112, pz_114, pz_115, pz_116, pz_119, pz_120, pz_121, pz_122, pz_125, pz_127, pz_153, pz_200, pz_201, pz_202, pz_203, pz_204, pz_205, pz_206, pz_207, pz_208, pz_209, pz_210, pz_211, pz_212, pz_213, pz_214, pz_215, pz_216, pz_217, pz_218, pz_219, pz_220, pz_221, pz_222, pz_223, pz_224, pz_225, pz_255, pz_256, pz_271, pz_300, pz_301, pz_302, pz_303, pz_304, pz_400, pz_401, pz_521, pz_705, pz_1000, pz_1508, pz_1661, pz_1691, pz_2400, pz_3125, pz_9999, pz_10000, pz_30703, pz_65536, pz_99999, pz_1000000, pz_lt, pz_ck, pz_u2, pz_u3, pz_u4, pz_bs, pz_ix, pz_inb, pz_add, pz_mul, pz_sub, nI_leI, nI_ltI, nI_eq, pz_bIt, pz_bIf, pz_isb, pz_isb0, pz_isb1, pz_bI0, pz_bI1, Nat.zero_le, true_and, and_true, decide_true, decide_false, Bool.true_eq_false, Bool.false_eq_true, if_true, if_false, Nat.reduceAdd, Nat.reduceMul, Nat.reduceSub, Nat.reduceEqDiff, Nat.reduceLeDiff, Nat.reduceLT, Nat.one_ne_zero, Nat.zero_ne_one, Nat.le_refl]) (fun k v A hv => by
    show xs_copy_2_8_64_b2 (xs_copy_2_8_64_l2 k) (nI v) A = _
    unfold xs_copy_2_8_64_b2
    simp (disch := omega) only [pz_0, pz_1, pz_2, pz_3, pz_4, pz_5, pz_6, pz_7, pz_8, pz_9, pz_10, pz_11, pz_12, pz_13, pz_14, pz_15, pz_16, pz_20, pz_21, pz_22, pz_24, pz_25, pz_30, pz_31, pz_32, pz_35, pz_40, pz_41, pz_42, pz_43, pz_45, pz_47, pz_48, pz_52, pz_57, pz_58, pz_59, pz_60, pz_61, pz_62, pz_63, pz_65, pz_85, pz_90, pz_97, pz_98, pz_99, pz_100, pz_101, pz_102, pz_103, pz_104, pz_105, pz_107, pz_108, pz_109, pz_110, pz_111, pz_112, pz_114, pz_115, pz_116, pz_119, pz_120, pz_121, pz_122, pz_125, pz_127, pz_153, pz_200, pz_201, pz_202, pz_203, pz_204, pz_205, pz_206, pz_207, pz_208, pz_209, pz_210, pz_211, pz_212, pz_213, pz_214, pz_215, pz_216, pz_217, pz_218, pz_219, pz_220, pz_221, pz_222, pz_223, pz_224, pz_225, pz_255, pz_256, pz_271, pz_300, pz_301, pz_302, pz_303, pz_304, pz_400, pz_401, pz_521, pz_705, pz_1000, pz_1508, pz_1661, pz_1691, pz_2400, pz_3125, pz_9999, pz_10000, pz_30703, pz_65536, pz_99999, pz_1000000, pz_lt, pz_ck, pz_u2, pz_u3, pz_u4, pz_bs, pz_ix, pz_inb, pz_add, pz_mul, pz_sub, nI_leI, nI_ltI, nI_eq, pz_bIt, pz_bIf, pz_isb, pz_isb0, pz_isb1, pz_bI0, pz_bI1, Nat.zero_le, true_and, and_true, decide_true, decide_false, Bool.true_eq_false, Bool.false_eq_true, if_true, if_false, Nat.reduceAdd, Nat.reduceMul, Nat.reduceSub, Nat.reduceEqDiff, Nat.reduceLeDiff, Nat.reduceLT, Nat.one_ne_zero, Nat.zero_ne_one, Nat.not_le.mpr hv, px_copyN])
  refine ⟨A, ?_, h⟩
  unfold xs_copy_2_8_64
  have e : xs_copy_2_8_64_l2 fu 0 B = some A := e
  rw [e]
  rfl
theorem px_c9 (B : PI) : ∃ A, xs_copy_2_9_65 B = some A ∧ Rc A B 27 83 30 141 := by
  obtain ⟨A, e, h⟩ := rc_loop (fun k v A => xs_copy_2_9_65_l2 k (nI v) A) 30 27 83 141 B (by decide) (by omega) (fun k A => by
    show xs_copy_2_9_65_b2 (xs_copy_2_9_65_l2 k) (nI 30) A = some A
    unfold xs_copy_2_9_65_b2
    simp (disch := omega) only [pz_0, pz_1, pz_2, pz_3, pz_4, pz_5, pz_6, pz_7, pz_8, pz_9, pz_10, pz_11, pz_12, pz_13, pz_14, pz_15, pz_16, pz_20, pz_21, pz_22, pz_24, pz_25, pz_30, pz_31, pz_32, pz_35, pz_40, pz_41, pz_42, pz_43, pz_45, pz_47, pz_48, pz_52, pz_57, pz_58, pz_59, pz_60, pz_61, pz_62, pz_63, pz_65, pz_85, pz_90, pz_97, pz_98, pz_99, pz_100, pz_101, pz_102, pz_103, pz_104, pz_105, pz_107, pz_108, pz_109, pz_110, pz_111, pz_112, pz_114, pz_115, pz_116, pz_119, pz_120, pz_121, pz_122, pz_125, pz_127, pz_153, pz_200, pz_201, pz_202, pz_203, pz_204, pz_205, pz_206, pz_207, pz_208, pz_209, pz_210, pz_211, pz_212, pz_213, pz_214, pz_215, pz_216, pz_217, pz_218, pz_219, pz_220, pz_221, pz_222, pz_223, pz_224, pz_225, pz_255, pz_256, pz_271, pz_300, pz_301, pz_302, pz_303, pz_304, pz_400, pz_401, pz_521, pz_705, pz_1000, pz_1508, pz_1661, pz_1691, pz_2400, pz_3125, pz_9999, pz_10000, pz_30703, pz_65536, pz_99999, pz_1000000, pz_lt, pz_ck, pz_u2, pz_u3, pz_u4, pz_bs, pz_ix, pz_inb, pz_add, pz_mul, pz_sub, nI_leI, nI_ltI, nI_eq, pz_bIt, pz_bIf, pz_isb, pz_isb0, pz_isb1, pz_bI0, pz_bI1, Nat.zero_le, true_and, and_true, decide_true, decide_false, Bool.true_eq_false, Bool.false_eq_true, if_true, if_false, Nat.reduceAdd, Nat.reduceMul, Nat.reduceSub, Nat.reduceEqDiff, Nat.reduceLeDiff, Nat.reduceLT, Nat.one_ne_zero, Nat.zero_ne_one, Nat.le_refl]) (fun k v A hv => by
    show xs_copy_2_9_65_b2 (xs_copy_2_9_65_l2 k) (nI v) A = _
    unfold xs_copy_2_9_65_b2
    simp (disch := omega) only [pz_0, pz_1, pz_2, pz_3, pz_4, pz_5, pz_6, pz_7, pz_8, pz_9, pz_10, pz_11, pz_12, pz_13, pz_14, pz_15, pz_16, pz_20, pz_21, pz_22, pz_24, pz_25, pz_30, pz_31, pz_32, pz_35, pz_40, pz_41, pz_42, pz_43, pz_45, pz_47, pz_48, pz_52, pz_57, pz_58, pz_59, pz_60, pz_61, pz_62, pz_63, pz_65, pz_85, pz_90, pz_97, pz_98, pz_99, pz_100, pz_101, pz_102, pz_103, pz_104, pz_105, pz_107, pz_108, pz_109, pz_110, pz_111, pz_112, pz_114, pz_115, pz_116, pz_119, pz_120, pz_121, pz_122, pz_125, pz_127, pz_153, pz_200, pz_201, pz_202, pz_203, pz_204, pz_205, pz_206, pz_207, pz_208, pz_209, pz_210, pz_211, pz_212, pz_213, pz_214, pz_215, pz_216, pz_217, pz_218, pz_219, pz_220, pz_221, pz_222, pz_223, pz_224, pz_225, pz_255, pz_256, pz_271, pz_300, pz_301, pz_302, pz_303, pz_304, pz_400, pz_401, pz_521, pz_705, pz_1000, pz_1508, pz_1661, pz_1691, pz_2400, pz_3125, pz_9999, pz_10000, pz_30703, pz_65536, pz_99999, pz_1000000, pz_lt, pz_ck, pz_u2, pz_u3, pz_u4, pz_bs, pz_ix, pz_inb, pz_add, pz_mul, pz_sub, nI_leI, nI_ltI, nI_eq, pz_bIt, pz_bIf, pz_isb, pz_isb0, pz_isb1, pz_bI0, pz_bI1, Nat.zero_le, true_and, and_true, decide_true, decide_false, Bool.true_eq_false, Bool.false_eq_true, if_true, if_false, Nat.reduceAdd, Nat.reduceMul, Nat.reduceSub, Nat.reduceEqDiff, Nat.reduceLeDiff, Nat.reduceLT, Nat.one_ne_zero, Nat.zero_ne_one, Nat.not_le.mpr hv, px_copyN])
  refine ⟨A, ?_, h⟩
  unfold xs_copy_2_9_65
  have e : xs_copy_2_9_65_l2 fu 0 B = some A := e
  rw [e]
  rfl
theorem px_d7 (B : PI) : ∃ A, xs_copy_2_63_7 B = some A ∧ Rc A B 67 11 8 3 := by
  obtain ⟨A, e, h⟩ := rc_loop (fun k v A => xs_copy_2_63_7_l2 k (nI v) A) 8 67 11 3 B (by decide) (by omega) (fun k A => by
    show xs_copy_2_63_7_b2 (xs_copy_2_63_7_l2 k) (nI 8) A = some A
    unfold xs_copy_2_63_7_b2
    simp (disch := omega) only [pz_0, pz_1, pz_2, pz_3, pz_4, pz_5, pz_6, pz_7, pz_8, pz_9, pz_10, pz_11, pz_12, pz_13, pz_14, pz_15, pz_16, pz_20, pz_21, pz_22, pz_24, pz_25, pz_30, pz_31, pz_32, pz_35, pz_40, pz_41, pz_42, pz_43, pz_45, pz_47, pz_48, pz_52, pz_57, pz_58, pz_59, pz_60, pz_61, pz_62, pz_63, pz_65, pz_85, pz_90, pz_97, pz_98, pz_99, pz_100, pz_101, pz_102, pz_103, pz_104, pz_105, pz_107, pz_108, pz_109, pz_110, pz_111, pz_112, pz_114, pz_115, pz_116, pz_119, pz_120, pz_121, pz_122, pz_125, pz_127, pz_153, pz_200, pz_201, pz_202, pz_203, pz_204, pz_205, pz_206, pz_207, pz_208, pz_209, pz_210, pz_211, pz_212, pz_213, pz_214, pz_215, pz_216, pz_217, pz_218, pz_219, pz_220, pz_221, pz_222, pz_223, pz_224, pz_225, pz_255, pz_256, pz_271, pz_300, pz_301, pz_302, pz_303, pz_304, pz_400, pz_401, pz_521, pz_705, pz_1000, pz_1508, pz_1661, pz_1691, pz_2400, pz_3125, pz_9999, pz_10000, pz_30703, pz_65536, pz_99999, pz_1000000, pz_lt, pz_ck, pz_u2, pz_u3, pz_u4, pz_bs, pz_ix, pz_inb, pz_add, pz_mul, pz_sub, nI_leI, nI_ltI, nI_eq, pz_bIt, pz_bIf, pz_isb, pz_isb0, pz_isb1, pz_bI0, pz_bI1, Nat.zero_le, true_and, and_true, decide_true, decide_false, Bool.true_eq_false, Bool.false_eq_true, if_true, if_false, Nat.reduceAdd, Nat.reduceMul, Nat.reduceSub, Nat.reduceEqDiff, Nat.reduceLeDiff, Nat.reduceLT, Nat.one_ne_zero, Nat.zero_ne_one, Nat.le_refl]) (fun k v A hv => by
    show xs_copy_2_63_7_b2 (xs_copy_2_63_7_l2 k) (nI v) A = _
    unfold xs_copy_2_63_7_b2
    simp (disch := omega) only [pz_0, pz_1, pz_2, pz_3, pz_4, pz_5, pz_6, pz_7, pz_8, pz_9, pz_10, pz_11, pz_12, pz_13, pz_14, pz_15, pz_16, pz_20, pz_21, pz_22, pz_24, pz_25, pz_30, pz_31, pz_32, pz_35, pz_40, pz_41, pz_42, pz_43, pz_45, pz_47, pz_48, pz_52, pz_57, pz_58, pz_59, pz_60, pz_61, pz_62, pz_63, pz_65, pz_85, pz_90, pz_97, pz_98, pz_99, pz_100, pz_101, pz_102, pz_103, pz_104, pz_105, pz_107, pz_108, pz_109, pz_110, pz_111, pz_112, pz_114, pz_115, pz_116, pz_119, pz_120, pz_121, pz_122, pz_125, pz_127, pz_153, pz_200, pz_201, pz_202, pz_203, pz_204, pz_205, pz_206, pz_207, pz_208, pz_209, pz_210, pz_211, pz_212, pz_213, pz_214, pz_215, pz_216, pz_217, pz_218, pz_219, pz_220, pz_221, pz_222, pz_223, pz_224, pz_225, pz_255, pz_256, pz_271, pz_300, pz_301, pz_302, pz_303, pz_304, pz_400, pz_401, pz_521, pz_705, pz_1000, pz_1508, pz_1661, pz_1691, pz_2400, pz_3125, pz_9999, pz_10000, pz_30703, pz_65536, pz_99999, pz_1000000, pz_lt, pz_ck, pz_u2, pz_u3, pz_u4, pz_bs, pz_ix, pz_inb, pz_add, pz_mul, pz_sub, nI_leI, nI_ltI, nI_eq, pz_bIt, pz_bIf, pz_isb, pz_isb0, pz_isb1, pz_bI0, pz_bI1, Nat.zero_le, true_and, and_true, decide_true, decide_false, Bool.true_eq_false, Bool.false_eq_true, if_true, if_false, Nat.reduceAdd, Nat.reduceMul, Nat.reduceSub, Nat.reduceEqDiff, Nat.reduceLeDiff, Nat.reduceLT, Nat.one_ne_zero, Nat.zero_ne_one, Nat.not_le.mpr hv, px_copyN])
  refine ⟨A, ?_, h⟩
  unfold xs_copy_2_63_7
  have e : xs_copy_2_63_7_l2 fu 0 B = some A := e
  rw [e]
  rfl
theorem px_d8 (B : PI) : ∃ A, xs_copy_2_64_8 B = some A ∧ Rc A B 75 19 8 2 := by
  obtain ⟨A, e, h⟩ := rc_loop (fun k v A => xs_copy_2_64_8_l2 k (nI v) A) 8 75 19 2 B (by decide) (by omega) (fun k A => by
    show xs_copy_2_64_8_b2 (xs_copy_2_64_8_l2 k) (nI 8) A = some A
    unfold xs_copy_2_64_8_b2
    simp (disch := omega) only [pz_0, pz_1, pz_2, pz_3, pz_4, pz_5, pz_6, pz_7, pz_8, pz_9, pz_10, pz_11, pz_12, pz_13, pz_14, pz_15, pz_16, pz_20, pz_21, pz_22, pz_24, pz_25, pz_30, pz_31, pz_32, pz_35, pz_40, pz_41, pz_42, pz_43, pz_45, pz_47, pz_48, pz_52, pz_57, pz_58, pz_59, pz_60, pz_61, pz_62, pz_63, pz_65, pz_85, pz_90, pz_97, pz_98, pz_99, pz_100, pz_101, pz_102, pz_103, pz_104, pz_105, pz_107, pz_108, pz_109, pz_110, pz_111, pz_112, pz_114, pz_115, pz_116, pz_119, pz_120, pz_121, pz_122, pz_125, pz_127, pz_153, pz_200, pz_201, pz_202, pz_203, pz_204, pz_205, pz_206, pz_207, pz_208, pz_209, pz_210, pz_211, pz_212, pz_213, pz_214, pz_215, pz_216, pz_217, pz_218, pz_219, pz_220, pz_221, pz_222, pz_223, pz_224, pz_225, pz_255, pz_256, pz_271, pz_300, pz_301, pz_302, pz_303, pz_304, pz_400, pz_401, pz_521, pz_705, pz_1000, pz_1508, pz_1661, pz_1691, pz_2400, pz_3125, pz_9999, pz_10000, pz_30703, pz_65536, pz_99999, pz_1000000, pz_lt, pz_ck, pz_u2, pz_u3, pz_u4, pz_bs, pz_ix, pz_inb, pz_add, pz_mul, pz_sub, nI_leI, nI_ltI, nI_eq, pz_bIt, pz_bIf, pz_isb, pz_isb0, pz_isb1, pz_bI0, pz_bI1, Nat.zero_le, true_and, and_true, decide_true, decide_false, Bool.true_eq_false, Bool.false_eq_true, if_true, if_false, Nat.reduceAdd, Nat.reduceMul, Nat.reduceSub, Nat.reduceEqDiff, Nat.reduceLeDiff, Nat.reduceLT, Nat.one_ne_zero, Nat.zero_ne_one, Nat.le_refl]) (fun k v A hv => by
    show xs_copy_2_64_8_b2 (xs_copy_2_64_8_l2 k) (nI v) A = _
    unfold xs_copy_2_64_8_b2
    simp (disch := omega) only [pz_0, pz_1, pz_2, pz_3, pz_4, pz_5, pz_6, pz_7, pz_8, pz_9, pz_10, pz_11, pz_12, pz_13, pz_14, pz_15, pz_16, pz_20, pz_21, pz_22, pz_24, pz_25, pz_30, pz_31, pz_32, pz_35, pz_40, pz_41, pz_42, pz_43, pz_45, pz_47, pz_48, pz_52, pz_57, pz_58, pz_59, pz_60, pz_61, pz_62, pz_63, pz_65, pz_85, pz_90, pz_97, pz_98, pz_99, pz_100, pz_101, pz_102, pz_103, pz_104, pz_105, pz_107, pz_108, pz_109, pz_110, pz_111, pz_112, pz_114, pz_115, pz_116, pz_119, pz_120, pz_121, pz_122, pz_125, pz_127, pz_153, pz_200, pz_201, pz_202, pz_203, pz_204, pz_205, pz_206, pz_207, pz_208, pz_209, pz_210, pz_211, pz_212, pz_213, pz_214, pz_215, pz_216, pz_217, pz_218, pz_219, pz_220, pz_221, pz_222, pz_223, pz_224, pz_225, pz_255, pz_256, pz_271, pz_300, pz_301, pz_302, pz_303, pz_304, pz_400, pz_401, pz_521, pz_705, pz_1000, pz_1508, pz_1661, pz_1691, pz_2400, pz_3125, pz_9999, pz_10000, pz_30703, pz_65536, pz_99999, pz_1000000, pz_lt, pz_ck, pz_u2, pz_u3, pz_u4, pz_bs, pz_ix, pz_inb, pz_add, pz_mul, pz_sub, nI_leI, nI_ltI, nI_eq, pz_bIt, pz_bIf, pz_isb, pz_isb0, pz_isb1, pz_bI0, pz_bI1, Nat.zero_le, true_and, and_true, decide_true, decide_false, Bool.true_eq_false, Bool.false_eq_true, if_true, if_false, Nat.reduceAdd, Nat.reduceMul, Nat.reduceSub, Nat.reduceEqDiff, Nat.reduceLeDiff, Nat.reduceLT, Nat.one_ne_zero, Nat.zero_ne_one, Nat.not_le.mpr hv, px_copyN])
  refine ⟨A, ?_, h⟩
  unfold xs_copy_2_64_8
  have e : xs_copy_2_64_8_l2 fu 0 B = some A := e
  rw [e]
  rfl
theorem px_d9 (B : PI) : ∃ A, xs_copy_2_65_9 B = some A ∧ Rc A B 83 27 30 141 := by
  obtain ⟨A, e, h⟩ := rc_loop (fun k v A => xs_copy_2_65_9_l2 k (nI v) A) 30 83 27 141 B (by decide) (by omega) (fun k A => by
    show xs_copy_2_65_9_b2 (xs_copy_2_65_9_l2 k) (nI 30) A = some A
    unfold xs_copy_2_65_9_b2
    simp (disch := omega) only [pz_0, pz_1, pz_2, pz_3, pz_4, pz_5, pz_6, pz_7, pz_8, pz_9, pz_10, pz_11, pz_12, pz_13, pz_14, pz_15, pz_16, pz_20, pz_21, pz_22, pz_24, pz_25, pz_30, pz_31, pz_32, pz_35, pz_40, pz_41, pz_42, pz_43, pz_45, pz_47, pz_48, pz_52, pz_57, pz_58, pz_59, pz_60, pz_61, pz_62, pz_63, pz_65, pz_85, pz_90, pz_97, pz_98, pz_99, pz_100, pz_101, pz_102, pz_103, pz_104, pz_105, pz_107, pz_108, pz_109, pz_110, pz_111, pz_112, pz_114, pz_115, pz_116, pz_119, pz_120, pz_121, pz_122, pz_125, pz_127, pz_153, pz_200, pz_201, pz_202, pz_203, pz_204, pz_205, pz_206, pz_207, pz_208, pz_209, pz_210, pz_211, pz_212, pz_213, pz_214, pz_215, pz_216, pz_217, pz_218, pz_219, pz_220, pz_221, pz_222, pz_223, pz_224, pz_225, pz_255, pz_256, pz_271, pz_300, pz_301, pz_302, pz_303, pz_304, pz_400, pz_401, pz_521, pz_705, pz_1000, pz_1508, pz_1661, pz_1691, pz_2400, pz_3125, pz_9999, pz_10000, pz_30703, pz_65536, pz_99999, pz_1000000, pz_lt, pz_ck, pz_u2, pz_u3, pz_u4, pz_bs, pz_ix, pz_inb, pz_add, pz_mul, pz_sub, nI_leI, nI_ltI, nI_eq, pz_bIt, pz_bIf, pz_isb, pz_isb0, pz_isb1, pz_bI0, pz_bI1, Nat.zero_le, true_and, and_true, decide_true, decide_false, Bool.true_eq_false, Bool.false_eq_true, if_true, if_false, Nat.reduceAdd, Nat.reduceMul, Nat.reduceSub, Nat.reduceEqDiff, Nat.reduceLeDiff, Nat.reduceLT, Nat.one_ne_zero, Nat.zero_ne_one, Nat.le_refl]) (fun k v A hv => by
    show xs_copy_2_65_9_b2 (xs_copy_2_65_9_l2 k) (nI v) A = _
    unfold xs_copy_2_65_9_b2
    simp (disch := omega) only [pz_0, pz_1, pz_2, pz_3, pz_4, pz_5, pz_6, pz_7, pz_8, pz_9, pz_10, pz_11, pz_12, pz_13, pz_14, pz_15, pz_16, pz_20, pz_21, pz_22, pz_24, pz_25, pz_30, pz_31, pz_32, pz_35, pz_40, pz_41, pz_42, pz_43, pz_45, pz_47, pz_48, pz_52, pz_57, pz_58, pz_59, pz_60, pz_61, pz_62, pz_63, pz_65, pz_85, pz_90, pz_97, pz_98, pz_99, pz_100, pz_101, pz_102, pz_103, pz_104, pz_105, pz_107, pz_108, pz_109, pz_110, pz_111, pz_112, pz_114, pz_115, pz_116, pz_119, pz_120, pz_121, pz_122, pz_125, pz_127, pz_153, pz_200, pz_201, pz_202, pz_203, pz_204, pz_205, pz_206, pz_207, pz_208, pz_209, pz_210, pz_211, pz_212, pz_213, pz_214, pz_215, pz_216, pz_217, pz_218, pz_219, pz_220, pz_221, pz_222, pz_223, pz_224, pz_225, pz_255, pz_256, pz_271, pz_300, pz_301, pz_302, pz_303, pz_304, pz_400, pz_401, pz_521, pz_705, pz_1000, pz_1508, pz_1661, pz_1691, pz_2400, pz_3125, pz_9999, pz_10000, pz_30703, pz_65536, pz_99999, pz_1000000, pz_lt, pz_ck, pz_u2, pz_u3, pz_u4, pz_bs, pz_ix, pz_inb, pz_add, pz_mul, pz_sub, nI_leI, nI_ltI, nI_eq, pz_bIt, pz_bIf, pz_isb, pz_isb0, pz_isb1, pz_bI0, pz_bI1, Nat.zero_le, true_and, and_true, decide_true, decide_false, Bool.true_eq_false, Bool.false_eq_true, if_true, if_false, Nat.reduceAdd, Nat.reduceMul, Nat.reduceSub, Nat.reduceEqDiff, Nat.reduceLeDiff, Nat.reduceLT, Nat.one_ne_zero, Nat.zero_ne_one, Nat.not_le.mpr hv, px_copyN])
  refine ⟨A, ?_, h⟩
  unfold xs_copy_2_65_9
  have e : xs_copy_2_65_9_l2 fu 0 B = some A := e
  rw [e]
  rfl
