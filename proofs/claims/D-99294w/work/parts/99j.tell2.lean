/-! members one by one, 14: tell -/
section TL2
variable {s si : SN} {I : PI} {T : PT} {X : TS} {tN : XCo} {I' : PI} {J' : PJ}
/-- the reference writes -/
theorem pm_write {A : PI} {y n p i c : Nat} (hn : n ≤ 30) (h36 : A 0 36 = nI 1) (h8 : A 1 8 = nI y) (h10 : A 1 10 = nI n) : ∃ A1, m_write A (nI p) (nI i) (nI c) = some A1 ∧ (∀ k, k ≠ 1 → A1 k = A k) ∧ A1 1 10 = nI ((if n = 30 then 29 else n) + 1) ∧ (∀ q, q < (if n = 30 then 29 else n) → A1 1 (1661 + q) = if n = 30 then A 1 (1661 + (q + 1)) else A 1 (1661 + q)) ∧ A1 1 (1661 + (if n = 30 then 29 else n)) = nI (((y * 6 + p) * 4 + i) * 100 + c) ∧ ∀ j, j ≠ 10 → j < 1661 → A1 1 j = A 1 j := by
  unfold m_write
  by_cases z : n = 30
  · obtain ⟨B, e, b1, b2, b3⟩ := m_k23 A
    rw [if_pos z]
    refine ⟨u2 (u2 (u2 B 1 10 (nI 29)) 1 (1661 + 29) (nI (((y * 6 + p) * 4 + i) * 100 + c))) 1 10 (nI (29 + 1)), ?_, fun k hk => by simp (disch := omega) only [pz_row, pz_at, pz_no]; exact b1 k hk, (by simp (disch := omega) only [pz_row, pz_at, pz_no]), fun q hq => ?_, (by simp (disch := omega) only [pz_row, pz_at, pz_no]), fun j h1 h2 => by simp (disch := omega) only [pz_row, pz_at, pz_no]; exact b3 j h2⟩
    · have e10 : B 1 10 = nI 30 := by rw [b3 10 (by decide), h10, z]
      have e8 : B 1 8 = nI y := by rw [b3 8 (by decide), h8]
      unfold m_write_j71
      rw [z] at h10
      simp (disch := omega) only [pz_0, pz_1, pz_2, pz_3, pz_4, pz_5, pz_6, pz_7, pz_8, pz_9, pz_10, pz_11, pz_12, pz_13, pz_14, pz_15, pz_16, pz_20, pz_21, pz_22, pz_24, pz_25, pz_30, pz_31, pz_32, pz_35, pz_40, pz_41, pz_42, pz_43, pz_45, pz_47, pz_48, pz_52, pz_57, pz_58, pz_59, pz_60, pz_61, pz_62, pz_63, pz_65, pz_85, pz_90, pz_97, pz_98, pz_99, pz_100, pz_101, pz_102, pz_103, pz_104, pz_105, pz_107, pz_108, pz_109, pz_110, pz_111, pz_112, pz_114, pz_115, pz_116, pz_119, pz_120, pz_121, pz_122, pz_125, pz_127, pz_153, pz_200, pz_201, pz_202, pz_203, pz_204, pz_205, pz_206, pz_207, pz_208, pz_209, pz_210, pz_211, pz_212, pz_213, pz_214, pz_215, pz_216, pz_217, pz_218, pz_219, pz_220, pz_221, pz_222, pz_223, pz_224, pz_225, pz_255, pz_256, pz_271, pz_300, pz_301, pz_302, pz_303, pz_304, pz_400, pz_401, pz_521, pz_705, pz_1000, pz_1508, pz_1661, pz_1691, pz_2400, pz_3125, pz_9999, pz_10000, pz_30703, pz_65536, pz_99999, pz_1000000, pz_lt, pz_ck, pz_u2, pz_u3, pz_u4, pz_bs, pz_ix, pz_inb, pz_add, pz_mul, pz_sub, nI_leI, nI_ltI, nI_eq, pz_bIt, pz_bIf, pz_isb, pz_isb0, pz_isb1, pz_bI0, pz_bI1, Nat.zero_le, true_and, and_true, decide_true, decide_false, Bool.true_eq_false, Bool.false_eq_true, if_true, if_false, Nat.reduceAdd, Nat.reduceMul, Nat.reduceSub, Nat.reduceEqDiff, Nat.reduceLeDiff, Nat.reduceLT, Nat.one_ne_zero, Nat.zero_ne_one, h36, h10, e, e10, e8, pz_row, pz_at, pz_no]
    · rw [if_pos z]
      simp (disch := omega) only [pz_row, pz_at, pz_no]
      exact b2 q hq
  · rw [if_neg z]
    refine ⟨u2 (u2 A 1 (1661 + n) (nI (((y * 6 + p) * 4 + i) * 100 + c))) 1 10 (nI (n + 1)), ?_, fun k hk => (by simp (disch := omega) only [pz_row, pz_at, pz_no]), (by simp (disch := omega) only [pz_row, pz_at, pz_no]), fun q hq => ?_, (by simp (disch := omega) only [pz_row, pz_at, pz_no]), fun j h1 h2 => (by simp (disch := omega) only [pz_row, pz_at, pz_no])⟩
    · unfold m_write_j71
      simp (disch := omega) only [pz_0, pz_1, pz_2, pz_3, pz_4, pz_5, pz_6, pz_7, pz_8, pz_9, pz_10, pz_11, pz_12, pz_13, pz_14, pz_15, pz_16, pz_20, pz_21, pz_22, pz_24, pz_25, pz_30, pz_31, pz_32, pz_35, pz_40, pz_41, pz_42, pz_43, pz_45, pz_47, pz_48, pz_52, pz_57, pz_58, pz_59, pz_60, pz_61, pz_62, pz_63, pz_65, pz_85, pz_90, pz_97, pz_98, pz_99, pz_100, pz_101, pz_102, pz_103, pz_104, pz_105, pz_107, pz_108, pz_109, pz_110, pz_111, pz_112, pz_114, pz_115, pz_116, pz_119, pz_120, pz_121, pz_122, pz_125, pz_127, pz_153, pz_200, pz_201, pz_202, pz_203, pz_204, pz_205, pz_206, pz_207, pz_208, pz_209, pz_210, pz_211, pz_212, pz_213, pz_214, pz_215, pz_216, pz_217, pz_218, pz_219, pz_220, pz_221, pz_222, pz_223, pz_224, pz_225, pz_255, pz_256, pz_271, pz_300, pz_301, pz_302, pz_303, pz_304, pz_400, pz_401, pz_521, pz_705, pz_1000, pz_1508, pz_1661, pz_1691, pz_2400, pz_3125, pz_9999, pz_10000, pz_30703, pz_65536, pz_99999, pz_1000000, pz_lt, pz_ck, pz_u2, pz_u3, pz_u4, pz_bs, pz_ix, pz_inb, pz_add, pz_mul, pz_sub, nI_leI, nI_ltI, nI_eq, pz_bIt, pz_bIf, pz_isb, pz_isb0, pz_isb1, pz_bI0, pz_bI1, Nat.zero_le, true_and, and_true, decide_true, decide_false, Bool.true_eq_false, Bool.false_eq_true, if_true, if_false, Nat.reduceAdd, Nat.reduceMul, Nat.reduceSub, Nat.reduceEqDiff, Nat.reduceLeDiff, Nat.reduceLT, Nat.one_ne_zero, Nat.zero_ne_one, h36, h10, h8, z, pz_row, pz_at, pz_no]
    · rw [if_neg z]
      simp (disch := omega) only [pz_row, pz_at, pz_no]
/-- both write the same page -/
def wrS (s : SN) (p i c : Nat) : SN := fun k => if k = 3 then wrR (s 3) p i c else s k
theorem pe_write (hV : VSt s) (hX : XR s I) (hM : MR s (I' 1)) (h36 : I' 0 36 = nI 1) {p i c : Nat} (hp : p < 6) (hi : i < 4) (hc : c ≤ 99) : ∃ I1 I1', x_writes I 3 (nI p) (nI i) (nI c) = some I1 ∧ m_write I' (nI p) (nI i) (nI c) = some I1' ∧ VSt (wrS s p i c) ∧ XR (wrS s p i c) I1 ∧ MR (wrS s p i c) (I1' 1) ∧ Fx I I1 ∧ ∀ k, k ≠ 1 → I1' k = I' k := by
  obtain ⟨⟨v0, v1, v2, v3, v4, v5, v6, v7⟩, vr, vf, vs, va, ve, vt⟩ := id hV
  obtain ⟨⟨m0, m1, m2, m3, m4, m5, m6, m7, m8, m9, m10⟩, mp, mf, ms, ma, me, mb, mt⟩ := id hM
  have h20 := vr.2.2.1
  obtain ⟨I1, e1, a1, a2⟩ := px_writes (I := I) (k0 := 3) (p := p) (i := i) (c := c) (r := s 3) (fun j => hX.1 3 j (by omega) (by omega)) h20
  obtain ⟨I1', e2, b1, b2, b3, b4, b5⟩ := pm_write (A := I') (p := p) (i := i) (c := c) h20 h36 m8 m10
  obtain ⟨w1, w2⟩ := wr0_20 h20
  obtain ⟨n0, n1, n2, n3, n4⟩ := wrR_new (s 3) p i c
  have s3 : wrS s p i c 3 = wrR (s 3) p i c := if_pos rfl
  have sk : ∀ k, k ≠ 3 → wrS s p i c k = s k := fun k hk => if_neg hk
  refine ⟨I1, I1', e1, e2, row_V hV sk (by rw [s3]; exact wrR_V vr v1 hp hi hc), ⟨fun k j hk hj => ?_, ?_⟩, row_M hV hM sk ?_ ?_ ?_ (fun q hq => ?_) (fun q hq => ?_) (fun j hj => b5 j (by omega) (by omega)) (fun q w h1 h2 h3 => b5 _ (by omega) (by omega)), ⟨fun k hk => a2 k (by omega), by rw [a2 0 (by decide)], by rw [a2 0 (by decide)], by rw [a2 0 (by decide)]⟩, b1⟩
  · by_cases q : k = 3
    · rw [q, a1 j, s3]
    · rw [a2 k q, sk k q]
      exact hX.1 k j hk hj
  · rw [a2 2 (by decide), sk 2 (by decide)]
    exact hX.2
  · rw [s3, wrR_lo (by decide), b5 8 (by decide) (by decide)]
    exact m8
  · rw [s3, wrR_lo (by decide), b5 9 (by decide) (by decide)]
    exact m9
  · rw [s3, n0, b2, w1]
  · rw [sk 2 (by decide)] at hq
    rw [s3, wrR_lo (by omega), wrR_lo (by omega), wrR_lo (by omega), b5 _ (by omega) (by omega), b5 _ (by omega) (by omega), b5 _ (by omega) (by omega)]
    exact mp q hq
  · rw [s3, n0] at hq
    rw [s3]
    rw [w1] at hq
    by_cases z : q = wr0 (s 3) 20
    · unfold page
      rw [z, n1, n2, n3, n4, w1, b4]
    · have hq' : q < wr0 (s 3) 20 := by rw [w1] at z ⊢; omega
      have g0 := wrR_pg (p := p) (i := i) (c := c) hq' (d := 0) (by decide)
      have g1 := wrR_pg (p := p) (i := i) (c := c) hq' (d := 1) (by decide)
      have g2 := wrR_pg (p := p) (i := i) (c := c) hq' (d := 2) (by decide)
      have g3 := wrR_pg (p := p) (i := i) (c := c) hq' (d := 3) (by decide)
      have k0 := wr0_pg h20 hq' (d := 0) (by decide)
      have k1 := wr0_pg h20 hq' (d := 1) (by decide)
      have k2 := wr0_pg h20 hq' (d := 2) (by decide)
      have k3 := wr0_pg h20 hq' (d := 3) (by decide)
      rw [Nat.add_zero] at g0 k0
      rw [b3 q (by rw [w1] at hq'; exact hq')]
      by_cases y : s 3 20 = 30
      · rw [if_pos y] at k0 k1 k2 k3 ⊢
        have e : page (wrR (s 3) p i c) q = page (s 3) (q + 1) := by
          unfold page
          rw [g0, g1, g2, g3, k0, k1, k2, k3]
          rfl
        rw [e]
        rw [if_pos y] at w1
        exact mb (q + 1) (by omega)
      · rw [if_neg y] at k0 k1 k2 k3 ⊢
        have e : page (wrR (s 3) p i c) q = page (s 3) q := by
          unfold page
          rw [g0, g1, g2, g3, k0, k1, k2, k3]
        rw [e]
        rw [if_neg y] at w1
        exact mb q (by omega)
/-- the least is one -/
theorem cvM_one {n : Nat} {av : Nat → Bool} {out : Nat → Nat → Bool} {w : Nat → Nat} {j : Nat} {U : Nat → Bool} {c b b1 b2 : Nat} (h1 : cvM n av out w j U c b b1) (h2 : cvM n av out w j U c b b2) : b1 = b2 := by
  have one : ∀ {x y : Nat}, cvM n av out w j U c b x → cvM n av out w j U c b y → x ≤ y := fun {x y} hx hy => by
    rcases Nat.lt_or_ge y b with z | z
    · obtain ⟨S, q1, q2, q3, q4⟩ := hy.2.1 z
      rw [q4]
      exact hx.2.2 S q1 q2 q3
    · exact Nat.le_trans hx.1 z
  exact Nat.le_antisymm (one h1 h2) (one h2 h1)
theorem least_one {c : Nat → Nat} {L M L1 M1 : Nat} (h : isLeast c L M) (g : isLeast c L1 M1) : L1 = L ∧ M1 = M := by
  have e := cvM_one h.2.2 g.2.2
  obtain ⟨h1, h2, -⟩ := h
  obtain ⟨g1, g2, -⟩ := g
  unfold KB at e
  omega
theorem cst_congr {s1 : SN} (e0 : s1 2 0 = s 2 0) (e4 : s1 4 = s 4) (e5 : s1 5 = s 5) (forms : Nat) : cst s1 forms = cst s forms := by
  funext kind
  have : ∀ n, cstF s1 forms kind n = cstF s forms kind n := by
    intro n
    induction n with
    | zero => rfl
    | succ n ih => rw [cstF_succ, cstF_succ, ih, e4, e5]
  unfold cst
  rw [e0]
  exact this _
theorem en_congr {s1 : SN} {forms : Nat} (e : cst s1 forms = cst s forms) : en s1 forms = en s forms := by
  have : (fun i => blM s1 forms i 20) = fun i => blM s forms i 20 := by
    funext i
    have h : ∀ n, blM s1 forms i n = blM s forms i n := by
      intro n
      induction n with
      | zero => rfl
      | succ n ih =>
        show (blM s1 forms i n && (decide (cst s1 forms (sayK n) = 0) || !outM n i)) = (blM s forms i n && (decide (cst s forms (sayK n) = 0) || !outM n i))
        rw [ih, e]
    exact h 20
  unfold en
  rw [this]
/-- how long one would tell; whether breath is enough -/
theorem pe_long (h : CC s si I T X tN I' J') (J : PJ) (a i : Int32) : ∃ (I1 : PI) (J1 : PJ) (I1' : PI) (J1' : PJ), CC s si I1 T X tN I1' J1' ∧ ((x_longBy I J a i = some (-nI 1, I1, J1) ∧ m_canTell I' J' a i = some (nI 0, I1', J1')) ∨ ∃ p q L M, p < s 2 1 ∧ q < s 2 2 ∧ a = nI p ∧ i = nI q ∧ L ≤ s 3 (14 + p) ∧ en s (s 3 (8 + p)) = true ∧ isLeast (cst s (s 3 (8 + p))) L M ∧ x_longBy I J a i = some (nI L, I1, J1) ∧ m_canTell I' J' a i = some (nI 1, I1', J1')) := by
  have hV := h.1.1
  have hX := h.1.2.2.1
  have hM := h.1.2.2.2.2.1
  obtain ⟨⟨v0, v1, v2, v3, v4, v5, v6, v7⟩, vr, vf, vs, va, ve, vt⟩ := id hV
  obtain ⟨⟨m0, m1, m2, m3, m4, m5, m6, m7, m8, m9, m10⟩, mp, mf, ms, ma, me, mb, mt⟩ := id hM
  have hx := hX.1
  obtain ⟨b1, e1, e1', q1⟩ := pe_isPerson hV hX hM a
  obtain ⟨b2, e2, e2', q2⟩ := pe_isStory hV hX hM i
  unfold x_longBy m_canTell
  cases b1 with
  | false => exact ⟨I, J, I', J', h, Or.inl ⟨by simp (disch := omega) only [pz_0, pz_1, pz_3, pz_4, pz_9, pz_60, pz_99, pz_119, pz_lt, pz_bs, pz_isb, pz_isb0, pz_isb1, pz_bI0, pz_bIf, if_true, Bool.true_eq_false, if_false, pz_ck, e1], by simp (disch := omega) only [pz_0, pz_1, pz_3, pz_4, pz_9, pz_60, pz_99, pz_119, pz_lt, pz_bs, pz_isb, pz_isb0, pz_isb1, pz_bI0, pz_bIf, if_true, Bool.true_eq_false, if_false, pz_ck, e1']⟩⟩
  | true =>
  cases b2 with
  | false => exact ⟨I, J, I', J', h, Or.inl ⟨by simp (disch := omega) only [pz_0, pz_1, pz_3, pz_4, pz_9, pz_60, pz_99, pz_119, pz_lt, pz_bs, pz_isb, pz_isb0, pz_isb1, pz_bI0, pz_bIf, if_true, Bool.true_eq_false, if_false, pz_ck, e1, e2], by simp (disch := omega) only [pz_0, pz_1, pz_3, pz_4, pz_9, pz_60, pz_99, pz_119, pz_lt, pz_bs, pz_isb, pz_isb0, pz_isb1, pz_bI0, pz_bIf, if_true, Bool.true_eq_false, if_false, pz_ck, e1', e2']⟩⟩
  | true =>
  obtain ⟨p, hp, rfl⟩ := q1 rfl
  obtain ⟨q, hq, rfl⟩ := q2 rfl
  have fp := lt256 hV (vr.2.2.2.1 p hp).2.1
  have br := (vr.2.2.2.1 p hp).2.2
  have g1 := px_formsOf hX (p := p) (by omega)
  have g1' := pm_get I' (p := p) (w := 1) (by omega) (by omega)
  rw [(mp p hp).2.1] at g1'
  obtain ⟨I1, J1, I1', J1', v3, I4, J4, a1, a2, a3, a4, a5, a6⟩ := pe_least h J fp hq
  have hX4 := a2.1.2.2.1
  have g4 := px_formsOf hX4 (p := p) (by omega)
  cases c : en s (s 3 (8 + p)) with
  | false =>
    rw [c] at a1
    have a5 := a5 c
    subst a5
    refine ⟨I4, J4, I1', J1', a2, Or.inl ⟨?_, ?_⟩⟩
    · simp (disch := omega) only [pz_0, pz_1, pz_2, pz_3, pz_4, pz_5, pz_6, pz_7, pz_8, pz_9, pz_10, pz_11, pz_12, pz_13, pz_14, pz_15, pz_16, pz_20, pz_21, pz_22, pz_24, pz_25, pz_30, pz_31, pz_32, pz_35, pz_40, pz_41, pz_42, pz_43, pz_45, pz_47, pz_48, pz_52, pz_57, pz_58, pz_59, pz_60, pz_61, pz_62, pz_63, pz_65, pz_85, pz_90, pz_97, pz_98, pz_99, pz_100, pz_101, pz_102, pz_103, pz_104, pz_105, pz_107, pz_108, pz_109, pz_110, pz_111, pz_112, pz_114, pz_115, pz_116, pz_119, pz_120, pz_121, pz_122, pz_125, pz_127, pz_153, pz_200, pz_201, pz_202, pz_203, pz_204, pz_205, pz_206, pz_207, pz_208, pz_209, pz_210, pz_211, pz_212, pz_213, pz_214, pz_215, pz_216, pz_217, pz_218, pz_219, pz_220, pz_221, pz_222, pz_223, pz_224, pz_225, pz_255, pz_256, pz_271, pz_300, pz_301, pz_302, pz_303, pz_304, pz_400, pz_401, pz_521, pz_705, pz_1000, pz_1508, pz_1661, pz_1691, pz_2400, pz_3125, pz_9999, pz_10000, pz_30703, pz_65536, pz_99999, pz_1000000, pz_lt, pz_ck, pz_u2, pz_u3, pz_u4, pz_bs, pz_ix, pz_inb, pz_add, pz_mul, pz_sub, nI_leI, nI_ltI, nI_eq, pz_bIt, pz_bIf, pz_isb, pz_isb0, pz_isb1, pz_bI0, pz_bI1, Nat.zero_le, true_and, and_true, decide_true, decide_false, Bool.true_eq_false, Bool.false_eq_true, if_true, if_false, Nat.reduceAdd, Nat.reduceMul, Nat.reduceSub, Nat.reduceEqDiff, Nat.reduceLeDiff, Nat.reduceLT, Nat.one_ne_zero, Nat.zero_ne_one, e1, e2, g1, a1]
    · simp (disch := omega) only [pz_0, pz_1, pz_2, pz_3, pz_4, pz_5, pz_6, pz_7, pz_8, pz_9, pz_10, pz_11, pz_12, pz_13, pz_14, pz_15, pz_16, pz_20, pz_21, pz_22, pz_24, pz_25, pz_30, pz_31, pz_32, pz_35, pz_40, pz_41, pz_42, pz_43, pz_45, pz_47, pz_48, pz_52, pz_57, pz_58, pz_59, pz_60, pz_61, pz_62, pz_63, pz_65, pz_85, pz_90, pz_97, pz_98, pz_99, pz_100, pz_101, pz_102, pz_103, pz_104, pz_105, pz_107, pz_108, pz_109, pz_110, pz_111, pz_112, pz_114, pz_115, pz_116, pz_119, pz_120, pz_121, pz_122, pz_125, pz_127, pz_153, pz_200, pz_201, pz_202, pz_203, pz_204, pz_205, pz_206, pz_207, pz_208, pz_209, pz_210, pz_211, pz_212, pz_213, pz_214, pz_215, pz_216, pz_217, pz_218, pz_219, pz_220, pz_221, pz_222, pz_223, pz_224, pz_225, pz_255, pz_256, pz_271, pz_300, pz_301, pz_302, pz_303, pz_304, pz_400, pz_401, pz_521, pz_705, pz_1000, pz_1508, pz_1661, pz_1691, pz_2400, pz_3125, pz_9999, pz_10000, pz_30703, pz_65536, pz_99999, pz_1000000, pz_lt, pz_ck, pz_u2, pz_u3, pz_u4, pz_bs, pz_ix, pz_inb, pz_add, pz_mul, pz_sub, nI_leI, nI_ltI, nI_eq, pz_bIt, pz_bIf, pz_isb, pz_isb0, pz_isb1, pz_bI0, pz_bI1, Nat.zero_le, true_and, and_true, decide_true, decide_false, Bool.true_eq_false, Bool.false_eq_true, if_true, if_false, Nat.reduceAdd, Nat.reduceMul, Nat.reduceSub, Nat.reduceEqDiff, Nat.reduceLeDiff, Nat.reduceLT, Nat.one_ne_zero, Nat.zero_ne_one, e1', e2', g1', a3]
  | true =>
    rw [c] at a1
    obtain ⟨L, M, l1, l2, l3, rfl, l5, l6, l7⟩ := a6 c
    obtain ⟨d1, d2⟩ := pz_div100 l2 l1
    have n1 := pz_ne1 (n := L) (by omega)
    have hM1 := a4.1.2.2.2.2.1
    have g5' := pm_get I1' (p := p) (w := 1) (by omega) (by omega)
    rw [(hM1.2.1 p hp).2.1] at g5'
    obtain ⟨I6', J6', b1, b2⟩ : ∃ I6' J6', m_lengthBy I1' J1' (nI (s 3 (8 + p))) = some (nI L, I6', J6') ∧ CC s si I1 T X tN I6' J6' := by
      rcases pm_lengthBy a4 fp with ⟨z, -⟩ | ⟨-, I6', J6', L1, M1, q1, q2, q3, q4, q5, q6, q7⟩
      · rw [c] at z; cases z
      · obtain ⟨rfl, rfl⟩ := least_one l3 q4
        exact ⟨I6', J6', q1, a4.ms q6 q7 q5⟩
    have g7' := pm_get I6' (p := p) (w := 2) (by omega) (by omega)
    rw [(b2.1.2.2.2.2.1.2.1 p hp).2.2] at g7'
    have hx1 := a4.1.2.2.1.1
    have hx4 := hX4.1
    by_cases y : L ≤ s 3 (14 + p)
    · have y2 : ¬ s 3 (14 + p) < L := by omega
      refine ⟨I1, J1, I6', J6', b2, Or.inr ⟨p, q, L, M, hp, hq, rfl, rfl, y, c, l3, ?_, ?_⟩⟩
      · simp (disch := omega) only [pz_0, pz_1, pz_2, pz_3, pz_4, pz_5, pz_6, pz_7, pz_8, pz_9, pz_10, pz_11, pz_12, pz_13, pz_14, pz_15, pz_16, pz_20, pz_21, pz_22, pz_24, pz_25, pz_30, pz_31, pz_32, pz_35, pz_40, pz_41, pz_42, pz_43, pz_45, pz_47, pz_48, pz_52, pz_57, pz_58, pz_59, pz_60, pz_61, pz_62, pz_63, pz_65, pz_85, pz_90, pz_97, pz_98, pz_99, pz_100, pz_101, pz_102, pz_103, pz_104, pz_105, pz_107, pz_108, pz_109, pz_110, pz_111, pz_112, pz_114, pz_115, pz_116, pz_119, pz_120, pz_121, pz_122, pz_125, pz_127, pz_153, pz_200, pz_201, pz_202, pz_203, pz_204, pz_205, pz_206, pz_207, pz_208, pz_209, pz_210, pz_211, pz_212, pz_213, pz_214, pz_215, pz_216, pz_217, pz_218, pz_219, pz_220, pz_221, pz_222, pz_223, pz_224, pz_225, pz_255, pz_256, pz_271, pz_300, pz_301, pz_302, pz_303, pz_304, pz_400, pz_401, pz_521, pz_705, pz_1000, pz_1508, pz_1661, pz_1691, pz_2400, pz_3125, pz_9999, pz_10000, pz_30703, pz_65536, pz_99999, pz_1000000, pz_lt, pz_ck, pz_u2, pz_u3, pz_u4, pz_bs, pz_ix, pz_inb, pz_add, pz_mul, pz_sub, nI_leI, nI_ltI, nI_eq, pz_bIt, pz_bIf, pz_isb, pz_isb0, pz_isb1, pz_bI0, pz_bI1, Nat.zero_le, true_and, and_true, decide_true, decide_false, Bool.true_eq_false, Bool.false_eq_true, if_true, if_false, Nat.reduceAdd, Nat.reduceMul, Nat.reduceSub, Nat.reduceEqDiff, Nat.reduceLeDiff, Nat.reduceLT, Nat.one_ne_zero, Nat.zero_ne_one, pz_14, e1, e2, g1, a1, g4, hx4, hx1, l7, d1, y]
      · simp (disch := omega) only [pz_0, pz_1, pz_2, pz_3, pz_4, pz_5, pz_6, pz_7, pz_8, pz_9, pz_10, pz_11, pz_12, pz_13, pz_14, pz_15, pz_16, pz_20, pz_21, pz_22, pz_24, pz_25, pz_30, pz_31, pz_32, pz_35, pz_40, pz_41, pz_42, pz_43, pz_45, pz_47, pz_48, pz_52, pz_57, pz_58, pz_59, pz_60, pz_61, pz_62, pz_63, pz_65, pz_85, pz_90, pz_97, pz_98, pz_99, pz_100, pz_101, pz_102, pz_103, pz_104, pz_105, pz_107, pz_108, pz_109, pz_110, pz_111, pz_112, pz_114, pz_115, pz_116, pz_119, pz_120, pz_121, pz_122, pz_125, pz_127, pz_153, pz_200, pz_201, pz_202, pz_203, pz_204, pz_205, pz_206, pz_207, pz_208, pz_209, pz_210, pz_211, pz_212, pz_213, pz_214, pz_215, pz_216, pz_217, pz_218, pz_219, pz_220, pz_221, pz_222, pz_223, pz_224, pz_225, pz_255, pz_256, pz_271, pz_300, pz_301, pz_302, pz_303, pz_304, pz_400, pz_401, pz_521, pz_705, pz_1000, pz_1508, pz_1661, pz_1691, pz_2400, pz_3125, pz_9999, pz_10000, pz_30703, pz_65536, pz_99999, pz_1000000, pz_lt, pz_ck, pz_u2, pz_u3, pz_u4, pz_bs, pz_ix, pz_inb, pz_add, pz_mul, pz_sub, nI_leI, nI_ltI, nI_eq, pz_bIt, pz_bIf, pz_isb, pz_isb0, pz_isb1, pz_bI0, pz_bI1, Nat.zero_le, true_and, and_true, decide_true, decide_false, Bool.true_eq_false, Bool.false_eq_true, if_true, if_false, Nat.reduceAdd, Nat.reduceMul, Nat.reduceSub, Nat.reduceEqDiff, Nat.reduceLeDiff, Nat.reduceLT, Nat.one_ne_zero, Nat.zero_ne_one, e1', e2', g1', a3, n1, g5', b1, g7', y2]
    · have y2 : s 3 (14 + p) < L := by omega
      refine ⟨I1, J1, I6', J6', b2, Or.inl ⟨?_, ?_⟩⟩
      · simp (disch := omega) only [pz_0, pz_1, pz_2, pz_3, pz_4, pz_5, pz_6, pz_7, pz_8, pz_9, pz_10, pz_11, pz_12, pz_13, pz_14, pz_15, pz_16, pz_20, pz_21, pz_22, pz_24, pz_25, pz_30, pz_31, pz_32, pz_35, pz_40, pz_41, pz_42, pz_43, pz_45, pz_47, pz_48, pz_52, pz_57, pz_58, pz_59, pz_60, pz_61, pz_62, pz_63, pz_65, pz_85, pz_90, pz_97, pz_98, pz_99, pz_100, pz_101, pz_102, pz_103, pz_104, pz_105, pz_107, pz_108, pz_109, pz_110, pz_111, pz_112, pz_114, pz_115, pz_116, pz_119, pz_120, pz_121, pz_122, pz_125, pz_127, pz_153, pz_200, pz_201, pz_202, pz_203, pz_204, pz_205, pz_206, pz_207, pz_208, pz_209, pz_210, pz_211, pz_212, pz_213, pz_214, pz_215, pz_216, pz_217, pz_218, pz_219, pz_220, pz_221, pz_222, pz_223, pz_224, pz_225, pz_255, pz_256, pz_271, pz_300, pz_301, pz_302, pz_303, pz_304, pz_400, pz_401, pz_521, pz_705, pz_1000, pz_1508, pz_1661, pz_1691, pz_2400, pz_3125, pz_9999, pz_10000, pz_30703, pz_65536, pz_99999, pz_1000000, pz_lt, pz_ck, pz_u2, pz_u3, pz_u4, pz_bs, pz_ix, pz_inb, pz_add, pz_mul, pz_sub, nI_leI, nI_ltI, nI_eq, pz_bIt, pz_bIf, pz_isb, pz_isb0, pz_isb1, pz_bI0, pz_bI1, Nat.zero_le, true_and, and_true, decide_true, decide_false, Bool.true_eq_false, Bool.false_eq_true, if_true, if_false, Nat.reduceAdd, Nat.reduceMul, Nat.reduceSub, Nat.reduceEqDiff, Nat.reduceLeDiff, Nat.reduceLT, Nat.one_ne_zero, Nat.zero_ne_one, pz_14, e1, e2, g1, a1, g4, hx4, hx1, l7, d1, y]
      · simp (disch := omega) only [pz_0, pz_1, pz_2, pz_3, pz_4, pz_5, pz_6, pz_7, pz_8, pz_9, pz_10, pz_11, pz_12, pz_13, pz_14, pz_15, pz_16, pz_20, pz_21, pz_22, pz_24, pz_25, pz_30, pz_31, pz_32, pz_35, pz_40, pz_41, pz_42, pz_43, pz_45, pz_47, pz_48, pz_52, pz_57, pz_58, pz_59, pz_60, pz_61, pz_62, pz_63, pz_65, pz_85, pz_90, pz_97, pz_98, pz_99, pz_100, pz_101, pz_102, pz_103, pz_104, pz_105, pz_107, pz_108, pz_109, pz_110, pz_111, pz_112, pz_114, pz_115, pz_116, pz_119, pz_120, pz_121, pz_122, pz_125, pz_127, pz_153, pz_200, pz_201, pz_202, pz_203, pz_204, pz_205, pz_206, pz_207, pz_208, pz_209, pz_210, pz_211, pz_212, pz_213, pz_214, pz_215, pz_216, pz_217, pz_218, pz_219, pz_220, pz_221, pz_222, pz_223, pz_224, pz_225, pz_255, pz_256, pz_271, pz_300, pz_301, pz_302, pz_303, pz_304, pz_400, pz_401, pz_521, pz_705, pz_1000, pz_1508, pz_1661, pz_1691, pz_2400, pz_3125, pz_9999, pz_10000, pz_30703, pz_65536, pz_99999, pz_1000000, pz_lt, pz_ck, pz_u2, pz_u3, pz_u4, pz_bs, pz_ix, pz_inb, pz_add, pz_mul, pz_sub, nI_leI, nI_ltI, nI_eq, pz_bIt, pz_bIf, pz_isb, pz_isb0, pz_isb1, pz_bI0, pz_bI1, Nat.zero_le, true_and, and_true, decide_true, decide_false, Bool.true_eq_false, Bool.false_eq_true, if_true, if_false, Nat.reduceAdd, Nat.reduceMul, Nat.reduceSub, Nat.reduceEqDiff, Nat.reduceLeDiff, Nat.reduceLT, Nat.one_ne_zero, Nat.zero_ne_one, e1', e2', g1', a3, n1, g5', b1, g7', y2]
/-- one tells, on both sides: breath, and the page -/
def tellS (s : SN) (p q L : Nat) : SN := wrS (u2 s 3 (14 + p) (s 3 (14 + p) - L)) p q L
theorem pe_tells (h : CC s si I T X tN I' J') {p q L M : Nat} (hp : p < s 2 1) (hq : q < s 2 2) (hL : L ≤ s 3 (14 + p)) (he : en s (s 3 (8 + p)) = true) (hm : isLeast (cst s (s 3 (8 + p))) L M) : ∃ (I1 : PI) (I1' : PI) (J1' : PJ), x_tells I (nI p) (nI q) (nI L) = some (nI L, I1) ∧ m_tellNow I' J' (nI p) (nI q) = some (nI L, I1', J1') ∧ CC (tellS s p q L) si I1 T X tN I1' J1' := by
  have hV := h.1.1
  have hX := h.1.2.2.1
  have hM := h.1.2.2.2.2.1
  obtain ⟨⟨v0, v1, v2, v3, v4, v5, v6, v7⟩, vr, vf, vs, va, ve, vt⟩ := id hV
  obtain ⟨⟨m0, m1, m2, m3, m4, m5, m6, m7, m8, m9, m10⟩, mp, mf, ms, ma, me, mb, mt⟩ := id hM
  have hx := hX.1
  have fp := lt256 hV (vr.2.2.2.1 p hp).2.1
  have br := (vr.2.2.2.1 p hp).2.2
  have g1' := pm_get I' (p := p) (w := 1) (by omega) (by omega)
  rw [(mp p hp).2.1] at g1'
  obtain ⟨I6', J6', b1, b2⟩ : ∃ I6' J6', m_lengthBy I' J' (nI (s 3 (8 + p))) = some (nI L, I6', J6') ∧ CC s si I T X tN I6' J6' := by
    rcases pm_lengthBy h fp with ⟨z, -⟩ | ⟨-, I6', J6', L1, M1, q1, q2, q3, q4, q5, q6, q7⟩
    · rw [he] at z; cases z
    · obtain ⟨rfl, rfl⟩ := least_one hm q4
      exact ⟨I6', J6', q1, h.ms q6 q7 q5⟩
  have hM6 := b2.1.2.2.2.2.1
  have g7' := pm_get I6' (p := p) (w := 2) (by omega) (by omega)
  rw [(hM6.2.1 p hp).2.2] at g7'
  have p7 := pm_put I6' (p := p) (w := 2) (nI (s 3 (14 + p) - L)) (by omega) (by omega)
  have e14 : 2 + 6 * 2 + p = 14 + p := by omega
  have kV := set_V hV hp (w := 2) (v := s 3 (14 + p) - L) (by omega) (fun z => nomatch z) (fun z => nomatch z) (fun _ => by omega)
  have kM := set_M (A1 := u2 I6' 1 (11 + 5 * p + 2) (nI (s 3 (14 + p) - L)) 1) hV hM6 hp (w := 2) (v := s 3 (14 + p) - L) (by omega) (fun i hi => u2_ne _ _ (Or.inr hi)) (u2_eq _ _ _ _)
  have kX := xrU hX (a := 3) (i := 14 + p) (s 3 (14 + p) - L) (by omega)
  rw [e14] at kV kM
  have h36 := b2.2.2.2.2.2.2.1
  obtain ⟨I1, I1', f1, f2, f3, f4, f5, f6, f7⟩ := pe_write (I' := u2 I6' 1 (11 + 5 * p + 2) (nI (s 3 (14 + p) - L))) kV kX kM (by simp (disch := omega) only [pz_row, pz_at, pz_no]; exact h36) (p := p) (i := q) (c := L) (by omega) (by omega) (by omega)
  refine ⟨I1, I1', J6', ?_, ?_, ?_⟩
  · unfold x_tells
    simp (disch := omega) only [pz_0, pz_1, pz_2, pz_3, pz_4, pz_5, pz_6, pz_7, pz_8, pz_9, pz_10, pz_11, pz_12, pz_13, pz_14, pz_15, pz_16, pz_20, pz_21, pz_22, pz_24, pz_25, pz_30, pz_31, pz_32, pz_35, pz_40, pz_41, pz_42, pz_43, pz_45, pz_47, pz_48, pz_52, pz_57, pz_58, pz_59, pz_60, pz_61, pz_62, pz_63, pz_65, pz_85, pz_90, pz_97, pz_98, pz_99, pz_100, pz_101, pz_102, pz_103, pz_104, pz_105, pz_107, pz_108, pz_109, pz_110, pz_111, pz_112, pz_114, pz_115, pz_116, pz_119, pz_120, pz_121, pz_122, pz_125, pz_127, pz_153, pz_200, pz_201, pz_202, pz_203, pz_204, pz_205, pz_206, pz_207, pz_208, pz_209, pz_210, pz_211, pz_212, pz_213, pz_214, pz_215, pz_216, pz_217, pz_218, pz_219, pz_220, pz_221, pz_222, pz_223, pz_224, pz_225, pz_255, pz_256, pz_271, pz_300, pz_301, pz_302, pz_303, pz_304, pz_400, pz_401, pz_521, pz_705, pz_1000, pz_1508, pz_1661, pz_1691, pz_2400, pz_3125, pz_9999, pz_10000, pz_30703, pz_65536, pz_99999, pz_1000000, pz_lt, pz_ck, pz_u2, pz_u3, pz_u4, pz_bs, pz_ix, pz_inb, pz_add, pz_mul, pz_sub, nI_leI, nI_ltI, nI_eq, pz_bIt, pz_bIf, pz_isb, pz_isb0, pz_isb1, pz_bI0, pz_bI1, Nat.zero_le, true_and, and_true, decide_true, decide_false, Bool.true_eq_false, Bool.false_eq_true, if_true, if_false, Nat.reduceAdd, Nat.reduceMul, Nat.reduceSub, Nat.reduceEqDiff, Nat.reduceLeDiff, Nat.reduceLT, Nat.one_ne_zero, Nat.zero_ne_one, pz_14, hx, f1]
  · unfold m_tellNow
    simp (disch := omega) only [pz_0, pz_1, pz_2, pz_3, pz_4, pz_5, pz_6, pz_7, pz_8, pz_9, pz_10, pz_11, pz_12, pz_13, pz_14, pz_15, pz_16, pz_20, pz_21, pz_22, pz_24, pz_25, pz_30, pz_31, pz_32, pz_35, pz_40, pz_41, pz_42, pz_43, pz_45, pz_47, pz_48, pz_52, pz_57, pz_58, pz_59, pz_60, pz_61, pz_62, pz_63, pz_65, pz_85, pz_90, pz_97, pz_98, pz_99, pz_100, pz_101, pz_102, pz_103, pz_104, pz_105, pz_107, pz_108, pz_109, pz_110, pz_111, pz_112, pz_114, pz_115, pz_116, pz_119, pz_120, pz_121, pz_122, pz_125, pz_127, pz_153, pz_200, pz_201, pz_202, pz_203, pz_204, pz_205, pz_206, pz_207, pz_208, pz_209, pz_210, pz_211, pz_212, pz_213, pz_214, pz_215, pz_216, pz_217, pz_218, pz_219, pz_220, pz_221, pz_222, pz_223, pz_224, pz_225, pz_255, pz_256, pz_271, pz_300, pz_301, pz_302, pz_303, pz_304, pz_400, pz_401, pz_521, pz_705, pz_1000, pz_1508, pz_1661, pz_1691, pz_2400, pz_3125, pz_9999, pz_10000, pz_30703, pz_65536, pz_99999, pz_1000000, pz_lt, pz_ck, pz_u2, pz_u3, pz_u4, pz_bs, pz_ix, pz_inb, pz_add, pz_mul, pz_sub, nI_leI, nI_ltI, nI_eq, pz_bIt, pz_bIf, pz_isb, pz_isb0, pz_isb1, pz_bI0, pz_bI1, Nat.zero_le, true_and, and_true, decide_true, decide_false, Bool.true_eq_false, Bool.false_eq_true, if_true, if_false, Nat.reduceAdd, Nat.reduceMul, Nat.reduceSub, Nat.reduceEqDiff, Nat.reduceLeDiff, Nat.reduceLT, Nat.one_ne_zero, Nat.zero_ne_one, g1', b1, g7', p7, f2]
  · have fm : Fm I6' I1' J6' J6' := by
      have a0 : I1' 0 = I6' 0 := (f7 0 (by decide)).trans (by simp (disch := omega) only [pz_row, pz_at, pz_no])
      exact ⟨fun k h1 h2 => (f7 k (by omega)).trans (by simp (disch := omega) only [pz_row, pz_at, pz_no]), by rw [a0], by rw [a0], by rw [a0], by rw [a0], rfl, rfl⟩
    refine b2.step ((fxU (by omega)).tr f6) fm f3 f4 f5 ?_ (b2.lea.of ?_ ?_ ?_)
    · have e2 : tellS s p q L 2 = s 2 := by
        unfold tellS wrS
        rw [if_neg (by decide)]
        simp (disch := omega) only [pz_row, pz_at, pz_no]
      rw [e2]
    · rw [f7 0 (by decide)]; simp (disch := omega) only [pz_row, pz_at, pz_no]
    · rw [f7 0 (by decide)]; simp (disch := omega) only [pz_row, pz_at, pz_no]
    · rw [f7 0 (by decide)]; simp (disch := omega) only [pz_row, pz_at, pz_no]
theorem pu_tell (h : CC s si I T X tN I' J') (J : PJ) (a i : Int32) : ∃ (r : Int32) (s1 : SN) (I1 : PI) (J1 : PJ) (I1' : PI) (J1' : PJ), x_tell I J a i = some (r, I1, J1) ∧ m_tell I' J' a i = some (r, I1', J1') ∧ CC s1 si I1 T X tN I1' J1' ∧ s1 2 3 = s 2 3 ∧ Rg r := by
  obtain ⟨I1, J1, I1', J1', hC, h1⟩ := pe_long h J a i
  unfold x_tell m_tell
  rcases h1 with ⟨e1, e2⟩ | ⟨p, q, L, M, hp, hq, rfl, rfl, hL, he, hm, e1, e2⟩
  · refine ⟨-nI 1, s, I1, J1, I1', J1', ?_, ?_, hC, rfl, Or.inl rfl⟩
    · simp (disch := omega) only [pz_0, pz_1, pz_3, pz_4, pz_9, pz_60, pz_99, pz_119, pz_lt, pz_bs, pz_isb, pz_isb0, pz_isb1, pz_bI0, pz_bIf, if_true, Bool.true_eq_false, if_false, pz_ck, pz_u3, e1]
    · simp (disch := omega) only [pz_0, pz_1, pz_3, pz_4, pz_9, pz_60, pz_99, pz_119, pz_lt, pz_bs, pz_isb, pz_isb0, pz_isb1, pz_bI0, pz_bIf, if_true, Bool.true_eq_false, if_false, pz_ck, pz_u3, e2]
  · have hV := hC.1.1
    obtain ⟨A, B, ea, eb, kV, kX, kM, kF, kB⟩ := pe_keeps hV hC.1.2.2.1 hC.1.2.2.2.2.1
    have v5 := hV.1.2.2.2.2.2.1
    obtain ⟨k1, k2⟩ := keepS_ok s v5
    have hK : CC (keepS s) si A T X tN B J1' := hC.step kF ⟨fun k h1 h2 => kB k (by omega), by rw [kB 0 (by decide)], by rw [kB 0 (by decide)], by rw [kB 0 (by decide)], by rw [kB 0 (by decide)], rfl, rfl⟩ kV kX kM (k2 3 (by decide)) (hC.lea.of (by rw [kB 0 (by decide)]) (by rw [kB 0 (by decide)]) (by rw [kB 0 (by decide)]))
    have e3 : keepS s 3 = s 3 := k1 3 (by decide) (by omega)
    have ec := cst_congr (s := s) (s1 := keepS s) (k2 0 (by decide)) (k1 4 (by decide) (by omega)) (k1 5 (by decide) (by omega)) (s 3 (8 + p))
    obtain ⟨I2, I2', J2', f1, f2, f3⟩ := pe_tells hK (p := p) (q := q) (L := L) (M := M) (by rw [k2 1 (by decide)]; exact hp) (by rw [k2 2 (by decide)]; exact hq) (by rw [e3]; exact hL) (by rw [e3, en_congr ec]; exact he) (by rw [e3, ec]; exact hm)
    have br := (hV.2.1.2.2.2.1 p hp).2.2
    have n1 := pz_ne1 (n := L) (by omega)
    refine ⟨nI L, tellS (keepS s) p q L, I2, J1, I2', J2', ?_, ?_, f3, k2 3 (by decide), Or.inr ⟨L, by omega, rfl⟩⟩
    · simp (disch := omega) only [pz_0, pz_1, pz_3, pz_4, pz_9, pz_60, pz_99, pz_119, pz_lt, pz_bs, pz_isb, pz_isb0, pz_isb1, pz_bI0, pz_bIf, if_true, Bool.true_eq_false, if_false, pz_ck, pz_u3, pz_u2, e1, n1, ea, f1]
    · simp (disch := omega) only [pz_0, pz_1, pz_2, pz_3, pz_4, pz_5, pz_6, pz_7, pz_8, pz_9, pz_10, pz_11, pz_12, pz_13, pz_14, pz_15, pz_16, pz_20, pz_21, pz_22, pz_24, pz_25, pz_30, pz_31, pz_32, pz_35, pz_40, pz_41, pz_42, pz_43, pz_45, pz_47, pz_48, pz_52, pz_57, pz_58, pz_59, pz_60, pz_61, pz_62, pz_63, pz_65, pz_85, pz_90, pz_97, pz_98, pz_99, pz_100, pz_101, pz_102, pz_103, pz_104, pz_105, pz_107, pz_108, pz_109, pz_110, pz_111, pz_112, pz_114, pz_115, pz_116, pz_119, pz_120, pz_121, pz_122, pz_125, pz_127, pz_153, pz_200, pz_201, pz_202, pz_203, pz_204, pz_205, pz_206, pz_207, pz_208, pz_209, pz_210, pz_211, pz_212, pz_213, pz_214, pz_215, pz_216, pz_217, pz_218, pz_219, pz_220, pz_221, pz_222, pz_223, pz_224, pz_225, pz_255, pz_256, pz_271, pz_300, pz_301, pz_302, pz_303, pz_304, pz_400, pz_401, pz_521, pz_705, pz_1000, pz_1508, pz_1661, pz_1691, pz_2400, pz_3125, pz_9999, pz_10000, pz_30703, pz_65536, pz_99999, pz_1000000, pz_lt, pz_ck, pz_u2, pz_u3, pz_u4, pz_bs, pz_ix, pz_inb, pz_add, pz_mul, pz_sub, nI_leI, nI_ltI, nI_eq, pz_bIt, pz_bIf, pz_isb, pz_isb0, pz_isb1, pz_bI0, pz_bI1, Nat.zero_le, true_and, and_true, decide_true, decide_false, Bool.true_eq_false, Bool.false_eq_true, if_true, if_false, Nat.reduceAdd, Nat.reduceMul, Nat.reduceSub, Nat.reduceEqDiff, Nat.reduceLeDiff, Nat.reduceLT, Nat.one_ne_zero, Nat.zero_ne_one, e2, eb, f2]
end TL2
