/-! the book is written in; row 3 changes -/
section RW
variable {s s1 : SN} {A A1 : Nat → Int32}
theorem row_V (hV : VSt s) (hs : ∀ k, k ≠ 3 → s1 k = s k) (hr : VRow (s1 3) (s 2 0) (s 2 1)) : VSt s1 := by
  obtain ⟨vn, -, vf, vs, va, ve, vt⟩ := hV
  refine ⟨by rw [hs 2 (by decide)]; exact vn, by rw [hs 2 (by decide)]; exact hr, ?_, ?_, ?_, ?_, ?_⟩
  · rw [hs 2 (by decide), hs 4 (by decide), hs 5 (by decide)]; exact vf
  · rw [hs 2 (by decide), hs 6 (by decide)]; exact vs
  · rw [hs 2 (by decide)]
    intro i hi
    rw [hs (11 + i) (by omega)]
    exact va i hi
  · rw [hs 2 (by decide)]
    intro i hi
    rw [hs (19 + i) (by omega)]
    exact ve i hi
  · rw [hs 2 (by decide)]
    intro i hi
    rw [hs (27 + i) (by omega)]
    exact vt i hi
theorem row_M (hV : VSt s) (hM : MR s A) (hs : ∀ k, k ≠ 3 → s1 k = s k) (h8 : A1 8 = nI (s1 3 0)) (h9 : A1 9 = nI (s1 3 1)) (h10 : A1 10 = nI (s1 3 20)) (hP : MPeo s1 A1) (hB : MBoo s1 A1) (ho : ∀ i, i < 8 ∨ (41 ≤ i ∧ i < 1661) → A1 i = A i) (hT : ∀ p w, p < 6 → 3 ≤ w → w < 5 → A1 (11 + 5 * p + w) = A (11 + 5 * p + w)) : MR s1 A1 := by
  obtain ⟨⟨v0, v1, v2, v3, v4, v5, v6, v7⟩, vr, vf, vs, va, ve, vt⟩ := id hV
  obtain ⟨⟨m0, m1, m2, m3, m4, m5, m6, m7, m8, m9, m10⟩, mp, mf, ms, ma, me, mb, mt⟩ := hM
  have e2 := hs 2 (by decide)
  refine ⟨⟨?_, ?_, ?_, ?_, ?_, ?_, ?_, ?_, h8, h9, h10⟩, hP, ?_, ?_, ?_, ?_, hB, ?_⟩
  · rw [ho 0 (by omega), e2]; exact m0
  · rw [ho 1 (by omega), e2]; exact m1
  · rw [ho 2 (by omega), e2]; exact m2
  · rw [ho 3 (by omega), e2]; exact m3
  · rw [ho 4 (by omega), e2]; exact m4
  · rw [ho 5 (by omega), e2]; exact m5
  · rw [ho 6 (by omega), e2]; exact m6
  · rw [ho 7 (by omega), e2]; exact m7
  · exact MFor.c mf (hs 4 (by decide)) (hs 5 (by decide)) (fun i h1 h2 => ho i (by omega))
  · exact MSto.c ms v2 (by rw [e2]) (hs 6 (by decide)) (fun i h1 h2 => ho i (by omega))
  · exact MSai.c ma v6 (by rw [e2]) (fun i hi => hs _ (by omega)) (fun i h1 h2 => ho i (by omega))
  · exact MSee.c me v7 (by rw [e2]) (fun i hi => hs _ (by omega)) (fun i h1 h2 => ho i (by omega))
  · exact MSte.c mt hV (by rw [e2]) (by rw [e2]) (fun i hi => hs _ (by omega)) (fun i h1 h2 => ho i (by omega)) hT
end RW
/-- the oldest page falls out -/
def wr0 (r : Nat → Nat) : Nat → Nat := if r 20 = 30 then (fun j => if 21 ≤ j ∧ j < 137 then r (j + 4) else if j = 20 then 29 else r j) else r
/-- a page more -/
def wrP (r : Nat → Nat) (p i c : Nat) : Nat → Nat := fun j => if j = 20 then r 20 + 1 else if j = 21 + 4 * r 20 then r 0 else if j = 21 + 4 * r 20 + 1 then p else if j = 21 + 4 * r 20 + 2 then i else if j = 21 + 4 * r 20 + 3 then c else r j
def wrR (r : Nat → Nat) (p i c : Nat) : Nat → Nat := wrP (wr0 r) p i c
theorem wr0_20 {r : Nat → Nat} (h : r 20 ≤ 30) : wr0 r 20 = (if r 20 = 30 then 29 else r 20) ∧ wr0 r 20 ≤ 29 := by
  unfold wr0
  by_cases c : r 20 = 30
  · rw [if_pos c, if_pos c]
    exact ⟨rfl, Nat.le_refl _⟩
  · rw [if_neg c, if_neg c]
    exact ⟨rfl, by omega⟩
theorem wr0_lo {r : Nat → Nat} {j : Nat} (h : j < 20) : wr0 r j = r j := by
  unfold wr0
  by_cases c : r 20 = 30
  · rw [if_pos c]
    show (if 21 ≤ j ∧ j < 137 then r (j + 4) else if j = 20 then 29 else r j) = r j
    rw [if_neg (by omega), if_neg (by omega)]
  · rw [if_neg c]
theorem wr0_pg {r : Nat → Nat} {i d : Nat} (h : r 20 ≤ 30) (hi : i < wr0 r 20) (hd : d < 4) : wr0 r (21 + 4 * i + d) = if r 20 = 30 then r (21 + 4 * (i + 1) + d) else r (21 + 4 * i + d) := by
  have h2 := (wr0_20 h).2
  unfold wr0
  by_cases c : r 20 = 30
  · rw [if_pos c, if_pos c]
    show (if 21 ≤ 21 + 4 * i + d ∧ 21 + 4 * i + d < 137 then r (21 + 4 * i + d + 4) else _) = _
    rw [if_pos (by omega), show 21 + 4 * i + d + 4 = 21 + 4 * (i + 1) + d by omega]
  · rw [if_neg c, if_neg c]
theorem wrR_lo {r : Nat → Nat} {p i c j : Nat} (h : j < 20) : wrR r p i c j = r j := by
  show (if j = 20 then _ else if j = 21 + 4 * wr0 r 20 then _ else if j = 21 + 4 * wr0 r 20 + 1 then p else if j = 21 + 4 * wr0 r 20 + 2 then i else if j = 21 + 4 * wr0 r 20 + 3 then c else wr0 r j) = r j
  rw [if_neg (by omega), if_neg (by omega), if_neg (by omega), if_neg (by omega), if_neg (by omega), wr0_lo h]
theorem wrR_pg {r : Nat → Nat} {p i c q d : Nat} (h : q < wr0 r 20) (hd : d < 4) : wrR r p i c (21 + 4 * q + d) = wr0 r (21 + 4 * q + d) := by
  show (if 21 + 4 * q + d = 20 then _ else if 21 + 4 * q + d = 21 + 4 * wr0 r 20 then _ else if 21 + 4 * q + d = 21 + 4 * wr0 r 20 + 1 then p else if 21 + 4 * q + d = 21 + 4 * wr0 r 20 + 2 then i else if 21 + 4 * q + d = 21 + 4 * wr0 r 20 + 3 then c else wr0 r (21 + 4 * q + d)) = _
  rw [if_neg (by omega), if_neg (by omega), if_neg (by omega), if_neg (by omega), if_neg (by omega)]
theorem wrR_new (r : Nat → Nat) (p i c : Nat) : wrR r p i c 20 = wr0 r 20 + 1 ∧ wrR r p i c (21 + 4 * wr0 r 20) = r 0 ∧ wrR r p i c (21 + 4 * wr0 r 20 + 1) = p ∧ wrR r p i c (21 + 4 * wr0 r 20 + 2) = i ∧ wrR r p i c (21 + 4 * wr0 r 20 + 3) = c := by
  have e : ∀ j, wrR r p i c j = (if j = 20 then wr0 r 20 + 1 else if j = 21 + 4 * wr0 r 20 then wr0 r 0 else if j = 21 + 4 * wr0 r 20 + 1 then p else if j = 21 + 4 * wr0 r 20 + 2 then i else if j = 21 + 4 * wr0 r 20 + 3 then c else wr0 r j) := fun j => rfl
  rw [e, e, e, e, e, wr0_lo (j := 0) (by decide)]
  refine ⟨if_pos rfl, ?_, ?_, ?_, ?_⟩
  · rw [if_neg (by omega), if_pos rfl]
  · rw [if_neg (by omega), if_neg (by omega), if_pos rfl]
  · rw [if_neg (by omega), if_neg (by omega), if_neg (by omega), if_pos rfl]
  · rw [if_neg (by omega), if_neg (by omega), if_neg (by omega), if_neg (by omega), if_pos rfl]
theorem wrR_V {r : Nat → Nat} {nF nP p i c : Nat} (h : VRow r nF nP) (hP : nP ≤ 6) (hp : p < 6) (hi : i < 4) (hc : c ≤ 99) : VRow (wrR r p i c) nF nP := by
  obtain ⟨h0, h1, h2, h3, h4, h5⟩ := h
  obtain ⟨w1, w2⟩ := wr0_20 h2
  obtain ⟨n0, n1, n2, n3, n4⟩ := wrR_new r p i c
  refine ⟨by rw [wrR_lo (by decide)]; exact h0, by rw [wrR_lo (by decide)]; exact h1, by rw [n0]; omega, fun q hq => ?_, fun q hq hq2 => ?_, fun q hq => ?_⟩
  · by_cases c6 : q < 6
    · rw [wrR_lo (by omega), wrR_lo (by omega), wrR_lo (by omega)]
      exact h3 q hq
    · exfalso
      omega
  · rw [wrR_lo (by omega), wrR_lo (by omega), wrR_lo (by omega)]
    exact h4 q hq hq2
  · rw [n0] at hq
    by_cases e : q = wr0 r 20
    · rw [e, n1, n2, n3, n4]
      exact ⟨h0, hp, hi, hc⟩
    · have hq : q < wr0 r 20 := by omega
      have a0 := wrR_pg (p := p) (i := i) (c := c) hq (d := 0) (by decide)
      have a1 := wrR_pg (p := p) (i := i) (c := c) hq (d := 1) (by decide)
      have a2 := wrR_pg (p := p) (i := i) (c := c) hq (d := 2) (by decide)
      have a3 := wrR_pg (p := p) (i := i) (c := c) hq (d := 3) (by decide)
      rw [Nat.add_zero] at a0
      rw [a0, a1, a2, a3]
      have b0 := wr0_pg h2 hq (d := 0) (by decide)
      have b1 := wr0_pg h2 hq (d := 1) (by decide)
      have b2 := wr0_pg h2 hq (d := 2) (by decide)
      have b3 := wr0_pg h2 hq (d := 3) (by decide)
      rw [Nat.add_zero] at b0
      rw [b0, b1, b2, b3]
      by_cases z : r 20 = 30
      · rw [if_pos z, if_pos z, if_pos z, if_pos z]
        rw [if_pos z] at w1
        exact h5 (q + 1) (by omega)
      · rw [if_neg z, if_neg z, if_neg z, if_neg z]
        rw [if_neg z] at w1
        exact h5 q (by omega)
theorem px_wr1 {I : PI} {k0 p i c : Nat} {r : Nat → Nat} (hr : ∀ j, I k0 j = nI (r j)) (h20 : r 20 ≤ 29) : ∃ I1, x_writes_j28 k0 (nI p) (nI i) (nI c) I = some I1 ∧ (∀ j, I1 k0 j = nI (wrP r p i c j)) ∧ ∀ k, k ≠ k0 → I1 k = I k := by
  have e : x_writes_j28 k0 (nI p) (nI i) (nI c) I = some (u2 (ucf I (upd (upd (upd (upd (fun _ => nI 0) 0 (nI (r 0))) 1 (nI p)) 2 (nI i)) 3 (nI c)) k0 0 (21 + 4 * r 20) 4) k0 20 (nI (r 20 + 1))) := by
    have hk : cpk (nI 0) (nI (21 + 4 * r 20)) (nI 4) 4 141 = true := by
      unfold cpk
      simp (disch := omega) only [pz_0, nI_leI, pz_ix, Nat.zero_le, decide_true, Bool.true_and]
      rw [decide_eq_true (p := 0 + 4 ≤ 4) (by omega), decide_eq_true (p := 21 + 4 * r 20 + 4 ≤ 141) (by omega)]
      rfl
    have h2 : (ucf I (upd (upd (upd (upd (fun _ => nI 0) 0 (nI (r 0))) 1 (nI p)) 2 (nI i)) 3 (nI c)) k0 0 (21 + 4 * r 20) 4) k0 20 = nI (r 20) := by
      unfold ucf
      rw [if_pos rfl, pk_cpy_out (by omega)]
      exact hr 20
    unfold x_writes_j28
    simp (disch := omega) only [pz_0, pz_1, pz_2, pz_3, pz_4, pz_5, pz_6, pz_7, pz_8, pz_9, pz_10, pz_11, pz_12, pz_13, pz_14, pz_15, pz_16, pz_20, pz_21, pz_22, pz_24, pz_25, pz_30, pz_31, pz_32, pz_35, pz_40, pz_41, pz_42, pz_43, pz_45, pz_47, pz_48, pz_52, pz_57, pz_58, pz_59, pz_60, pz_61, pz_62, pz_63, pz_65, pz_85, pz_90, pz_97, pz_98, pz_99, pz_100, pz_101, pz_102, pz_103, pz_104, pz_105, pz_107, pz_108, pz_109, pz_110, pz_111, pz_112, pz_114, pz_115, pz_116, pz_119, pz_120, pz_121, pz_122, pz_125, pz_127, pz_153, pz_200, pz_201, pz_202, pz_203, pz_204, pz_205, pz_206, pz_207, pz_208, pz_209, pz_210, pz_211, pz_212, pz_213, pz_214, pz_215, pz_216, pz_217, pz_218, pz_219, pz_220, pz_221, pz_222, pz_223, pz_224, pz_225, pz_255, pz_256, pz_271, pz_300, pz_301, pz_302, pz_303, pz_304, pz_400, pz_401, pz_521, pz_705, pz_1000, pz_1508, pz_1661, pz_1691, pz_2400, pz_3125, pz_9999, pz_10000, pz_30703, pz_65536, pz_99999, pz_1000000, pz_lt, pz_ck, pz_u2, pz_u3, pz_u4, pz_bs, pz_ix, pz_inb, pz_add, pz_mul, pz_sub, nI_leI, nI_ltI, nI_eq, pz_bIt, pz_bIf, pz_isb, pz_isb0, pz_isb1, pz_bI0, pz_bI1, Nat.zero_le, true_and, and_true, decide_true, decide_false, Bool.true_eq_false, Bool.false_eq_true, if_true, if_false, Nat.reduceAdd, Nat.reduceMul, Nat.reduceSub, Nat.reduceEqDiff, Nat.reduceLeDiff, Nat.reduceLT, Nat.one_ne_zero, Nat.zero_ne_one, hr, hk, h2]
  refine ⟨_, e, fun j => ?_, fun k hk => ?_⟩
  · unfold wrP
    by_cases c0 : j = 20
    · rw [c0, u2_eq, if_pos rfl]
    · rw [u2_ne _ _ (Or.inr c0), if_neg c0]
      unfold ucf
      rw [if_pos rfl]
      by_cases cw : 21 + 4 * r 20 ≤ j ∧ j < 21 + 4 * r 20 + 4
      · rw [pk_cpy_in cw.1 cw.2]
        have hc : j = 21 + 4 * r 20 ∨ j = 21 + 4 * r 20 + 1 ∨ j = 21 + 4 * r 20 + 2 ∨ j = 21 + 4 * r 20 + 3 := by omega
        rcases hc with q | q | q | q
        · rw [if_pos q, show 0 + (j - (21 + 4 * r 20)) = 0 by omega]; rfl
        · rw [if_neg (by omega), if_pos q, show 0 + (j - (21 + 4 * r 20)) = 1 by omega]; rfl
        · rw [if_neg (by omega), if_neg (by omega), if_pos q, show 0 + (j - (21 + 4 * r 20)) = 2 by omega]; rfl
        · rw [if_neg (by omega), if_neg (by omega), if_neg (by omega), if_pos q, show 0 + (j - (21 + 4 * r 20)) = 3 by omega]; rfl
      · rw [pk_cpy_out (by omega), if_neg (by omega), if_neg (by omega), if_neg (by omega), if_neg (by omega)]
        exact hr j
  · rw [u2_row _ _ _ _ hk]
    unfold ucf
    rw [if_neg hk]
theorem px_writes {I : PI} {k0 p i c : Nat} {r : Nat → Nat} (hr : ∀ j, I k0 j = nI (r j)) (h20 : r 20 ≤ 30) : ∃ I1, x_writes I k0 (nI p) (nI i) (nI c) = some I1 ∧ (∀ j, I1 k0 j = nI (wrR r p i c j)) ∧ ∀ k, k ≠ k0 → I1 k = I k := by
  have w2 := (wr0_20 h20).2
  unfold x_writes
  by_cases z : r 20 = 30
  · have e20 : uc I k0 k0 25 21 116 k0 20 = nI 30 := by
      unfold uc
      rw [if_pos rfl, pk_cpy_out (by omega), hr, z]
    have hr0 : ∀ j, u2 (uc I k0 k0 25 21 116) k0 20 (nI 29) k0 j = nI (wr0 r j) := fun j => by
      unfold wr0
      rw [if_pos z]
      by_cases c0 : j = 20
      · rw [c0, u2_eq]
        rfl
      · rw [u2_ne _ _ (Or.inr c0)]
        show _ = nI (if 21 ≤ j ∧ j < 137 then r (j + 4) else if j = 20 then 29 else r j)
        unfold uc
        rw [if_pos rfl]
        by_cases cw : 21 ≤ j ∧ j < 137
        · rw [pk_cpy_in cw.1 (by omega), if_pos cw, show 25 + (j - 21) = j + 4 by omega, hr]
        · rw [pk_cpy_out (by omega), if_neg cw, if_neg c0, hr]
    obtain ⟨I1, e, h1, h2⟩ := px_wr1 (p := p) (i := i) (c := c) hr0 w2
    refine ⟨I1, ?_, h1, fun k hk => ?_⟩
    · have hk : cpk (nI 25) (nI 21) (nI 116) 141 141 = true := by decide
      have h30 : (nI (r 20) = nI 30) := by rw [z]
      simp (disch := omega) only [pz_0, pz_1, pz_2, pz_3, pz_4, pz_5, pz_6, pz_7, pz_8, pz_9, pz_10, pz_11, pz_12, pz_13, pz_14, pz_15, pz_16, pz_20, pz_21, pz_22, pz_24, pz_25, pz_30, pz_31, pz_32, pz_35, pz_40, pz_41, pz_42, pz_43, pz_45, pz_47, pz_48, pz_52, pz_57, pz_58, pz_59, pz_60, pz_61, pz_62, pz_63, pz_65, pz_85, pz_90, pz_97, pz_98, pz_99, pz_100, pz_101, pz_102, pz_103, pz_104, pz_105, pz_107, pz_108, pz_109, pz_110, pz_111, pz_112, pz_114, pz_115, pz_116, pz_119, pz_120, pz_121, pz_122, pz_125, pz_127, pz_153, pz_200, pz_201, pz_202, pz_203, pz_204, pz_205, pz_206, pz_207, pz_208, pz_209, pz_210, pz_211, pz_212, pz_213, pz_214, pz_215, pz_216, pz_217, pz_218, pz_219, pz_220, pz_221, pz_222, pz_223, pz_224, pz_225, pz_255, pz_256, pz_271, pz_300, pz_301, pz_302, pz_303, pz_304, pz_400, pz_401, pz_521, pz_705, pz_1000, pz_1508, pz_1661, pz_1691, pz_2400, pz_3125, pz_9999, pz_10000, pz_30703, pz_65536, pz_99999, pz_1000000, pz_lt, pz_ck, pz_u2, pz_u3, pz_u4, pz_bs, pz_ix, pz_inb, pz_add, pz_mul, pz_sub, nI_leI, nI_ltI, nI_eq, pz_bIt, pz_bIf, pz_isb, pz_isb0, pz_isb1, pz_bI0, pz_bI1, Nat.zero_le, true_and, and_true, decide_true, decide_false, Bool.true_eq_false, Bool.false_eq_true, if_true, if_false, Nat.reduceAdd, Nat.reduceMul, Nat.reduceSub, Nat.reduceEqDiff, Nat.reduceLeDiff, Nat.reduceLT, Nat.one_ne_zero, Nat.zero_ne_one, pz_116, hr, hk, e20]
      rw [if_pos z]
      exact e
    · rw [h2 k hk, u2_row _ _ _ _ hk]
      unfold uc
      rw [if_neg hk]
  · have e0 : wr0 r = r := by
      unfold wr0
      rw [if_neg z]
    have : wrR r p i c = wrP r p i c := by
      unfold wrR
      rw [e0]
    rw [this]
    obtain ⟨I1, e, h1, h2⟩ := px_wr1 (p := p) (i := i) (c := c) hr (by omega)
    refine ⟨I1, ?_, h1, h2⟩
    simp (disch := omega) only [pz_0, pz_1, pz_2, pz_3, pz_4, pz_5, pz_6, pz_7, pz_8, pz_9, pz_10, pz_11, pz_12, pz_13, pz_14, pz_15, pz_16, pz_20, pz_21, pz_22, pz_24, pz_25, pz_30, pz_31, pz_32, pz_35, pz_40, pz_41, pz_42, pz_43, pz_45, pz_47, pz_48, pz_52, pz_57, pz_58, pz_59, pz_60, pz_61, pz_62, pz_63, pz_65, pz_85, pz_90, pz_97, pz_98, pz_99, pz_100, pz_101, pz_102, pz_103, pz_104, pz_105, pz_107, pz_108, pz_109, pz_110, pz_111, pz_112, pz_114, pz_115, pz_116, pz_119, pz_120, pz_121, pz_122, pz_125, pz_127, pz_153, pz_200, pz_201, pz_202, pz_203, pz_204, pz_205, pz_206, pz_207, pz_208, pz_209, pz_210, pz_211, pz_212, pz_213, pz_214, pz_215, pz_216, pz_217, pz_218, pz_219, pz_220, pz_221, pz_222, pz_223, pz_224, pz_225, pz_255, pz_256, pz_271, pz_300, pz_301, pz_302, pz_303, pz_304, pz_400, pz_401, pz_521, pz_705, pz_1000, pz_1508, pz_1661, pz_1691, pz_2400, pz_3125, pz_9999, pz_10000, pz_30703, pz_65536, pz_99999, pz_1000000, pz_lt, pz_ck, pz_u2, pz_u3, pz_u4, pz_bs, pz_ix, pz_inb, pz_add, pz_mul, pz_sub, nI_leI, nI_ltI, nI_eq, pz_bIt, pz_bIf, pz_isb, pz_isb0, pz_isb1, pz_bI0, pz_bI1, Nat.zero_le, true_and, and_true, decide_true, decide_false, Bool.true_eq_false, Bool.false_eq_true, if_true, if_false, Nat.reduceAdd, Nat.reduceMul, Nat.reduceSub, Nat.reduceEqDiff, Nat.reduceLeDiff, Nat.reduceLT, Nat.one_ne_zero, Nat.zero_ne_one, hr]
    rw [if_neg z]
    exact e
theorem m_k23 (B : PI) : ∃ A, m_write_l23 fu (nI 1) B = some A ∧ (∀ k, k ≠ 1 → A k = B k) ∧ (∀ d, d < 29 → A 1 (1661 + d) = B 1 (1661 + (d + 1))) ∧ ∀ j, j < 1661 → A 1 j = B 1 j := by
  obtain ⟨A, ⟨-, h1, h2, h3, h4⟩, h5⟩ := pz_loop (fun k v (A : PI) => m_write_l23 k (nI v) A) 30 (fun A => some A) (fun v A => 1 ≤ v ∧ (∀ k, k ≠ 1 → A k = B k) ∧ (∀ d, d + 1 < v → A 1 (1661 + d) = B 1 (1661 + (d + 1))) ∧ (∀ d, v ≤ d → A 1 (1661 + d) = B 1 (1661 + d)) ∧ ∀ j, j < 1661 → A 1 j = B 1 j) (fun k A _ => by
      show m_write_b23 (m_write_l23 k) (nI 30) A = some A
      unfold m_write_b23
      simp (disch := omega) only [pz_0, pz_1, pz_2, pz_3, pz_4, pz_5, pz_6, pz_7, pz_8, pz_9, pz_10, pz_11, pz_12, pz_13, pz_14, pz_15, pz_16, pz_20, pz_21, pz_22, pz_24, pz_25, pz_30, pz_31, pz_32, pz_35, pz_40, pz_41, pz_42, pz_43, pz_45, pz_47, pz_48, pz_52, pz_57, pz_58, pz_59, pz_60, pz_61, pz_62, pz_63, pz_65, pz_85, pz_90, pz_97, pz_98, pz_99, pz_100, pz_101, pz_102, pz_103, pz_104, pz_105, pz_107, pz_108, pz_109, pz_110, pz_111, pz_112, pz_114, pz_115, pz_116, pz_119, pz_120, pz_121, pz_122, pz_125, pz_127, pz_153, pz_200, pz_201, pz_202, pz_203, pz_204, pz_205, pz_206, pz_207, pz_208, pz_209, pz_210, pz_211, pz_212, pz_213, pz_214, pz_215, pz_216, pz_217, pz_218, pz_219, pz_220, pz_221, pz_222, pz_223, pz_224, pz_225, pz_255, pz_256, pz_271, pz_300, pz_301, pz_302, pz_303, pz_304, pz_400, pz_401, pz_521, pz_705, pz_1000, pz_1508, pz_1661, pz_1691, pz_2400, pz_3125, pz_9999, pz_10000, pz_30703, pz_65536, pz_99999, pz_1000000, pz_lt, pz_ck, pz_u2, pz_u3, pz_u4, pz_bs, pz_ix, pz_inb, pz_add, pz_mul, pz_sub, nI_leI, nI_ltI, nI_eq, pz_bIt, pz_bIf, pz_isb, pz_isb0, pz_isb1, pz_bI0, pz_bI1, Nat.zero_le, true_and, and_true, decide_true, decide_false, Bool.true_eq_false, Bool.false_eq_true, if_true, if_false, Nat.reduceAdd, Nat.reduceMul, Nat.reduceSub, Nat.reduceEqDiff, Nat.reduceLeDiff, Nat.reduceLT, Nat.one_ne_zero, Nat.zero_ne_one, Nat.le_refl]) (fun k v A hv hP => by
      obtain ⟨p0, p1, p2, p3, p4⟩ := hP
      by_cases v0 : v = 0
      · subst v0
        omega
      · refine ⟨u2 A 1 (1661 + v - 1) (A 1 (1661 + v)), ?_, by omega, fun k hk => by simp (disch := omega) only [pz_row, pz_at, pz_no]; exact p1 k hk, fun d hd => ?_, fun d hd => ?_, fun j hj => ?_⟩
        · show m_write_b23 (m_write_l23 k) (nI v) A = _
          unfold m_write_b23
          simp (disch := omega) only [pz_0, pz_1, pz_2, pz_3, pz_4, pz_5, pz_6, pz_7, pz_8, pz_9, pz_10, pz_11, pz_12, pz_13, pz_14, pz_15, pz_16, pz_20, pz_21, pz_22, pz_24, pz_25, pz_30, pz_31, pz_32, pz_35, pz_40, pz_41, pz_42, pz_43, pz_45, pz_47, pz_48, pz_52, pz_57, pz_58, pz_59, pz_60, pz_61, pz_62, pz_63, pz_65, pz_85, pz_90, pz_97, pz_98, pz_99, pz_100, pz_101, pz_102, pz_103, pz_104, pz_105, pz_107, pz_108, pz_109, pz_110, pz_111, pz_112, pz_114, pz_115, pz_116, pz_119, pz_120, pz_121, pz_122, pz_125, pz_127, pz_153, pz_200, pz_201, pz_202, pz_203, pz_204, pz_205, pz_206, pz_207, pz_208, pz_209, pz_210, pz_211, pz_212, pz_213, pz_214, pz_215, pz_216, pz_217, pz_218, pz_219, pz_220, pz_221, pz_222, pz_223, pz_224, pz_225, pz_255, pz_256, pz_271, pz_300, pz_301, pz_302, pz_303, pz_304, pz_400, pz_401, pz_521, pz_705, pz_1000, pz_1508, pz_1661, pz_1691, pz_2400, pz_3125, pz_9999, pz_10000, pz_30703, pz_65536, pz_99999, pz_1000000, pz_lt, pz_ck, pz_u2, pz_u3, pz_u4, pz_bs, pz_ix, pz_inb, pz_add, pz_mul, pz_sub, nI_leI, nI_ltI, nI_eq, pz_bIt, pz_bIf, pz_isb, pz_isb0, pz_isb1, pz_bI0, pz_bI1, Nat.zero_le, true_and, and_true, decide_true, decide_false, Bool.true_eq_false, Bool.false_eq_true, if_true, if_false, Nat.reduceAdd, Nat.reduceMul, Nat.reduceSub, Nat.reduceEqDiff, Nat.reduceLeDiff, Nat.reduceLT, Nat.one_ne_zero, Nat.zero_ne_one, Nat.not_le.mpr hv]
        · by_cases q : d + 1 = v
          · have e1 : 1661 + d = 1661 + v - 1 := by omega
            rw [e1, u2_eq, p3 v (Nat.le_refl _), q]
          · simp (disch := omega) only [pz_row, pz_at, pz_no]
            exact p2 d (by omega)
        · simp (disch := omega) only [pz_row, pz_at, pz_no]
          exact p3 d (by omega)
        · simp (disch := omega) only [pz_row, pz_at, pz_no]
          exact p4 j hj) 29 fu 1 B (by omega) (fu_gt (by omega)) ⟨Nat.le_refl _, fun _ _ => rfl, fun d hd => absurd hd (by omega), fun _ _ => rfl, fun _ _ => rfl⟩
  exact ⟨A, h5, h1, fun d hd => h2 d (by omega), h4⟩
