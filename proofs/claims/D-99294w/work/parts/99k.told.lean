/-! members one by one, 15: silent, keep -/
/-- two loops side by side -/
theorem pz_lock {σ τ ρ ρ' : Type} (L : Nat → Nat → σ → Option ρ) (M : Nat → Nat → τ → Option ρ') (hi : Nat) (P : Nat → σ → τ → Prop) (Q : Option ρ → Option ρ' → Prop)
    (h0 : ∀ k k' s t, P hi s t → Q (L (k + 1) hi s) (M (k' + 1) hi t)) (h1 : ∀ k k' v s t, v < hi → P v s t → ∃ s' t', L (k + 1) v s = L k (v + 1) s' ∧ M (k' + 1) v t = M k' (v + 1) t' ∧ P (v + 1) s' t') :
    ∀ (n k k' v : Nat) (s : σ) (t : τ), v + n = hi → n < k → n < k' → P v s t → Q (L k v s) (M k' v t) := by
  intro n
  induction n with
  | zero =>
    intro k k' v s t e hk hk' hP
    obtain ⟨k, rfl⟩ : ∃ q, k = q + 1 := ⟨k - 1, by omega⟩
    obtain ⟨k', rfl⟩ : ∃ q, k' = q + 1 := ⟨k' - 1, by omega⟩
    have e : v = hi := by omega
    subst e
    exact h0 k k' s t hP
  | succ n ih =>
    intro k k' v s t e hk hk' hP
    obtain ⟨k, rfl⟩ : ∃ q, k = q + 1 := ⟨k - 1, by omega⟩
    obtain ⟨k', rfl⟩ : ∃ q, k' = q + 1 := ⟨k' - 1, by omega⟩
    obtain ⟨s1, t1, e1, e2, hP1⟩ := h1 k k' v s t (by omega) hP
    rw [e1, e2]
    exact ih k k' (v + 1) s1 t1 (by omega) (by omega) (by omega) hP1
/-- more forms tell no less -/
theorem cstF_ne {s : SN} (hV : VSt s) (forms kind : Nat) : ∀ n, n ≤ s 2 0 → (cstF s forms kind n ≠ 0 ↔ ∃ g, g < n ∧ forms.testBit g = true ∧ s 4 g = kind)
  | 0, _ => ⟨fun h => absurd rfl h, fun ⟨g, h, _⟩ => absurd h (Nat.not_lt_zero g)⟩
  | n + 1, hn => by
    have ih := cstF_ne hV forms kind n (by omega)
    have f1 := (hV.2.2.1 n (by omega)).2.1
    rw [cstF_succ]
    by_cases c : forms.testBit n = true ∧ s 4 n = kind ∧ (cstF s forms kind n = 0 ∨ s 5 n < cstF s forms kind n)
    · rw [if_pos c]
      exact ⟨fun _ => ⟨n, by omega, c.1, c.2.1⟩, fun _ => by omega⟩
    · rw [if_neg c, ih]
      refine ⟨fun ⟨g, h1, h2⟩ => ⟨g, by omega, h2⟩, fun ⟨g, h1, h2, h3⟩ => ?_⟩
      by_cases e : g = n
      · subst e
        have : cstF s forms kind g ≠ 0 := fun z => c ⟨h2, h3, Or.inl z⟩
        exact ih.mp this
      · exact ⟨g, by omega, h2, h3⟩
theorem cst_ne {s : SN} (hV : VSt s) (forms kind : Nat) : cst s forms kind ≠ 0 ↔ ∃ g, g < s 2 0 ∧ forms.testBit g = true ∧ s 4 g = kind := cstF_ne hV forms kind _ (Nat.le_refl _)
theorem ctN_mono {p q : Nat → Bool} : ∀ {n : Nat}, (∀ i, i < n → p i = true → q i = true) → ctN p n ≤ ctN q n
  | 0, _ => Nat.le_refl _
  | n + 1, h => by
    have h1 := ctN_mono (n := n) (fun i hi => h i (by omega))
    have h2 := h n (by omega)
    show ctN p n + (if p n = true then 1 else 0) ≤ ctN q n + (if q n = true then 1 else 0)
    by_cases c : p n = true
    · rw [if_pos c, if_pos (h2 c)]
      exact Nat.add_le_add_right h1 1
    · rw [if_neg c]
      exact Nat.le_trans h1 (Nat.le_add_right _ _)
theorem en_mono {s : SN} (hV : VSt s) {a b : Nat} (h : ∀ g, g < 8 → a.testBit g = true → b.testBit g = true) (he : en s a = true) : en s b = true := by
  have he : ctN (fun i => blM s a i 20) 120 = 1 := of_decide_eq_true he
  have h1 : ctN (fun i => blM s b i 20) 120 ≤ ctN (fun i => blM s a i 20) 120 := ctN_mono fun i _ hb => by
    have hb : blM s b i 20 = true := hb
    show blM s a i 20 = true
    rw [blM_iff] at hb ⊢
    intro k hk hc
    refine hb k hk ?_
    obtain ⟨g, g1, g2, g3⟩ := (cst_ne hV a (sayK k)).mp hc
    exact (cst_ne hV b (sayK k)).mpr ⟨g, g1, h g (by have := hV.1.1; omega) g2, g3⟩
  have h0 : blM s b 0 20 = true := (blM_iff s b 0 20).mpr fun k hk _ => out0 hk
  have h2 := ctN_drop (p := fun i => blM s b i 20) (q := fun i => blM s b i 20 && decide (i ≠ 0)) (n := 120) h0 (by rw [decide_eq_false (p := 0 ≠ 0) (fun z => z rfl), Bool.and_false]) (by decide) (fun j _ hj => by rw [decide_eq_true hj, Bool.and_true])
  exact decide_eq_true (by omega)
theorem clr_bit : ∀ a, a < 256 → ∀ f, f < 8 → ∀ g, g < 8 → ((clr a f).testBit g = true → a.testBit g = true) := by decide +kernel
theorem clr_no : ∀ a, a < 256 → ∀ f, f < 8 → a.testBit f = false → clr a f = a := by decide +kernel
theorem clr_256 : ∀ a, a < 256 → ∀ f, f < 8 → clr a f < 256 := by decide +kernel
/-- whether any of them tells -/
def anyE (s : SN) (g : Nat → Nat) : Nat → Bool
  | 0 => false
  | k + 1 => anyE s g k || en s (g k)
def tw (n : Nat) (b : Bool) : Nat := if b then 2 ^ n - 1 else 0
theorem anyE_iff {s : SN} {g : Nat → Nat} : ∀ {k : Nat}, anyE s g k = true ↔ ∃ p, p < k ∧ en s (g p) = true
  | 0 => ⟨fun h => absurd h Bool.false_ne_true, fun ⟨p, h, _⟩ => absurd h (Nat.not_lt_zero p)⟩
  | k + 1 => by
    show (anyE s g k || en s (g k)) = true ↔ _
    rw [Bool.or_eq_true, anyE_iff]
    refine ⟨fun h => ?_, fun ⟨p, h1, h2⟩ => ?_⟩
    · rcases h with ⟨p, h1, h2⟩ | h
      · exact ⟨p, by omega, h2⟩
      · exact ⟨k, by omega, h⟩
    · by_cases e : p = k
      · subst e; exact Or.inr h2
      · exact Or.inl ⟨p, by omega, h2⟩
theorem anyE_stop {s : SN} {g : Nat → Nat} {k n : Nat} (h : k < n) (he : en s (g k) = true) : anyE s g n = true := anyE_iff.mpr ⟨k, h, he⟩
section TLD
variable {s si : SN} {I : PI} {T : PT} {X : TS} {tN : XCo} {I' : PI} {J' : PJ}
theorem pu_silent (h : CC s si I T X tN I' J') (J : PJ) : ∃ (r : Int32) (I1 : PI) (J1 : PJ) (I1' : PI), x_silent I J = some (r, I1, J1) ∧ m_silent I' J' = some (r, I1') ∧ CC s si I1 T X tN I1' J' := by
  have hV := h.1.1
  have hX := h.1.2.2.1
  have hM := h.1.2.2.2.2.1
  obtain ⟨⟨v0, v1, v2, v3, v4, v5, v6, v7⟩, vr, vf, vs, va, ve, vt⟩ := id hV
  obtain ⟨⟨m0, m1, m2, m3, m4, m5, m6, m7, m8, m9, m10⟩, mp, mf, ms, ma, me, mb, mt⟩ := id hM
  have hx := hX.1
  have key := pz_lock (fun k v (x : Int32 × PI × PJ) => x_silent_l4 k x.1 (nI v) x.2.1 x.2.2) (fun k v (y : Int32 × PI) => m_silent_l4 J' k y.1 (nI v) y.2) (s 2 1) (fun v x y => x.1 = y.1 ∧ CC s si x.2.1 T X tN y.2 J') (fun o o' => ∃ r I1 J1 I1', o = some (r, I1, J1) ∧ o' = some (r, I1') ∧ CC s si I1 T X tN I1' J') (fun k k' x y hP => by
      obtain ⟨v, A, B⟩ := x
      obtain ⟨v', A'⟩ := y
      obtain ⟨e, hC⟩ := hP
      have e : v = v' := e
      subst e
      have hC : CC s si A T X tN A' J' := hC
      have ex := hC.1.2.2.1.1
      have em := hC.1.2.2.2.2.1.1.2.1
      refine ⟨v, A, B, A', ?_, ?_, hC⟩
      · show x_silent_b4 (x_silent_l4 k) v (nI (s 2 1)) A B = _
        unfold x_silent_b4
        simp (disch := omega) only [pz_0, pz_1, pz_2, pz_3, pz_4, pz_5, pz_6, pz_7, pz_8, pz_9, pz_10, pz_11, pz_12, pz_13, pz_14, pz_15, pz_16, pz_20, pz_21, pz_22, pz_24, pz_25, pz_30, pz_31, pz_32, pz_35, pz_40, pz_41, pz_42, pz_43, pz_45, pz_47, pz_48, pz_52, pz_57, pz_58, pz_59, pz_60, pz_61, pz_62, pz_63, pz_65, pz_85, pz_90, pz_97, pz_98, pz_99, pz_100, pz_101, pz_102, pz_103, pz_104, pz_105, pz_107, pz_108, pz_109, pz_110, pz_111, pz_112, pz_114, pz_115, pz_116, pz_119, pz_120, pz_121, pz_122, pz_125, pz_127, pz_153, pz_200, pz_201, pz_202, pz_203, pz_204, pz_205, pz_206, pz_207, pz_208, pz_209, pz_210, pz_211, pz_212, pz_213, pz_214, pz_215, pz_216, pz_217, pz_218, pz_219, pz_220, pz_221, pz_222, pz_223, pz_224, pz_225, pz_255, pz_256, pz_271, pz_300, pz_301, pz_302, pz_303, pz_304, pz_400, pz_401, pz_521, pz_705, pz_1000, pz_1508, pz_1661, pz_1691, pz_2400, pz_3125, pz_9999, pz_10000, pz_30703, pz_65536, pz_99999, pz_1000000, pz_lt, pz_ck, pz_u2, pz_u3, pz_u4, pz_bs, pz_ix, pz_inb, pz_add, pz_mul, pz_sub, nI_leI, nI_ltI, nI_eq, pz_bIt, pz_bIf, pz_isb, pz_isb0, pz_isb1, pz_bI0, pz_bI1, Nat.zero_le, true_and, and_true, decide_true, decide_false, Bool.true_eq_false, Bool.false_eq_true, if_true, if_false, Nat.reduceAdd, Nat.reduceMul, Nat.reduceSub, Nat.reduceEqDiff, Nat.reduceLeDiff, Nat.reduceLT, Nat.one_ne_zero, Nat.zero_ne_one, ex, Nat.le_refl]
      · show m_silent_b4 J' (m_silent_l4 J' k') v (nI (s 2 1)) A' = _
        unfold m_silent_b4
        simp (disch := omega) only [pz_0, pz_1, pz_2, pz_3, pz_4, pz_5, pz_6, pz_7, pz_8, pz_9, pz_10, pz_11, pz_12, pz_13, pz_14, pz_15, pz_16, pz_20, pz_21, pz_22, pz_24, pz_25, pz_30, pz_31, pz_32, pz_35, pz_40, pz_41, pz_42, pz_43, pz_45, pz_47, pz_48, pz_52, pz_57, pz_58, pz_59, pz_60, pz_61, pz_62, pz_63, pz_65, pz_85, pz_90, pz_97, pz_98, pz_99, pz_100, pz_101, pz_102, pz_103, pz_104, pz_105, pz_107, pz_108, pz_109, pz_110, pz_111, pz_112, pz_114, pz_115, pz_116, pz_119, pz_120, pz_121, pz_122, pz_125, pz_127, pz_153, pz_200, pz_201, pz_202, pz_203, pz_204, pz_205, pz_206, pz_207, pz_208, pz_209, pz_210, pz_211, pz_212, pz_213, pz_214, pz_215, pz_216, pz_217, pz_218, pz_219, pz_220, pz_221, pz_222, pz_223, pz_224, pz_225, pz_255, pz_256, pz_271, pz_300, pz_301, pz_302, pz_303, pz_304, pz_400, pz_401, pz_521, pz_705, pz_1000, pz_1508, pz_1661, pz_1691, pz_2400, pz_3125, pz_9999, pz_10000, pz_30703, pz_65536, pz_99999, pz_1000000, pz_lt, pz_ck, pz_u2, pz_u3, pz_u4, pz_bs, pz_ix, pz_inb, pz_add, pz_mul, pz_sub, nI_leI, nI_ltI, nI_eq, pz_bIt, pz_bIf, pz_isb, pz_isb0, pz_isb1, pz_bI0, pz_bI1, Nat.zero_le, true_and, and_true, decide_true, decide_false, Bool.true_eq_false, Bool.false_eq_true, if_true, if_false, Nat.reduceAdd, Nat.reduceMul, Nat.reduceSub, Nat.reduceEqDiff, Nat.reduceLeDiff, Nat.reduceLT, Nat.one_ne_zero, Nat.zero_ne_one, em, Nat.le_refl]) (fun k k' v x y hv hP => by
      obtain ⟨w, A, B⟩ := x
      obtain ⟨w', A'⟩ := y
      obtain ⟨e, hC⟩ := hP
      have e : w = w' := e
      subst e
      have hC : CC s si A T X tN A' J' := hC
      have ex := hC.1.2.2.1.1
      have hM' := hC.1.2.2.2.2.1
      have em := hM'.1.2.1
      have em2 := hM'.1.2.2.1
      have g1 := px_formsOf hC.1.2.2.1 (p := v) (by omega)
      have g1' := pm_get A' (p := v) (w := 1) (by omega) (by omega)
      rw [(hM'.2.1 v hv).2.1] at g1'
      have hf := lt256 hV (vr.2.2.2.1 v hv).2.1
      obtain ⟨I1, J1, t1, d⟩ := px_toldBy hC B hf
      have hs := pz_shl v (by omega)
      have hp := Nat.two_pow_pos (s 2 2)
      have hp2 := pow8 (s 2 2) (by omega)
      have htb : tb s (s 2 2) (s 3 (8 + v)) < 256 := by unfold tb; split <;> omega
      -- the class's step
      have stx : x_silent_b4 (x_silent_l4 k) w (nI v) A B = x_silent_l4 k (w ||| (if tb s (s 2 2) (s 3 (8 + v)) = 0 then nI (2 ^ v) else nI 0)) (nI (v + 1)) I1 J1 := by
        unfold x_silent_b4 x_silent_j37
        simp (disch := omega) only [pz_0, pz_1, pz_2, pz_3, pz_4, pz_5, pz_6, pz_7, pz_8, pz_9, pz_10, pz_11, pz_12, pz_13, pz_14, pz_15, pz_16, pz_20, pz_21, pz_22, pz_24, pz_25, pz_30, pz_31, pz_32, pz_35, pz_40, pz_41, pz_42, pz_43, pz_45, pz_47, pz_48, pz_52, pz_57, pz_58, pz_59, pz_60, pz_61, pz_62, pz_63, pz_65, pz_85, pz_90, pz_97, pz_98, pz_99, pz_100, pz_101, pz_102, pz_103, pz_104, pz_105, pz_107, pz_108, pz_109, pz_110, pz_111, pz_112, pz_114, pz_115, pz_116, pz_119, pz_120, pz_121, pz_122, pz_125, pz_127, pz_153, pz_200, pz_201, pz_202, pz_203, pz_204, pz_205, pz_206, pz_207, pz_208, pz_209, pz_210, pz_211, pz_212, pz_213, pz_214, pz_215, pz_216, pz_217, pz_218, pz_219, pz_220, pz_221, pz_222, pz_223, pz_224, pz_225, pz_255, pz_256, pz_271, pz_300, pz_301, pz_302, pz_303, pz_304, pz_400, pz_401, pz_521, pz_705, pz_1000, pz_1508, pz_1661, pz_1691, pz_2400, pz_3125, pz_9999, pz_10000, pz_30703, pz_65536, pz_99999, pz_1000000, pz_lt, pz_ck, pz_u2, pz_u3, pz_u4, pz_bs, pz_ix, pz_inb, pz_add, pz_mul, pz_sub, nI_leI, nI_ltI, nI_eq, pz_bIt, pz_bIf, pz_isb, pz_isb0, pz_isb1, pz_bI0, pz_bI1, Nat.zero_le, true_and, and_true, decide_true, decide_false, Bool.true_eq_false, Bool.false_eq_true, if_true, if_false, Nat.reduceAdd, Nat.reduceMul, Nat.reduceSub, Nat.reduceEqDiff, Nat.reduceLeDiff, Nat.reduceLT, Nat.one_ne_zero, Nat.zero_ne_one, ex, Nat.not_le.mpr hv, g1, t1, hs]
        by_cases c : tb s (s 2 2) (s 3 (8 + v)) = 0
        · rw [if_pos c, if_pos c]
        · rw [if_neg c, if_neg c]
      by_cases z : s 2 2 = 0
      · refine ⟨(w ||| nI (2 ^ v), I1, J1), (w ||| nI (2 ^ v), A'), ?_, ?_, rfl, hC.xs d⟩
        · have : tb s (s 2 2) (s 3 (8 + v)) = 0 := by unfold tb; rw [z]; split <;> rfl
          rw [if_pos this] at stx
          exact stx
        · show m_silent_b4 J' (m_silent_l4 J' k') w (nI v) A' = _
          unfold m_silent_b4 m_silent_j41 m_silent_j44
          rw [z] at em2
          simp (disch := omega) only [pz_0, pz_1, pz_2, pz_3, pz_4, pz_5, pz_6, pz_7, pz_8, pz_9, pz_10, pz_11, pz_12, pz_13, pz_14, pz_15, pz_16, pz_20, pz_21, pz_22, pz_24, pz_25, pz_30, pz_31, pz_32, pz_35, pz_40, pz_41, pz_42, pz_43, pz_45, pz_47, pz_48, pz_52, pz_57, pz_58, pz_59, pz_60, pz_61, pz_62, pz_63, pz_65, pz_85, pz_90, pz_97, pz_98, pz_99, pz_100, pz_101, pz_102, pz_103, pz_104, pz_105, pz_107, pz_108, pz_109, pz_110, pz_111, pz_112, pz_114, pz_115, pz_116, pz_119, pz_120, pz_121, pz_122, pz_125, pz_127, pz_153, pz_200, pz_201, pz_202, pz_203, pz_204, pz_205, pz_206, pz_207, pz_208, pz_209, pz_210, pz_211, pz_212, pz_213, pz_214, pz_215, pz_216, pz_217, pz_218, pz_219, pz_220, pz_221, pz_222, pz_223, pz_224, pz_225, pz_255, pz_256, pz_271, pz_300, pz_301, pz_302, pz_303, pz_304, pz_400, pz_401, pz_521, pz_705, pz_1000, pz_1508, pz_1661, pz_1691, pz_2400, pz_3125, pz_9999, pz_10000, pz_30703, pz_65536, pz_99999, pz_1000000, pz_lt, pz_ck, pz_u2, pz_u3, pz_u4, pz_bs, pz_ix, pz_inb, pz_add, pz_mul, pz_sub, nI_leI, nI_ltI, nI_eq, pz_bIt, pz_bIf, pz_isb, pz_isb0, pz_isb1, pz_bI0, pz_bI1, Nat.zero_le, true_and, and_true, decide_true, decide_false, Bool.true_eq_false, Bool.false_eq_true, if_true, if_false, Nat.reduceAdd, Nat.reduceMul, Nat.reduceSub, Nat.reduceEqDiff, Nat.reduceLeDiff, Nat.reduceLT, Nat.one_ne_zero, Nat.zero_ne_one, em, em2, Nat.not_le.mpr hv, hs, Nat.le_refl]
      · obtain ⟨I1', e1, d'⟩ := pm_isEnough hC hf
        have z2 : ¬ s 2 2 ≤ 0 := by omega
        have hp3 : 2 ≤ 2 ^ s 2 2 := by
          have := Nat.pow_le_pow_right (n := 2) (by decide) (show 1 ≤ s 2 2 by omega)
          exact this
        refine ⟨(w ||| (if en s (s 3 (8 + v)) = false then nI (2 ^ v) else nI 0), I1, J1), (w ||| (if en s (s 3 (8 + v)) = false then nI (2 ^ v) else nI 0), I1'), ?_, ?_, rfl, (hC.xs d).cs d'⟩
        · refine stx.trans ?_
          have : (tb s (s 2 2) (s 3 (8 + v)) = 0) = (en s (s 3 (8 + v)) = false) := by
            unfold tb
            cases en s (s 3 (8 + v)) with
            | false => simp
            | true =>
              simp
              omega
          simp only [this]
        · show m_silent_b4 J' (m_silent_l4 J' k') w (nI v) A' = _
          unfold m_silent_b4 m_silent_j41 m_silent_j44
          simp (disch := omega) only [pz_0, pz_1, pz_2, pz_3, pz_4, pz_5, pz_6, pz_7, pz_8, pz_9, pz_10, pz_11, pz_12, pz_13, pz_14, pz_15, pz_16, pz_20, pz_21, pz_22, pz_24, pz_25, pz_30, pz_31, pz_32, pz_35, pz_40, pz_41, pz_42, pz_43, pz_45, pz_47, pz_48, pz_52, pz_57, pz_58, pz_59, pz_60, pz_61, pz_62, pz_63, pz_65, pz_85, pz_90, pz_97, pz_98, pz_99, pz_100, pz_101, pz_102, pz_103, pz_104, pz_105, pz_107, pz_108, pz_109, pz_110, pz_111, pz_112, pz_114, pz_115, pz_116, pz_119, pz_120, pz_121, pz_122, pz_125, pz_127, pz_153, pz_200, pz_201, pz_202, pz_203, pz_204, pz_205, pz_206, pz_207, pz_208, pz_209, pz_210, pz_211, pz_212, pz_213, pz_214, pz_215, pz_216, pz_217, pz_218, pz_219, pz_220, pz_221, pz_222, pz_223, pz_224, pz_225, pz_255, pz_256, pz_271, pz_300, pz_301, pz_302, pz_303, pz_304, pz_400, pz_401, pz_521, pz_705, pz_1000, pz_1508, pz_1661, pz_1691, pz_2400, pz_3125, pz_9999, pz_10000, pz_30703, pz_65536, pz_99999, pz_1000000, pz_lt, pz_ck, pz_u2, pz_u3, pz_u4, pz_bs, pz_ix, pz_inb, pz_add, pz_mul, pz_sub, nI_leI, nI_ltI, nI_eq, pz_bIt, pz_bIf, pz_isb, pz_isb0, pz_isb1, pz_bI0, pz_bI1, Nat.zero_le, true_and, and_true, decide_true, decide_false, Bool.true_eq_false, Bool.false_eq_true, if_true, if_false, Nat.reduceAdd, Nat.reduceMul, Nat.reduceSub, Nat.reduceEqDiff, Nat.reduceLeDiff, Nat.reduceLT, Nat.one_ne_zero, Nat.zero_ne_one, em, em2, Nat.not_le.mpr hv, hs, z2, g1', e1]
          cases en s (s 3 (8 + v)) <;> simp) (s 2 1) fu fu 0 (nI 0, I, J) (nI 0, I') (by omega) (fu_gt (by omega)) (fu_gt (by omega)) ⟨rfl, h⟩
  obtain ⟨r, I1, J1, I1', e1, e2, hC⟩ := key
  have e1 : x_silent_l4 fu (nI 0) (nI 0) I J = some (r, I1, J1) := e1
  have e2 : m_silent_l4 J' fu (nI 0) (nI 0) I' = some (r, I1') := e2
  refine ⟨r, I1, J1, I1', ?_, ?_, hC⟩
  · unfold x_silent
    simp (disch := omega) only [pz_0, e1, pz_bs, pz_u3]
  · unfold m_silent
    simp (disch := omega) only [pz_0, e2, pz_bs, pz_u2]
end TLD
