/-! year, of both -/
def rowS (s : SN) (r : Nat → Nat) : SN := fun k => if k = 3 then r else s k
section YY
variable {s si : SN} {I : PI} {T : PT} {X : TS} {tN : XCo} {I' : PI} {J' : PJ}
theorem CC.row (h : CC s si I T X tN I' J') {r1 : Nat → Nat} {I1 I1' : PI} {J1' : PJ} (hY : YK s r1 3 I1 I1') (fx : FYx 3 I I1) (fm : FYm (s 2 1) I' I1' J' J1') (h20 : ∀ j, 20 ≤ j → r1 j = s 3 j) : CC (rowS s r1) si I1 T X tN I1' J1' := by
  have hV := h.1.1
  have hX := h.1.2.2.1
  have hM := h.1.2.2.2.2.1
  have e : ∀ k, k ≠ 3 → rowS s r1 k = s k := fun k hk => if_neg hk
  have e3 : rowS s r1 3 = r1 := if_pos rfl
  obtain ⟨w0, vr, w2, w3, w4, w5, w6⟩ := id hV
  obtain ⟨mn, mp, mf, ms, ma, me, mb, mt⟩ := id hM
  obtain ⟨m0, m1, m2, m3, m4, m5, m6, m7, m8, m9, m10⟩ := mn
  have a1 : ∀ i, i < 8 ∨ i = 10 ∨ 41 ≤ i → I1' 1 i = I' 1 i := fun i hi => fm.2.2.1 i (by omega) (by omega) (fun p hp => by have := hY.2.2.1; omega)
  have h6 := hY.2.2.1
  refine h.step ⟨fun k hk => fx.r k (by omega) (by omega), by rw [fx.r 0 (by omega) (by omega)], by rw [fx.r 0 (by omega) (by omega)], by rw [fx.r 0 (by omega) (by omega)]⟩ ⟨fun k h1 h2 => fm.1 k (by omega) (by omega) (by omega) (by omega), fm.2.1 9 (by omega), fm.2.1 10 (by omega), fm.2.1 11 (by omega), fm.2.1 36 (by omega), fm.2.2.2 7 (by omega), fm.2.2.2 8 (by omega)⟩ ?_ ⟨fun k j hk hj => ?_, ?_⟩ ?_ (by rw [e 2 (by omega)]) (h.lea.of (fm.2.1 29 (by omega)) (fm.2.1 30 (by omega)) (fm.2.1 31 (by omega)))
  · refine ⟨by rw [e 2 (by omega)]; exact w0, by rw [e3, e 2 (by omega)]; exact hY.2.2.2.1, fun f hf => ?_, fun i hi => ?_, fun i hi => ?_, fun i hi => ?_, fun k hk => ?_⟩
    · rw [e 4 (by omega), e 5 (by omega)]
      rw [e 2 (by omega)] at hf
      exact w2 f hf
    · rw [e 6 (by omega)]
      rw [e 2 (by omega)] at hi
      exact w3 i hi
    · rw [e _ (by omega)]
      rw [e 2 (by omega)] at hi
      exact w4 i hi
    · rw [e _ (by omega), e 2 (by omega)]
      rw [e 2 (by omega)] at hi
      exact w5 i hi
    · rw [e _ (by omega), e 2 (by omega)]
      rw [e 2 (by omega)] at hk
      exact w6 k hk
  · by_cases c : k = 3
    · subst c
      rw [e3]
      by_cases cj : j < 141
      · exact hY.2.2.2.2.1 j cj
      · rw [fx 3 j (Or.inr (by omega)) (by omega), h20 j (by omega)]
        exact hX.1 3 j hk hj
    · rw [e k c, fx.r k c (by omega)]
      exact hX.1 k j hk hj
  · rw [e 2 (by omega), fx.r 2 (by omega) (by omega)]
    exact hX.2
  · refine ⟨⟨?_, ?_, ?_, ?_, ?_, ?_, ?_, ?_, ?_, ?_, ?_⟩, fun p hp => ?_, ?_, ?_, ?_, ?_, fun i hi => ?_, ?_⟩
    · rw [a1 0 (by omega), e 2 (by omega)]; exact m0
    · rw [a1 1 (by omega), e 2 (by omega)]; exact m1
    · rw [a1 2 (by omega), e 2 (by omega)]; exact m2
    · rw [a1 3 (by omega), e 2 (by omega)]; exact m3
    · rw [a1 4 (by omega), e 2 (by omega)]; exact m4
    · rw [a1 5 (by omega), e 2 (by omega)]; exact m5
    · rw [a1 6 (by omega), e 2 (by omega)]; exact m6
    · rw [a1 7 (by omega), e 2 (by omega)]; exact m7
    · rw [e3]; exact hY.2.2.2.2.2.2.2.1.2.2.1
    · rw [e3]; exact hY.2.2.2.2.2.2.2.2.1
    · rw [a1 10 (by omega), e3, h20 20 (by omega)]; exact m10
    · rw [e 2 (by omega)] at hp
      rw [e3]
      exact hY.2.2.2.2.2.2.2.1.2.2.2 p hp
    · exact mf.c (e 4 (by omega)) (e 5 (by omega)) (fun i h1 h2 => a1 i (by omega))
    · exact ms.c w0.2.2.1 (by rw [e 2 (by omega)]) (e 6 (by omega)) (fun i h1 h2 => a1 i (by omega))
    · exact ma.c w0.2.2.2.2.2.2.1 (by rw [e 2 (by omega)]) (fun i hi => e _ (by omega)) (fun i h1 h2 => a1 i (by omega))
    · exact me.c w0.2.2.2.2.2.2.2 (by rw [e 2 (by omega)]) (fun i hi => e _ (by omega)) (fun i h1 h2 => a1 i (by omega))
    · rw [e3, h20 20 (by omega)] at hi
      rw [a1 _ (by omega), mb i hi, e3]
      unfold page
      rw [h20 _ (by omega), h20 _ (by omega), h20 _ (by omega), h20 _ (by omega)]
    · exact mt.c hV (by rw [e 2 (by omega)]) (by rw [e 2 (by omega)]) (fun i hi => e _ (by omega)) (fun i h1 h2 => a1 i (by omega)) (fun p w h1 h2 h3 => fm.2.2.1 _ (by omega) (by omega) (fun q hq => by omega))
theorem CC.keeps2 (h : CC s si I T X tN I' J') : ∃ (I1 I1' : PI), xs_keeps I = some I1 ∧ m_keepStep I' = some I1' ∧ CC (keepS s) si I1 T X tN I1' J' ∧ (I1' 0 = I' 0) ∧ keepS s 3 = s 3 ∧ (keepS s 2 0 = s 2 0 ∧ keepS s 2 1 = s 2 1 ∧ keepS s 2 2 = s 2 2) := by
  have hV := h.1.1
  have v5 := hV.1.2.2.2.2.2.1
  obtain ⟨A, B, ea, eb, kV, kX, kM, kF, kB⟩ := pe_keeps hV h.1.2.2.1 h.1.2.2.2.2.1
  obtain ⟨k1, k2⟩ := keepS_ok s v5
  refine ⟨A, B, ea, eb, h.step kF ⟨fun k h1 h2 => kB k (by omega), by rw [kB 0 (by omega)], by rw [kB 0 (by omega)], by rw [kB 0 (by omega)], by rw [kB 0 (by omega)], rfl, rfl⟩ kV kX kM (k2 3 (by omega)) (h.lea.of (by rw [kB 0 (by omega)]) (by rw [kB 0 (by omega)]) (by rw [kB 0 (by omega)])), kB 0 (by omega), k1 3 (by omega) (by omega), k2 0 (by omega), k2 1 (by omega), k2 2 (by omega)⟩
theorem pe_passNow (h : CC s si I T X tN I' J') (h0 : s 3 0 < 9999) : ∃ (n1 : Nat) (s1 : SN) (I1 I1' : PI) (J1' : PJ), x_passes I T X tN 3 = some (nI n1, I1) ∧ m_pass I' J' = some (I1', J1') ∧ CC s1 si I1 T X tN I1' J1' ∧ I1' 0 37 = I' 0 37 + nI n1 ∧ n1 ≤ 48 ∧ s1 3 0 = s 3 0 + 1 ∧ s1 2 = s 2 := by
  obtain ⟨y, ey, hT⟩ := pe_rules h
  obtain ⟨n1, r1, I1, I1', J1', d1, d2, d3, d4, d5, d6, d7, d8, d9⟩ := pe_pass (J' := J') h.yk ey hT h0
  exact ⟨n1, rowS s r1, I1, I1', J1', d1, d2, h.row d3 d4 d5 d9, d6, d7, (by rw [show rowS s r1 3 = r1 from if_pos rfl]; exact d8), if_neg (by omega)⟩
/-- so many years -/
theorem pe_yearL {N : Nat} (hN : N ≤ 60) : ∀ (m k fx fm n : Nat) (s : SN) (I I' : PI) (J' : PJ), k + m = N → m < fx → m < fm → s 3 0 + m ≤ 9999 → CC s si I T X tN I' J' → I' 0 37 = nI n → ∃ (n1 : Nat) (s1 : SN) (I1 I1' : PI) (J1' : PJ), x_year_l33 T X tN (nI N) fx (nI n) (nI k) I = some (nI n1, I1) ∧ m_arePassed_l7 (nI N) fm (nI k) I' J' = some (.inr (I1', J1')) ∧ CC s1 si I1 T X tN I1' J1' ∧ I1' 0 37 = nI n1 ∧ n1 ≤ n + 48 * m := by
  intro m
  induction m with
  | zero =>
    intro k fx fm n s I I' J' hk hfx hfm h0 h hn
    obtain ⟨fx, rfl⟩ : ∃ q, fx = q + 1 := ⟨fx - 1, by omega⟩
    obtain ⟨fm, rfl⟩ : ∃ q, fm = q + 1 := ⟨fm - 1, by omega⟩
    refine ⟨n, s, I, I', J', ?_, ?_, h, hn, by omega⟩
    · show x_year_b33 T X tN (nI N) _ (nI n) (nI k) I = _
      unfold x_year_b33
      rw [if_pos ((nI_leI (by omega) (by omega)).mpr (by omega))]
    · show m_arePassed_b7 (nI N) _ (nI k) I' J' = _
      unfold m_arePassed_b7
      rw [if_pos ((nI_leI (by omega) (by omega)).mpr (by omega))]
  | succ m ih =>
    intro k fx fm n s I I' J' hk hfx hfm h0 h hn
    obtain ⟨fx, rfl⟩ : ∃ q, fx = q + 1 := ⟨fx - 1, by omega⟩
    obtain ⟨fm, rfl⟩ : ∃ q, fm = q + 1 := ⟨fm - 1, by omega⟩
    obtain ⟨A, A', a1, a2, a3, a4, a5, -⟩ := h.keeps2
    obtain ⟨n1, s1, B, B', K', b1, b2, b3, b4, b5, b6, b7⟩ := pe_passNow a3 (by rw [a5]; omega)
    have h8 : I' 1 8 = nI (s 3 0) := h.1.2.2.2.2.1.1.2.2.2.2.2.2.2.2.1
    rw [a4, hn, pz_add] at b4
    rw [a5] at b6
    obtain ⟨n2, s2, D, D', L', d1, d2, d3, d4, d5⟩ := ih (k + 1) fx fm (n + n1) s1 B B' K' (by omega) (by omega) (by omega) (by omega) b3 b4
    refine ⟨n2, s2, D, D', L', ?_, ?_, d3, d4, by omega⟩
    · show x_year_b33 T X tN (nI N) _ (nI n) (nI k) I = _
      unfold x_year_b33
      rw [if_neg (fun q => absurd ((nI_leI (by omega) (by omega)).mp q) (by omega)), a1, pz_bs, b1, pz_bs, pz_u2, pz_add, pz_lt, show (1 : Int32) = nI 1 from rfl, pz_add, pz_lt]
      exact d1
    · show m_arePassed_b7 (nI N) _ (nI k) I' J' = _
      unfold m_arePassed_b7
      rw [if_neg (fun q => absurd ((nI_leI (by omega) (by omega)).mp q) (by omega)), show inb (8 : Int32) 1691 = true from rfl, pz_ck, show ix (8 : Int32) = 8 from rfl, h8, if_neg (show ¬ nI (s 3 0) = 9999 from fun q => absurd ((nI_eq (b := 9999) (by omega) (by omega)).mp q) (by omega)), a2, pz_bs, b2, pz_bs, pz_u2, show (1 : Int32) = nI 1 from rfl, pz_add, pz_lt]
      exact d2
theorem CC.z37 (h : CC s si I T X tN I' J') {v : Int32} : CC s si I T X tN (u2 I' 0 37 v) J' := by
  have e : ∀ j, j ≠ 37 → u2 I' 0 37 v 0 j = I' 0 j := fun j hj => u2_ne _ _ (Or.inr hj)
  have ek : ∀ k, k ≠ 0 → u2 I' 0 37 v k = I' k := fun k hk => u2_row _ _ _ _ hk
  exact h.step Fx.rf ⟨fun k h1 _ => ek k (by omega), e 9 (by omega), e 10 (by omega), e 11 (by omega), e 36 (by omega), rfl, rfl⟩ h.1.1 h.1.2.2.1 (by rw [ek 1 (by omega)]; exact h.1.2.2.2.2.1) rfl (h.lea.of (e 29 (by omega)) (e 30 (by omega)) (e 31 (by omega)))
theorem pu_year (h : CC s si I T X tN I' J') (a : Int32) : ∃ (z : Int32) (s1 : SN) (I1 I1' : PI) (J1' : PJ), x_year I T X tN a = some (z, I1) ∧ m_year I' J' a = some (z, I1', J1') ∧ CC s1 si I1 T X tN I1' J1' := by
  obtain ⟨b, e, q⟩ := pz_rng a 1 60 (by omega) (by omega)
  have hy0 := h.1.1.2.1.1
  have hx0 : I 3 0 = nI (s 3 0) := h.1.2.2.1.1 3 0 (by omega) (by omega)
  have h8 : I' 1 8 = nI (s 3 0) := h.1.2.2.2.2.1.1.2.2.2.2.2.2.2.2.1
  unfold x_year m_year
  cases b with
  | false => exact ⟨-1, s, I, I', J', by simp (disch := omega) only [pz_0, pz_1, pz_3, pz_4, pz_9, pz_60, pz_99, pz_119, pz_lt, pz_bs, pz_isb, pz_isb0, pz_isb1, pz_bI0, pz_bIf, if_true, Bool.true_eq_false, if_false, pz_ck, x_in_s, e], by simp (disch := omega) only [pz_0, pz_1, pz_3, pz_4, pz_9, pz_60, pz_99, pz_119, pz_lt, pz_bs, pz_isb, pz_isb0, pz_isb1, pz_bI0, pz_bIf, if_true, Bool.true_eq_false, if_false, pz_ck, m_isIn_s, e], h⟩
  | true =>
    obtain ⟨N, hN1, hN, rfl⟩ := q rfl
    have ex : x_in (nI N) 1 60 = some (bI true) := by rw [x_in_s]; exact congrArg (fun z => some (bI z)) e
    have em' : m_isIn (nI N) 1 60 = some (bI true) := by rw [m_isIn_s]; exact congrArg (fun z => some (bI z)) e
    rw [ex, em', pz_bs, pz_bs, if_neg (show ¬ bI true = 0 by decide), if_neg (show ¬ bI true = 0 by decide), show ix (0 : Int32) = 0 from rfl, hx0, show inb (8 : Int32) 1691 = true from rfl, pz_ck, show ix (8 : Int32) = 8 from rfl, h8, pz_add]
    by_cases c : s 3 0 + N ≤ 9999
    · rw [if_pos (show nI (s 3 0 + N) ≤ 9999 from (nI_leI (b := 9999) (by omega) (by omega)).mpr c), if_neg (show ¬ 9999 < nI (s 3 0 + N) from fun q => absurd ((nI_ltI (a := 9999) (by omega) (by omega)).mp q) (by omega))]
      obtain ⟨n1, s1, I1, I1', J1', d1, d2, d3, d4, d5⟩ := pe_yearL hN N 0 fu fu 0 s I (u2 I' 0 37 (nI 0)) J' (by omega) (fu_gt (by omega)) (fu_gt (by omega)) c h.z37 (u2_eq _ _ _ _)
      have hm : m_arePassed I' J' (nI N) = some (1, I1', J1') := by
        unfold m_arePassed
        rw [show (0 : Int32) = nI 0 from rfl, pz_lt, d2, pz_lbr]
        rfl
      rw [hm, show (0 : Int32) = nI 0 from rfl, d1, pz_bs, pz_bs, pz_u3, if_neg (by decide), d4]
      exact ⟨nI n1, s1, I1, I1', J1', rfl, rfl, d3⟩
    · rw [if_neg (show ¬ nI (s 3 0 + N) ≤ 9999 from fun q => c ((nI_leI (b := 9999) (by omega) (by omega)).mp q)), if_pos (show 9999 < nI (s 3 0 + N) from (nI_ltI (a := 9999) (by omega) (by omega)).mpr (by omega))]
      exact ⟨-1, s, I, I', J', rfl, rfl, h⟩
end YY
