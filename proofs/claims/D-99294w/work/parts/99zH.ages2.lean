/-! ages, of both: the loop -/
section AH
variable {s si : SN} {I : PI} {T : PT} {X : TS} {tN : XCo} {I' : PI} {J' : PJ}
theorem pe_agesL {N : Nat} (hN : N ≤ 40) : ∀ (m k fx fm n : Nat) (v : Int32) (s : SN) (I : PI) (J : PJ) (I' : PI) (J' : PJ), k + m = N → m < fx → m < fm → n ≤ k → CC s si I T X tN I' J' → ∃ (n1 : Nat) (s1 : SN) (I1 : PI) (J1 : PJ) (I1' : PI) (J1' : PJ), x_ages_l51 T X tN (nI N) fx v (nI k) I J n = some (I1, J1, n1) ∧ m_ages_l43 (nI N) fm (nI k) I' J' = some (I1', J1') ∧ CC s1 si I1 T X tN I1' J1' ∧ n1 ≤ N := by
  intro m
  induction m with
  | zero =>
    intro k fx fm n v s I J I' J' hk hfx hfm hn h
    obtain ⟨fx, rfl⟩ : ∃ q, fx = q + 1 := ⟨fx - 1, by omega⟩
    obtain ⟨fm, rfl⟩ : ∃ q, fm = q + 1 := ⟨fm - 1, by omega⟩
    refine ⟨n, s, I, J, I', J', ?_, ?_, h, by omega⟩
    · show x_ages_b51 T X tN (nI N) _ v (nI k) I J n = _
      unfold x_ages_b51
      rw [if_pos ((nI_leI (by omega) (by omega)).mpr (by omega))]
    · show m_ages_b43 (nI N) _ (nI k) I' J' = _
      unfold m_ages_b43
      rw [if_pos ((nI_leI (by omega) (by omega)).mpr (by omega))]
  | succ m ih =>
    intro k fx fm n v s I J I' J' hk hfx hfm hn h
    obtain ⟨fx, rfl⟩ : ∃ q, fx = q + 1 := ⟨fx - 1, by omega⟩
    obtain ⟨fm, rfl⟩ : ∃ q, fm = q + 1 := ⟨fm - 1, by omega⟩
    have hd : s 3 1 < 30703 := h.1.1.2.1.2.1
    have hx1 : I 3 1 = nI (s 3 1) := h.1.2.2.1.1 3 1 (by omega) (by omega)
    have hm1 : I' 1 9 = nI (s 3 1) := h.1.2.2.2.2.1.1.2.2.2.2.2.2.2.2.2.1
    have hD := h.draw
    have hxd := px_drawn (m := 2) hx1 hd (by omega) (by omega)
    have hma := pm_anew hm1 hd
    have e3 : rowS s (rU (s 3) 1 (dr (s 3 1))) 3 = rU (s 3) 1 (dr (s 3 1)) := if_pos rfl
    have hx0 : u2 I 3 1 (nI (dr (s 3 1))) 3 0 = nI (s 3 0) := (hD.1.2.2.1.1 3 0 (by omega) (by omega)).trans (by rw [e3, rU_no _ _ (by omega)])
    have hm0 : u2 I' 1 9 (nI (dr (s 3 1))) 1 8 = nI (s 3 0) := hD.1.2.2.2.2.1.1.2.2.2.2.2.2.2.2.1.trans (by rw [e3, rU_no _ _ (by omega)])
    have hy0 := h.1.1.2.1.1
    have sx : x_ages_l51 T X tN (nI N) (fx + 1) v (nI k) I J n = x_ages_b51 T X tN (nI N) (x_ages_l51 T X tN (nI N) fx) v (nI k) I J n := rfl
    have sm : m_ages_l43 (nI N) (fm + 1) (nI k) I' J' = m_ages_b43 (nI N) (m_ages_l43 (nI N) fm) (nI k) I' J' := rfl
    have j128 : ∀ (w : Int32) (A : PI) (B : PJ) (z : Nat), x_ages_j128 (x_ages_l51 T X tN (nI N) fx) (nI k) w A B z = x_ages_l51 T X tN (nI N) fx w (nI (k + 1)) A B z := fun w A B z => by
      unfold x_ages_j128
      rw [show (1 : Int32) = nI 1 from rfl, pz_add, pz_lt]
    have d6 : nI (s 3 1) - nI (s 3 1) / 6 * 6 = nI (s 3 1 % 6) := by
      rw [show (6 : Int32) = nI 6 from rfl, pz_div (by omega) (by omega) (by omega), pz_mul, pz_rem (by omega) (by omega) (by omega)]
    have hx : ∀ r, x_ages_b51 T X tN (nI N) (x_ages_l51 T X tN (nI N) fx) v (nI k) I J n = r ↔ (if 4 ≤ s 3 1 % 6 then (if 9999 ≤ s 3 0 then x_ages_l51 T X tN (nI N) fx v (nI (k + 1)) (u2 I 3 1 (nI (dr (s 3 1)))) J n else ((x_passes (u2 I 3 1 (nI (dr (s 3 1)))) T X tN 3).bind <| un2 fun v21 I22 => lt_ (v + v21) fun v23 => x_ages_l51 T X tN (nI N) fx v23 (nI (k + 1)) I22 J n)) else ((x_befalls (u2 I 3 1 (nI (dr (s 3 1)))) J T X tN (nI (s 3 1))).bind <| un2 fun I24 J25 => x_ages_l51 T X tN (nI N) fx v (nI (k + 1)) I24 J25 (n + 1))) = r := fun r => by
      unfold x_ages_b51
      rw [if_neg (fun q => absurd ((nI_leI (by omega) (by omega)).mp q) (by omega)), show ix (1 : Int32) = 1 from rfl, hx1, pz_lt, decide_eq_true (show n ≤ 40 by omega), pz_ck, show (2 : Int32) = nI 2 from rfl, hxd, pz_bs, pz_u2, d6, show ix (0 : Int32) = 0 from rfl, hx0]
      have e4 : (4 : Int32) ≤ nI (s 3 1 % 6) ↔ 4 ≤ s 3 1 % 6 := nI_leI (a := 4) (by omega) (by omega)
      have e9 : (9999 : Int32) ≤ nI (s 3 0) ↔ 9999 ≤ s 3 0 := nI_leI (a := 9999) (by omega) (by omega)
      by_cases c : 4 ≤ s 3 1 % 6
      · rw [if_pos (e4.mpr c), if_pos c]
        by_cases c9 : 9999 ≤ s 3 0
        · rw [if_pos (e9.mpr c9), if_pos c9, j128]
        · rw [if_neg (fun q => c9 (e9.mp q)), if_neg c9, pz_ck]
          simp only [j128]
      · rw [if_neg (fun q => c (e4.mp q)), if_neg c]
        have hn1 : decide (n + 1 ≤ 40) = true := decide_eq_true (by omega)
        simp only [hn1, pz_ck, pz_lt, j128]
    have hm : m_ages_b43 (nI N) (m_ages_l43 (nI N) fm) (nI k) I' J' = (m_happens (u2 I' 1 9 (nI (dr (s 3 1)))) J' (nI (s 3 1))).bind (un2 fun I12 J13 => m_ages_l43 (nI N) fm (nI (k + 1)) I12 J13) := by
      unfold m_ages_b43
      rw [if_neg (fun q => absurd ((nI_leI (by omega) (by omega)).mp q) (by omega)), show inb (9 : Int32) 1691 = true from rfl, pz_ck, show ix (9 : Int32) = 9 from rfl, hm1, pz_lt, hma, pz_bs, show (1 : Int32) = nI 1 from rfl, pz_add]
      rfl
    rw [sx, sm, hm]
    by_cases c : 4 ≤ s 3 1 % 6
    · have hmh : m_happens (u2 I' 1 9 (nI (dr (s 3 1)))) J' (nI (s 3 1)) = if 9999 ≤ s 3 0 then some (u2 I' 1 9 (nI (dr (s 3 1))), J') else (m_pass (u2 I' 1 9 (nI (dr (s 3 1)))) J').bind (un2 fun I15 J16 => some (I15, J16)) := by
        unfold m_happens
        have e9 : (9999 : Int32) ≤ nI (s 3 0) ↔ 9999 ≤ s 3 0 := nI_leI (a := 9999) (by omega) (by omega)
        rw [d6, if_neg (show ¬ nI (s 3 1 % 6) ≤ 3 from fun q => absurd ((nI_leI (b := 3) (by omega) (by omega)).mp q) (by omega)), show inb (8 : Int32) 1691 = true from rfl, pz_ck, show ix (8 : Int32) = 8 from rfl, hm0]
        by_cases c9 : 9999 ≤ s 3 0
        · rw [if_pos (e9.mpr c9), if_pos c9]
        · rw [if_neg (fun q => c9 (e9.mp q)), if_neg c9]
      by_cases c9 : 9999 ≤ s 3 0
      · obtain ⟨n1, s1, I1, J1, I1', J1', a1, a2, a3, a4⟩ := ih (k + 1) fx fm n v _ _ J _ J' (by omega) (by omega) (by omega) (by omega) hD
        refine ⟨n1, s1, I1, J1, I1', J1', (hx _).mpr ?_, ?_, a3, a4⟩
        · rw [if_pos c, if_pos c9]
          exact a1
        · rw [hmh, if_pos c9, pz_bs, pz_u2]
          exact a2
      · obtain ⟨z, s2, A, A', L', b1, b2, b3, b4, b5, b6, b7⟩ := pe_passNow hD (by rw [e3, rU_no _ _ (by omega)]; omega)
        obtain ⟨n1, s1, I1, J1, I1', J1', a1, a2, a3, a4⟩ := ih (k + 1) fx fm n (v + nI z) s2 A J A' L' (by omega) (by omega) (by omega) (by omega) b3
        refine ⟨n1, s1, I1, J1, I1', J1', (hx _).mpr ?_, ?_, a3, a4⟩
        · rw [if_pos c, if_neg c9, b1, pz_bs, pz_u2, pz_lt]
          exact a1
        · rw [hmh, if_neg c9, b2, pz_bs, pz_u2, pz_bs, pz_u2]
          exact a2
    · obtain ⟨s2, A, B, A', L', b1, b2, b3⟩ := pe_befalls hD J (d := s 3 1) hd (by omega)
      obtain ⟨n1, s1, I1, J1, I1', J1', a1, a2, a3, a4⟩ := ih (k + 1) fx fm (n + 1) v s2 A B A' L' (by omega) (by omega) (by omega) (by omega) b3
      refine ⟨n1, s1, I1, J1, I1', J1', (hx _).mpr ?_, ?_, a3, a4⟩
      · rw [if_neg c, b1, pz_bs, pz_u2]
        exact a1
      · rw [b2, pz_bs, pz_u2]
        exact a2
theorem pu_ages (h : CC s si I T X tN I' J') (J : PJ) (a b : Int32) : ∃ (z : Int32) (s1 : SN) (I1 : PI) (J1 : PJ) (I1' : PI) (J1' : PJ), x_ages I J T X tN a b = some (z, I1, J1) ∧ m_ages I' J' a b = some (z, I1', J1') ∧ CC s1 si I1 T X tN I1' J1' := by
  obtain ⟨b1, e1, q1⟩ := pz_rng a 0 9999 (by omega) (by omega)
  obtain ⟨b2, e2, q2⟩ := pz_rng b 1 40 (by omega) (by omega)
  have ex1 : x_in a 0 9999 = some (bI b1) := by rw [x_in_s]; exact congrArg (fun z => some (bI z)) e1
  have em1 : m_isIn a 0 9999 = some (bI b1) := by rw [m_isIn_s]; exact congrArg (fun z => some (bI z)) e1
  have ex2 : x_in b 1 40 = some (bI b2) := by rw [x_in_s]; exact congrArg (fun z => some (bI z)) e2
  have em2 : m_isIn b 1 40 = some (bI b2) := by rw [m_isIn_s]; exact congrArg (fun z => some (bI z)) e2
  unfold x_ages m_ages
  rw [ex1, em1, pz_bs, pz_bs]
  cases b1 with
  | false => exact ⟨-1, s, I, J, I', J', rfl, rfl, h⟩
  | true =>
  rw [if_neg (show ¬ bI true = 0 by decide), if_neg (show ¬ bI true = 0 by decide), ex2, em2, pz_bs, pz_bs]
  cases b2 with
  | false => exact ⟨-1, s, I, J, I', J', rfl, rfl, h⟩
  | true =>
  obtain ⟨p, -, hp, rfl⟩ := q1 rfl
  obtain ⟨N, hN1, hN, rfl⟩ := q2 rfl
  rw [if_neg (show ¬ bI true = 0 by decide), if_neg (show ¬ bI true = 0 by decide)]
  obtain ⟨A, A', a1, a2, a3, a4, a5, -⟩ := h.keeps2
  -- the draw is set
  have hset : CC (rowS (keepS s) (rU (keepS s 3) 1 (p * 2 + 271))) si (u2 A 3 1 (nI (p * 2 + 271))) T X tN (u2 A' 1 9 (nI (p * 2 + 271))) J' := by
    have hY := a3.yk
    have hY0 := hY
    obtain ⟨w0, w1, w2, ⟨c0, c1, c2, c3, c4, c5⟩, w4, w5, w7, ⟨x0, x1, x2, x3⟩, w8, w9⟩ := hY
    have fx : FYx 3 A (u2 A 3 1 (nI (p * 2 + 271))) := fun k j a b => u2_ne _ _ (a.imp id (fun q => by omega))
    have fm : FYm (keepS s 2 1) A' (u2 A' 1 9 (nI (p * 2 + 271))) J' J' := ⟨fun k a b c d => u2_row _ _ _ _ b, fun j _ => u2_ne _ _ (Or.inl (by omega)), fun j _ b _ => u2_ne _ _ (Or.inr b), fun _ _ => rfl⟩
    refine a3.row (hY0.new (J' := J') (J1' := J') ⟨by rw [rU_no _ _ (by omega)]; exact c0, by rw [rU_at]; omega, by rw [rU_no _ _ (by omega)]; exact c2, fun q hq => by rw [rU_no _ _ (by omega), rU_no _ _ (by omega), rU_no _ _ (by omega)]; exact c3 q hq, fun q hq hq2 => by rw [rU_no _ _ (by omega), rU_no _ _ (by omega), rU_no _ _ (by omega)]; exact c4 q hq hq2, fun i hi => ?_⟩ (fun j hj => ?_) fx fm ?_ ?_ (fun q hq => ?_)) fx fm (fun j hj => rU_no _ _ (by omega))
    · rw [rU_no _ _ (by omega)] at hi
      rw [rU_no _ _ (by omega), rU_no _ _ (by omega), rU_no _ _ (by omega), rU_no _ _ (by omega)]
      exact c5 i hi
    · by_cases c : j = 1
      · subst c
        rw [u2_eq, rU_at]
      · rw [u2_ne _ _ (Or.inr c), rU_no _ _ c]
        exact w4 j hj
    · rw [u2_ne _ _ (Or.inr (by omega)), rU_no _ _ (by omega)]
      exact x2
    · rw [u2_eq, rU_at]
    · rw [u2_ne _ _ (Or.inr (by omega)), u2_ne _ _ (Or.inr (by omega)), u2_ne _ _ (Or.inr (by omega)), rU_no _ _ (by omega), rU_no _ _ (by omega), rU_no _ _ (by omega)]
      exact x3 q hq
  obtain ⟨n1, s1, I1, J1, I1', J1', d1, d2, d3, d4⟩ := pe_agesL hN N 0 fu fu 0 0 _ _ J _ J' (by omega) (fu_gt (by omega)) (fu_gt (by omega)) (Nat.le_refl _) hset
  have hx0 : I1 3 0 = nI (s1 3 0) := d3.1.2.2.1.1 3 0 (by omega) (by omega)
  have hm0 : I1' 1 8 = nI (s1 3 0) := d3.1.2.2.2.2.1.1.2.2.2.2.2.2.2.2.1
  rw [a1, a2, pz_bs, pz_bs, show inb (9 : Int32) 1691 = true from rfl, show inb (8 : Int32) 1691 = true from rfl, pz_ck, show ix (1 : Int32) = 1 from rfl, show ix (9 : Int32) = 9 from rfl, show ix (0 : Int32) = 0 from rfl, show ix (8 : Int32) = 8 from rfl, show (2 : Int32) = nI 2 from rfl, show (271 : Int32) = nI 271 from rfl, pz_mul, pz_add, pz_lt, pz_lt, show (0 : Int32) = nI 0 from rfl]
  rw [show nI 0 = (0 : Int32) from rfl] at d1
  rw [show (nI 0 : Int32) = 0 from rfl, d1]
  rw [show nI 0 = (0 : Int32) from rfl] at d2
  rw [d2, pz_bs, pz_bs, pz_u3, pz_u2, decide_eq_true (show n1 ≤ 40 by omega), pz_ck, pz_ck, hx0, hm0]
  exact ⟨_, s1, I1, J1, I1', J1', rfl, rfl, d3⟩
end AH
