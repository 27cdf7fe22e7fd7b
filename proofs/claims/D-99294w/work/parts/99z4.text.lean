/-! text() of both -/
section MEM
variable {s si : SN} {I : PI} {J : PJ} {T : PT} {X : TS} {tN : XCo} {I' : PI} {J' : PJ}
theorem CC.txt (h : CC s si I T X tN I' J') {s1 : SN} {I1 : PI} {T1 : PT} {X1 : TS} {I1' : PI} {J1' : PJ} (hx : ∀ k, k ≠ 0 → k ≠ 113 → k ≠ 2 → I1 k = I k) (hV : VSt s1) (hX : XR s1 I1) (hM : MR s1 (I1' 1)) (hk : ∀ k, 2 ≤ k → k < 10 → k ≠ 3 → k ≠ 9 → I1' k = I' k) (hn : s 2 3 ≤ s1 2 3) (c1 : CTex s1 (T1 10) X1 (I1' 3)) (c2 : CTex si (T1 66) X1 (I1' 3)) (t1 : I1 0 3 = nI 0) (t2 : I1' 0 9 = nI 0) (f1 : I1 0 4 = I1' 0 10) (f2 : I1 0 5 = I1' 0 11) (h0 : ∀ j, 25 ≤ j → I1' 0 j = I' 0 j) (hJ : ∀ k, k ≠ 0 → J1' k = J' k) (hN : X1 (tN 0) = X (tN 0)) : CC s1 si I1 T1 X1 tN I1' J1' := by
  obtain ⟨⟨b1, b2, b3, b4, b5, b6, b7, b8, b9⟩, -, -, r3, r4, r5, r6, r7⟩ := h
  refine ⟨⟨hV, b2, hX, ⟨fun k j hk hj => ?_, ?_⟩, hM, ?_, by omega, c1, c2⟩, ⟨0, by omega, t1, t2, fun j hj => absurd hj (Nat.not_lt_zero _)⟩, ⟨f1, f2⟩, fun i d hi hd => ?_, fun k hk' => ?_, r5.of (h0 29 (by omega)) (h0 30 (by omega)) (h0 31 (by omega)), (h0 36 (by omega)).trans r6, hN.trans r7⟩
  · show I1 (k + 56) j = nI (si k j)
    rw [hx _ (by omega) (by omega) (by omega)]
    exact b4.1 k j hk hj
  · show I1 (2 + 56) 4 = nI (si 2 4) - nI 1
    rw [hx _ (by omega) (by omega) (by omega)]
    exact b4.2
  · rw [hk 2 (by omega) (by omega) (by omega) (by omega)]; exact b6
  · rw [hx _ (by omega) (by omega) (by omega), hx _ (by omega) (by omega) (by omega), hk 4 (by omega) (by omega) (by omega) (by omega), hk 5 (by omega) (by omega) (by omega) (by omega)]
    exact r3 i d hi hd
  · rw [hk 6 (by omega) (by omega) (by omega) (by omega), hJ 7 (by omega), hJ 8 (by omega)]
    exact r4 k hk'
theorem row_3 {A B : PI} {v : Int32} (h : A 1 = B 1) : u2 A 1 3 v 1 = u2 B 1 3 v 1 := by
  funext j
  by_cases c : j = 3
  · rw [pz_at _ _ rfl c, pz_at _ _ rfl c]
  · rw [pz_no _ _ (Or.inr c), pz_no _ _ (Or.inr c), h]
/-- one text more -/
theorem txt_V (h : VSt s) (ht : s 2 3 < 4) : VSt (u2 s 2 3 (s 2 3 + 1)) := by
  obtain ⟨⟨v0, v1, v2, v3, v4, v5, v6, v7⟩, vr, vf, vs, va, ve, vt⟩ := id h
  refine ⟨?_, ?_, ?_, ?_, ?_, ?_, ?_⟩
  · refine ⟨?_, ?_, ?_, ?_, ?_, ?_, ?_, ?_⟩ <;> (first | (simp (disch := omega) only [pz_row, pz_at, pz_no]; done) | (simp (disch := omega) only [pz_row, pz_at, pz_no]; assumption) | (simp (disch := omega) only [pz_row, pz_at, pz_no]; omega))
  · simp (disch := omega) only [pz_row, pz_at, pz_no]
    exact vr
  · simp (disch := omega) only [pz_row, pz_at, pz_no]
    exact vf
  · simp (disch := omega) only [pz_row, pz_at, pz_no]
    exact vs
  · simp (disch := omega) only [pz_row, pz_at, pz_no]
    exact va
  · simp (disch := omega) only [pz_row, pz_at, pz_no]
    exact ve
  · simp (disch := omega) only [pz_row, pz_at, pz_no]
    exact vt
theorem txt_M (h : VSt s) (hM : MR s (I' 1)) : MR (u2 s 2 3 (s 2 3 + 1)) (u2 I' 1 3 (nI (s 2 3 + 1)) 1) := by
  obtain ⟨⟨v0, v1, v2, v3, v4, v5, v6, v7⟩, vr, vf, vs, va, ve, vt⟩ := id h
  obtain ⟨⟨m0, m1, m2, m3, m4, m5, m6, m7, m8, m9, m10⟩, mp, mf, ms, ma, me, mb, mt⟩ := id hM
  refine ⟨?_, ?_, ?_, ?_, ?_, ?_, ?_, ?_⟩
  · refine ⟨?_, ?_, ?_, ?_, ?_, ?_, ?_, ?_, ?_, ?_, ?_⟩ <;> (first | (simp (disch := omega) only [pz_row, pz_at, pz_no]; done) | (simp (disch := omega) only [pz_row, pz_at, pz_no]; assumption) | (simp (disch := omega) only [pz_row, pz_at, pz_no]; omega))
  · exact mp.c v1 (by simp (disch := omega) only [pz_row, pz_at, pz_no]) (by simp (disch := omega) only [pz_row, pz_at, pz_no]) (fun i h1 h2 => (by simp (disch := omega) only [pz_row, pz_at, pz_no]))
  · exact mf.c (by simp (disch := omega) only [pz_row, pz_at, pz_no]) (by simp (disch := omega) only [pz_row, pz_at, pz_no]) (fun i h1 h2 => (by simp (disch := omega) only [pz_row, pz_at, pz_no]))
  · exact ms.c v2 (by simp (disch := omega) only [pz_row, pz_at, pz_no]) (by simp (disch := omega) only [pz_row, pz_at, pz_no]) (fun i h1 h2 => (by simp (disch := omega) only [pz_row, pz_at, pz_no]))
  · exact ma.c v6 (by simp (disch := omega) only [pz_row, pz_at, pz_no]) (fun i hi => (by simp (disch := omega) only [pz_row, pz_at, pz_no])) (fun i h1 h2 => (by simp (disch := omega) only [pz_row, pz_at, pz_no]))
  · exact me.c v7 (by simp (disch := omega) only [pz_row, pz_at, pz_no]) (fun i hi => (by simp (disch := omega) only [pz_row, pz_at, pz_no])) (fun i h1 h2 => (by simp (disch := omega) only [pz_row, pz_at, pz_no]))
  · exact mb.c vr.2.2.1 (by simp (disch := omega) only [pz_row, pz_at, pz_no]) (fun i h1 h2 => (by simp (disch := omega) only [pz_row, pz_at, pz_no]))
  · exact mt.c h (by simp (disch := omega) only [pz_row, pz_at, pz_no]) (by simp (disch := omega) only [pz_row, pz_at, pz_no]) (fun i hi => (by simp (disch := omega) only [pz_row, pz_at, pz_no])) (fun i h1 h2 => (by simp (disch := omega) only [pz_row, pz_at, pz_no])) (fun p w h1 h2 h3 => (by simp (disch := omega) only [pz_row, pz_at, pz_no]))
/-- text(): both answer the same; where a text was told, its place is given by the caller -/
theorem pu_text (h : CC s si I T X tN I' J') : ∃ (I1 : PI) (c z : Nat) (r : Int32) (o : Option TxA) (I1' : PI) (J1' : PJ), x_text I = some (I1, (c, z), r, o) ∧ c ≤ 20001 ∧ z ≤ 80008 ∧ m_text I' J' = some (r, I1', J1') ∧ (o = none → CC s si I1 T X tN I1' J1') ∧
    ∀ q, o = some q → ix (I 2 (ix (3 : Int32))) = s 2 3 ∧ s 2 3 < 4 ∧ ∀ (y : Nat) (X1 : TS), X1 y = some q → (∀ w q, X w = some q → X1 w = some q) → CC (u2 s 2 3 (s 2 3 + 1)) si I1 (u2 T 10 (s 2 3) (some y)) X1 tN I1' J1' := by
  have hV := h.1.1
  have hX := h.1.2.2.1
  have hM := h.1.2.2.2.2.1
  have v3 := hV.1.2.2.2.1
  have hx3 : I 2 3 = nI (s 2 3) := hX.1 2 3 (by omega) (by omega)
  have hm3 : I' 1 3 = nI (s 2 3) := hM.1.2.2.2.1
  have e3 : ix (3 : Int32) = 3 := rfl
  unfold x_text m_text
  rw [e3, hx3, hm3, show inb (3 : Int32) 1691 = true from rfl, pz_ck]
  by_cases c4 : s 2 3 = 4
  · rw [if_pos (show nI (s 2 3) = 4 from by rw [c4]; rfl), if_pos (show nI (s 2 3) = 4 from by rw [c4]; rfl)]
    exact ⟨I, 0, 0, -1, none, I', J', rfl, by omega, by omega, rfl, fun _ => h, fun q hq => by cases hq⟩
  have c4' : ¬ nI (s 2 3) = 4 := fun q => c4 ((nI_eq (b := 4) (by omega) (by omega)).mp q)
  rw [if_neg c4', if_neg c4']
  obtain ⟨n, hn, t1, t2, t3⟩ := h.2.1
  obtain ⟨b, hb⟩ : ∃ b : Nat → Nat, ∀ j, j < n → b j < 256 ∧ I 113 j = byX (b j) ∧ I' 9 j = nI (b j) := ⟨fun j => if hj : j < n then Classical.choose (t3 j hj) else 0, fun j hj => by
    dsimp only
    rw [dif_pos hj]
    exact Classical.choose_spec (t3 j hj)⟩
  have hT : TIn b n (tkI I) := ⟨hn, t1, fun j hj => ⟨(hb j hj).1, (hb j hj).2.1⟩⟩
  have hMI : MIn b n I' := ⟨hn, t2, fun j hj => ⟨(hb j hj).1, (hb j hj).2.2⟩⟩
  have frx : ∀ (f : Nat → Int32) k, k ≠ 0 → k ≠ 113 → tpI (tx_I1 I) f k = I k := fun f k a1 a2 => (if_neg a2).trans ((u2_row _ _ _ _ a1).trans (u2_row _ _ _ _ a1))
  have frz : ∀ (f : Nat → Int32) j, tpI (tx_I1 I) f 0 j = tx_I1 I 0 j := fun f j => rfl
  have exr : ∀ {T1 : PT} {X1 : TS}, (∀ w q, X w = some q → X1 w = some q) → X1 (tN 0) = X (tN 0) := fun hw => by
    have := h.2.2.2.2.2.2.2
    rw [this]
    exact hw _ _ this
  rcases text_sim (t := s 2 3) (fun j hj => (hb j hj).1) (by omega) hn hT ⟨rfl, rfl, rfl⟩ hMI hm3 (J' := J') with ⟨e, pl, I2, c, z, I2', J2', a1, a2, a3, a4, a5, a6, a7, a8, a9⟩ | ⟨q, I2, c, z, I2', J2', a3, a4, a5, a6, a7, a8, a9⟩
  · rw [a3, a6, pz_bs, pz_bs, pz_u3, pz_lt]
    have e10 : u2 I2' 0 10 (nI e) 0 10 = nI e := pz_at _ _ rfl rfl
    have e13 : u2 I2' 0 10 (nI e) 0 13 = nI pl := (pz_no _ _ (Or.inr (by decide))).trans a7
    have ene : ¬ nI e = 0 := nI_ne0 (by omega) (by omega)
    rw [e10, if_neg ene, e13]
    unfold m_text_j36
    rw [pz_lt, pz_lt]
    have e10' : u2 (u2 (u2 I2' 0 10 (nI e)) 0 11 (nI pl)) 0 9 0 0 10 = nI e := (pz_no _ _ (Or.inr (by decide))).trans ((pz_no _ _ (Or.inr (by decide))).trans e10)
    rw [e10', if_neg ene]
    refine ⟨_, 1 + c, 8 + z, _, none, _, J2', rfl, by omega, by omega, rfl, fun _ => ?_, fun q hq => by cases hq⟩
    have rk' : ∀ k, k ≠ 0 → u2 (u2 (u2 I2' 0 10 (nI e)) 0 11 (nI pl)) 0 9 0 k = I2' k := fun k hk => (u2_row _ _ _ _ hk).trans ((u2_row _ _ _ _ hk).trans (u2_row _ _ _ _ hk))
    have hI1 : ∀ k, k ≠ 0 → k ≠ 113 → u2 (u2 (u2 (tpI (tx_I1 I) (I2 1)) 0 4 (nI e)) 0 5 (nI pl)) 0 3 0 k = I k := fun k h1 h2 => (u2_row _ _ _ _ h1).trans ((u2_row _ _ _ _ h1).trans ((u2_row _ _ _ _ h1).trans (frx _ k h1 h2)))
    refine h.txt (fun k h1 h2 h3 => hI1 k h1 h2) hV ⟨fun k j hk hj => ?_, ?_⟩ ?_ (fun k h1 h2 h3 h4 => (rk' k (by omega)).trans (a8.1 k (by omega) (by omega) (by omega))) (Nat.le_refl _) ?_ ?_ (pz_at _ _ rfl rfl) (pz_at _ _ rfl rfl) ?_ ?_ (fun j hj => ?_) (fun k hk => funext fun j => a9 k j (Or.inl hk)) rfl
    · rw [hI1 k (by omega) (by omega)]
      exact hX.1 k j hk hj
    · rw [hI1 2 (by omega) (by omega)]
      exact hX.2
    · rw [rk' 1 (by omega), a8.1 1 (by omega) (by omega) (by omega)]
      exact hM
    · intro t ht
      obtain ⟨y, q, h1, h2, h3⟩ := h.1.2.2.2.2.2.2.2.1 t ht
      exact ⟨y, q, h1, h2, h3.of fun j j1 j2 => by rw [rk' 3 (by omega)]; exact a8.2.2 j (by omega)⟩
    · intro t ht
      have := h.1.2.2.2.2.2.2.1
      obtain ⟨y, q, h1, h2, h3⟩ := h.1.2.2.2.2.2.2.2.2 t ht
      exact ⟨y, q, h1, h2, h3.of fun j j1 j2 => by rw [rk' 3 (by omega)]; exact a8.2.2 j (by omega)⟩
    · rw [e10']
      exact (pz_no _ _ (Or.inr (by decide))).trans ((pz_no _ _ (Or.inr (by decide))).trans (pz_at _ _ rfl rfl))
    · rw [show u2 (u2 (u2 I2' 0 10 (nI e)) 0 11 (nI pl)) 0 9 0 0 11 = nI pl from (pz_no _ _ (Or.inr (by decide))).trans (pz_at _ _ rfl rfl)]
      exact (pz_no _ _ (Or.inr (by decide))).trans (pz_at _ _ rfl rfl)
    · refine (pz_no _ _ (Or.inr (by omega))).trans ((pz_no _ _ (Or.inr (by omega))).trans ((pz_no _ _ (Or.inr (by omega))).trans (a8.2.1 j ?_)))
      simp
      omega
  · rw [a3, a6, pz_bs, pz_bs, pz_u3, pz_lt]
    have e10 : u2 I2' 0 10 0 0 10 = (0 : Int32) := pz_at _ _ rfl rfl
    rw [e10, if_pos rfl]
    unfold m_text_j36
    rw [pz_lt, pz_lt]
    have e10' : u2 (u2 (u2 I2' 0 10 0) 0 11 (-1)) 0 9 0 0 10 = (0 : Int32) := (pz_no _ _ (Or.inr (by decide))).trans ((pz_no _ _ (Or.inr (by decide))).trans e10)
    have rk' : ∀ k, k ≠ 0 → u2 (u2 (u2 I2' 0 10 0) 0 11 (-1)) 0 9 0 k = I2' k := fun k hk => (u2_row _ _ _ _ hk).trans ((u2_row _ _ _ _ hk).trans (u2_row _ _ _ _ hk))
    have e13 : u2 (u2 (u2 I2' 0 10 0) 0 11 (-1)) 0 9 0 1 3 = nI (s 2 3) := by
      rw [rk' 1 (by omega), a8.1 1 (by omega) (by omega) (by omega)]
      exact hm3
    rw [e10', if_pos rfl, show inb (3 : Int32) 1691 = true from rfl, pz_ck, pz_ck, e3, e13, show (1 : Int32) = nI 1 from rfl, pz_add, pz_lt, pz_inb (show s 2 3 < 4 by omega) (by omega), pz_ck]
    have e14 : u2 (u2 (u2 (u2 I2' 0 10 0) 0 11 (-nI 1)) 0 9 0) 1 3 (nI (s 2 3 + 1)) 1 3 = nI (s 2 3 + 1) := pz_at _ _ rfl rfl
    rw [e14]
    refine ⟨_, 1 + c, 8 + z, _, some q, _, J2', rfl, by omega, by omega, rfl, (fun hq => by cases hq), fun q' hq => ?_⟩
    cases hq
    refine ⟨pz_ix (by omega), by omega, fun y X1 hy hw => ?_⟩
    have hI1 : ∀ k, k ≠ 0 → k ≠ 113 → k ≠ 2 → u2 (u2 (tpI (tx_I1 I) (I2 1)) 0 3 0) 2 3 (nI (s 2 3 + 1)) k = I k := fun k h1 h2 h3 => (u2_row _ _ _ _ h3).trans ((u2_row _ _ _ _ h1).trans (frx _ k h1 h2))
    have rk1 : ∀ k, k ≠ 0 → k ≠ 1 → u2 (u2 (u2 (u2 I2' 0 10 0) 0 11 (-nI 1)) 0 9 0) 1 3 (nI (s 2 3 + 1)) k = I2' k := fun k hk hk1 => (u2_row _ _ _ _ hk1).trans (rk' k hk)
    have z0 : ∀ j, j ≠ 9 → j ≠ 10 → j ≠ 11 → u2 (u2 (u2 (u2 I2' 0 10 0) 0 11 (-nI 1)) 0 9 0) 1 3 (nI (s 2 3 + 1)) 0 j = I2' 0 j := fun j h1 h2 h3 => (pz_no _ _ (Or.inl (by decide))).trans ((pz_no _ _ (Or.inr h1)).trans ((pz_no _ _ (Or.inr h3)).trans (pz_no _ _ (Or.inr h2))))
    refine h.txt hI1 (txt_V hV (by omega)) ⟨fun k j hk hj => ?_, ?_⟩ ?_ (fun k h1 h2 h3 h4 => (rk1 k (by omega) (by omega)).trans (a8.1 k (by omega) (by omega) (by omega))) (by rw [pz_at _ _ rfl rfl]; omega) ?_ ?_ ?_ ?_ ?_ ?_ (fun j hj => ?_) (fun k hk => funext fun j => a9 k j (Or.inl hk)) (exr (T1 := T) hw)
    · by_cases ck : k = 2 ∧ j = 3
      · rw [pz_at _ _ ck.1 ck.2, pz_at _ _ ck.1 ck.2]
      · have e1 : u2 (u2 (tpI (tx_I1 I) (I2 1)) 0 3 0) 2 3 (nI (s 2 3 + 1)) k j = I k j := (pz_no _ _ (by omega)).trans ((pz_no _ _ (Or.inl (by omega))).trans (congrFun (frx _ k (by omega) (by omega)) j))
        refine e1.trans ((hX.1 k j hk hj).trans ?_)
        rw [pz_no _ _ (by omega)]
    · have e1 : u2 (u2 (tpI (tx_I1 I) (I2 1)) 0 3 0) 2 3 (nI (s 2 3 + 1)) 2 4 = I 2 4 := (pz_no _ _ (Or.inr (by decide))).trans ((pz_no _ _ (Or.inl (by omega))).trans (congrFun (frx _ 2 (by omega) (by omega)) 4))
      refine e1.trans (hX.2.trans ?_)
      rw [pz_no _ _ (Or.inr (by decide))]
    · rw [row_3 (A := u2 (u2 (u2 I2' 0 10 0) 0 11 (-nI 1)) 0 9 0) (B := I') ((rk' 1 (by omega)).trans (a8.1 1 (by omega) (by omega) (by omega)))]
      exact txt_M hV hM
    · intro t ht
      rw [pz_at _ _ rfl rfl] at ht
      rw [rk1 3 (by omega) (by omega)]
      by_cases ct : t = s 2 3
      · subst ct
        exact ⟨y, q, pz_at _ _ rfl rfl, hy, a7⟩
      · obtain ⟨y', q', h1, h2, h3⟩ := h.1.2.2.2.2.2.2.2.1 t (by omega)
        exact ⟨y', q', (pz_no _ _ (Or.inr ct)).trans h1, hw _ _ h2, h3.of fun j j1 j2 => a8.2.2 j (by omega)⟩
    · intro t ht
      rw [rk1 3 (by omega) (by omega)]
      have := h.1.2.2.2.2.2.2.1
      obtain ⟨y', q', h1, h2, h3⟩ := h.1.2.2.2.2.2.2.2.2 t ht
      exact ⟨y', q', (pz_no _ _ (Or.inl (by decide))).trans h1, hw _ _ h2, h3.of fun j j1 j2 => a8.2.2 j (by omega)⟩
    · exact (pz_no _ _ (Or.inl (by decide))).trans (pz_at _ _ rfl rfl)
    · exact (pz_no _ _ (Or.inl (by decide))).trans (pz_at _ _ rfl rfl)
    · refine Eq.trans ?_ (show (0 : Int32) = _ from ?_)
      · exact (pz_no _ _ (Or.inl (by decide))).trans ((pz_no _ _ (Or.inr (by decide))).trans ((frz _ 4).trans ((pz_no (u2 I 0 4 0) _ (Or.inr (by decide))).trans (pz_at _ _ rfl rfl))))
      · exact ((pz_no _ _ (Or.inl (by decide))).trans e10').symm
    · refine Eq.trans (b := (-1 : Int32)) ?_ ?_
      · exact (pz_no _ _ (Or.inl (by decide))).trans ((pz_no _ _ (Or.inr (by decide))).trans ((frz _ 5).trans (pz_at (u2 I 0 4 0) _ rfl rfl)))
      · exact ((pz_no _ _ (Or.inl (by decide))).trans ((pz_no _ _ (Or.inr (by decide))).trans (pz_at _ _ rfl rfl))).symm
    · refine (z0 j (by omega) (by omega) (by omega)).trans (a8.2.1 j ?_)
      simp
      omega
end MEM
