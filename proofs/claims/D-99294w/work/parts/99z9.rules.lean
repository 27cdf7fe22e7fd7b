/-! what laws say, of both: fades, learns; who may teach -/
/-- a row of the class at plane k2, the same row with the reference; what stands still -/
def YK (s : SN) (r : Nat → Nat) (k2 : Nat) (I I' : PI) : Prop := (k2 = 3 ∨ k2 = 121) ∧ s 2 0 ≤ 8 ∧ s 2 1 ≤ 6 ∧ VRow r (s 2 0) (s 2 1) ∧ (∀ j, j < 141 → I k2 j = nI (r j)) ∧ (I 2 0 = nI (s 2 0) ∧ I 2 1 = nI (s 2 1)) ∧ (∀ f, f < 8 → I 4 f = nI (s 4 f) ∧ I 5 f = nI (s 5 f)) ∧ RM r (s 2 0) (s 2 1) (I' 1) ∧ I' 1 9 = nI (r 1) ∧ ∀ f, f < 8 → I' 1 (41 + 2 * f) = nI (s 4 f) ∧ I' 1 (41 + 2 * f + 1) = nI (s 5 f)
section RU
variable {s si : SN} {r : Nat → Nat} {k2 : Nat} {I : PI} {T : PT} {X : TS} {tN : XCo} {I' : PI} {J' : PJ}
theorem YK.r8 (h : YK s r k2 I I') {p : Nat} (hp : p < 6) : r (8 + p) < 256 := by
  obtain ⟨-, h1, h2, h3, -⟩ := h
  by_cases c : p < s 2 1
  · have := (h3.2.2.2.1 p c).2.1
    have h256 : 2 ^ s 2 0 ≤ 2 ^ 8 := Nat.pow_le_pow_right (by decide) h1
    omega
  · have := (h3.2.2.2.2.1 p (by omega) hp).2.1
    omega
theorem YK.names (h : YK s r k2 I I') {p f : Nat} (hp : p < s 2 1) (hf : f < 8) {B : PI} (hB : nmV s r p f (B 116)) : ∃ N, m_name I' (nI p) (nI f) = some N ∧ (∀ k, k ≠ 11 → N k = I' k) ∧ (∀ j, j < 8 → N 11 j = B 116 j) ∧ (∀ I2 : PI, I2 1 = N 1 → ∀ y, m_knownOf I2 y = some (knownL (B 116) y)) ∧ N 11 4 = nI (r (2 + p)) := by
  have h' := h
  obtain ⟨h0, h1, h2, h3, h4, h5, h6, h7, h8, h9⟩ := h
  obtain ⟨n0, n1, n2, n3, n4, n5, n6, n7, n8⟩ := hB
  obtain ⟨N, a1, a2, b0, b1, b2, b3, b4, b5, b6, b7⟩ := pm_name (s := s) (f := f) h2 hp hf h7 (h'.r8 (by omega)) (h9 f hf).1 (h9 f hf).2
  refine ⟨N, a1, a2, fun j hj => ?_, fun I2 hI2 y => pm_knownOf h1 h2 h3 h7 n8 (hI2.trans (a2 1 (by decide))) y, b4⟩
  have hc : j = 0 ∨ j = 1 ∨ j = 2 ∨ j = 3 ∨ j = 4 ∨ j = 5 ∨ j = 6 ∨ j = 7 := by omega
  rcases hc with rfl | rfl | rfl | rfl | rfl | rfl | rfl | rfl
  · rw [b0, n0]
  · rw [b1, n1]
  · rw [b2, n2]
  · rw [b3, n3]
  · rw [b4, n4]
  · rw [b5, n5]
  · rw [b6, n6]
  · rw [b7, n7]
theorem held_20 : ∀ a, a < 11 → x_held (Int32.toInt64 (nI a)) (nI 0) 10 = some (nI a) := by decide +kernel
theorem nI_rng {z : Int32} {n : Nat} (hn : n < 2 ^ 31) (h0 : (0 : Int32) ≤ z) (h1 : z ≤ nI n) : ∃ w, w ≤ n ∧ z = nI w := by
  have h0' : ¬ z < 0 := fun q => by
    rw [Int32.lt_iff_toInt_lt] at q
    rw [Int32.le_iff_toInt_le] at h0
    omega
  obtain ⟨j, hj, rfl⟩ := nI_of h0'
  exact ⟨j, (nI_leI hj hn).mp h1, rfl⟩
theorem pe_fades (h : YK s r k2 I I') {y : Nat} {Tt : Int32} (hT : TxR X (I' 3) y Tt) {p f : Nat} (hp : p < s 2 1) (hf : f < 8) : ∃ w B B' K', w ≤ 10 ∧ x_says I X y k2 (nI p) (nI f) 0 = some (nI w, B) ∧ m_fadesOf I' J' Tt (nI p) (nI f) = some (nI w, B', K') ∧ SyX I B ∧ SyM I' B' J' K' := by
  have h' := h
  obtain ⟨h0, h1, h2, h3, h4, h5, h6, h7, h8, h9⟩ := h
  obtain ⟨B, b1, b2, b3⟩ := px_says (I := I) (X := X) (s := s) (r := r) h0 (p := p) (f := f) (by omega) hf h4 (fun p hp => h'.r8 hp) (h6 f hf).1 (h6 f hf).2 y 0 (by omega)
  obtain ⟨N, a1, a2, a3, a4, a5⟩ := h'.names hp hf b2
  have hage := (h3.2.2.2.1 p hp).1
  obtain ⟨q, B', K', c1, c2, c3, c4⟩ := pe_law (J' := J') (law := 0) (lo := 0) (hi := 10) (w := nI (r (2 + p)) / 20) (by omega) (by decide) (A := N) (by rw [a2 3 (by decide)]; exact hT) a3 a4
  have hm : ∀ z, m_says N J' Tt (nI 0) (nI (r (2 + p)) / 20) 0 10 = some (z, B', K') → m_fadesOf I' J' Tt (nI p) (nI f) = some (z, B', K') := fun z hz => by
    unfold m_fadesOf
    rw [a1, pz_bs, show inb (4 : Int32) 8 = true from rfl, pz_ck, show ix (4 : Int32) = 4 from rfl, a5, show (0 : Int32) = nI 0 from rfl]
    rw [show (0 : Int32) = nI 0 from rfl] at hz
    rw [hz]
    rfl
  have hsm : SyM I' B' J' K' := ⟨fun k k1 k2 => (c2 k k2).trans (a2 k k1), c3⟩
  rw [show nI 0 = (0 : Int32) from rfl] at b3 c4
  rcases c4 with ⟨d1, d2⟩ | ⟨F, z, d1, d2, d3, d4, d5⟩
  · have hdiv : nI (r (2 + p)) / nI 20 = nI (r (2 + p) / 20) := pz_div (by omega) (by omega) (by omega)
    have hd2 : nI (r (2 + p)) / 20 = nI (r (2 + p) / 20) := hdiv
    refine ⟨r (2 + p) / 20, B, B', K', by omega, ?_, ?_, b1, hsm⟩
    · rw [b3, c1, pz_bs, d1, hdiv]
      show ((x_held (Int32.toInt64 (nI (r (2 + p) / 20))) (nI 0) 10).bind fun v22 => some (v22, B)) = _
      rw [held_20 _ (by omega)]
      rfl
    · rw [hd2] at hm d2
      exact hm _ d2
  · obtain ⟨w, hw, rfl⟩ := nI_rng (n := 10) (by decide) d3 d4
    refine ⟨w, B, B', K', hw, ?_, hm _ d5, b1, hsm⟩
    rw [b3, c1, pz_bs, d1]
    show ((x_held (F (B 116)) 0 10).bind fun v => some (v, B)) = _
    rw [d2]
    rfl
theorem pe_learns (h : YK s r k2 I I') {y : Nat} (hT : TxR X (I' 3) y (I' 1 4)) {p f : Nat} (hp : p < s 2 1) (hf : f < 8) : ∃ z B B' K', x_says I X y k2 (nI p) (nI f) 1 = some (z, B) ∧ m_learnsOf I' J' (nI p) (nI f) = some (z, B', K') ∧ SyX I B ∧ SyM I' B' J' K' := by
  have h' := h
  obtain ⟨h0, h1, h2, h3, h4, h5, h6, h7, h8, h9⟩ := h
  obtain ⟨B, b1, b2, b3⟩ := px_says (I := I) (X := X) (s := s) (r := r) h0 (p := p) (f := f) (by omega) hf h4 (fun p hp => h'.r8 hp) (h6 f hf).1 (h6 f hf).2 y 1 (by omega)
  obtain ⟨N, a1, a2, a3, a4, a5⟩ := h'.names hp hf b2
  obtain ⟨q, B', K', c1, c2, c3, c4⟩ := pe_law (J' := J') (law := 1) (lo := -99) (hi := 99) (w := 1) (by omega) (by decide) (A := N) (by rw [a2 3 (by decide)]; exact hT) a3 a4
  have hm : ∀ z, m_says N J' (I' 1 4) (nI 1) 1 (-99) 99 = some (z, B', K') → m_learnsOf I' J' (nI p) (nI f) = some (z, B', K') := fun z hz => by
    unfold m_learnsOf
    rw [a1, pz_bs, show inb (4 : Int32) 1691 = true from rfl, pz_ck, show ix (4 : Int32) = 4 from rfl, a2 1 (by decide)]
    rw [show m_says N J' (I' 1 4) 1 1 (-99) 99 = some (z, B', K') from hz]
    rfl
  have hsm : SyM I' B' J' K' := ⟨fun k k1 k2 => (c2 k k2).trans (a2 k k1), c3⟩
  rw [show nI 1 = (1 : Int32) from rfl] at b3 c4
  rcases c4 with ⟨d1, d2⟩ | ⟨F, z, d1, d2, d3, d4, d5⟩
  · refine ⟨1, B, B', K', ?_, hm _ d2, b1, hsm⟩
    rw [b3, c1, pz_bs, d1]
    show ((x_held 1 (-99) 99).bind fun v22 => some (v22, B)) = _
    rw [show x_held 1 (-99) 99 = some 1 from by decide +kernel]
    rfl
  · refine ⟨z, B, B', K', ?_, hm _ d5, b1, hsm⟩
    rw [b3, c1, pz_bs, d1]
    show ((x_held (F (B 116)) (-99) 99).bind fun v => some (v, B)) = _
    rw [d2]
    rfl
theorem CC.yk (h : CC s si I T X tN I' J') : YK s (s 3) 3 I I' := by
  have hV := h.1.1
  have hX := h.1.2.2.1
  have hM := h.1.2.2.2.2.1
  have hx := hX.1
  exact ⟨Or.inl rfl, hV.1.1, hV.1.2.1, hV.2.1, fun j _ => hx 3 j (by omega) (by omega), ⟨hx 2 0 (by omega) (by omega), hx 2 1 (by omega) (by omega)⟩, fun f _ => ⟨hx 4 f (by omega) (by omega), hx 5 f (by omega) (by omega)⟩, ⟨hM.1.1, hM.1.2.1, hM.1.2.2.2.2.2.2.2.2.1, hM.2.1⟩, hM.1.2.2.2.2.2.2.2.2.2.1, hM.2.2.1⟩
/-- the rules that hold now -/
theorem pe_rules (h : CC s si I T X tN I' J') : ∃ y, x_rules I T tN = some y ∧ TxR X (I' 3) y (I' 1 4) := by
  have hV := h.1.1
  have hX := h.1.2.2.1
  have hM := h.1.2.2.2.2.1
  obtain ⟨v0, v1, v2, v3, v4, v5, v6, v7⟩ := hV.1
  have e4 : I' 1 4 = nI (s 2 4) - nI 1 := hM.1.2.2.2.2.1
  have hx3 : I 2 4 = nI (s 2 4) - nI 1 := hX.2
  unfold x_rules
  rw [show ix (4 : Int32) = 4 from rfl, hx3, e4]
  by_cases c : s 2 4 = 0
  · rw [c]
    refine ⟨tN 0, if_pos rfl, Or.inl ⟨by decide, h.2.2.2.2.2.2.2⟩⟩
  · rw [pz_sub (by omega), if_neg (show ¬ nI (s 2 4 - 1) = -1 from pz_ne1 (by omega)), pz_inb (by omega) (by omega), pz_ck, pz_ix (by omega)]
    obtain ⟨y, q, h1, h2, h3⟩ := h.1.2.2.2.2.2.2.2.1 (s 2 4 - 1) (by omega)
    rw [h1, pz_bs]
    exact ⟨y, rfl, Or.inr ⟨s 2 4 - 1, q, by omega, rfl, h2, h3⟩⟩
theorem CC.sy {B B' : PI} {K' : PJ} (h : CC s si I T X tN I' J') (hx : SyX I B) (hm : SyM I' B' J' K') : CC s si B T X tN B' K' := by
  have hX := h.1.2.2.1
  refine h.step ⟨fun k hk => hx k (by omega), by rw [hx 0 (by omega)], by rw [hx 0 (by omega)], by rw [hx 0 (by omega)]⟩ ⟨fun k k1 k2 => hm.1 k (by omega) (by omega), by rw [hm.1 0 (by omega) (by omega)], by rw [hm.1 0 (by omega) (by omega)], by rw [hm.1 0 (by omega) (by omega)], by rw [hm.1 0 (by omega) (by omega)], hm.2 7 (by omega), hm.2 8 (by omega)⟩ h.1.1 ⟨fun k j hk hj => by rw [hx k (by omega)]; exact hX.1 k j hk hj, by rw [hx 2 (by omega)]; exact hX.2⟩ (by rw [hm.1 1 (by omega) (by omega)]; exact h.1.2.2.2.2.1) rfl (h.lea.of (by rw [hm.1 0 (by omega) (by omega)]) (by rw [hm.1 0 (by omega) (by omega)]) (by rw [hm.1 0 (by omega) (by omega)]))
theorem SyX.rf {I : PI} : SyX I I := fun _ _ => rfl
theorem SyM.rf {I : PI} {J : PJ} : SyM I I J J := ⟨fun _ _ _ => rfl, fun _ _ => rfl⟩
theorem pu_law (h : CC s si I T X tN I' J') (a f b : Int32) : ∃ (z : Int32) (B B' : PI) (K' : PJ), x_law I T X tN a f b = some (z, B) ∧ m_law I' J' a f b = some (z, B', K') ∧ CC s si B T X tN B' K' := by
  have hV := h.1.1
  have hX := h.1.2.2.1
  have hM := h.1.2.2.2.2.1
  obtain ⟨v0, v1, v2, v3, v4, v5, v6, v7⟩ := hV.1
  obtain ⟨b1, e1, e1', q1⟩ := pe_isPerson hV hX hM a
  obtain ⟨b2, e2, e2', q2⟩ := pe_isForm hV hX hM f
  obtain ⟨y, ey, hT⟩ := pe_rules h
  unfold x_law m_law
  cases b1 with
  | false => exact ⟨-100, I, I', J', by simp (disch := omega) only [pz_0, pz_1, pz_3, pz_4, pz_9, pz_60, pz_99, pz_119, pz_lt, pz_bs, pz_isb, pz_isb0, pz_isb1, pz_bI0, pz_bIf, if_true, Bool.true_eq_false, if_false, pz_ck, e1], by simp (disch := omega) only [pz_0, pz_1, pz_3, pz_4, pz_9, pz_60, pz_99, pz_119, pz_lt, pz_bs, pz_isb, pz_isb0, pz_isb1, pz_bI0, pz_bIf, if_true, Bool.true_eq_false, if_false, pz_ck, e1'], h⟩
  | true =>
  obtain ⟨p, hp, rfl⟩ := q1 rfl
  cases b2 with
  | false => exact ⟨-100, I, I', J', by simp (disch := omega) only [pz_0, pz_1, pz_3, pz_4, pz_9, pz_60, pz_99, pz_119, pz_lt, pz_bs, pz_isb, pz_isb0, pz_isb1, pz_bI0, pz_bIf, if_true, Bool.true_eq_false, if_false, pz_ck, e1, e2], by simp (disch := omega) only [pz_0, pz_1, pz_3, pz_4, pz_9, pz_60, pz_99, pz_119, pz_lt, pz_bs, pz_isb, pz_isb0, pz_isb1, pz_bI0, pz_bIf, if_true, Bool.true_eq_false, if_false, pz_ck, e1', e2'], h⟩
  | true =>
  obtain ⟨g, hg, rfl⟩ := q2 rfl
  rw [e1, e1', pz_bs, pz_bs, if_neg (by decide), if_neg (by decide), e2, e2', pz_bs, pz_bs, if_neg (by decide), if_neg (by decide), ey, pz_bs]
  unfold x_law_j39
  by_cases c : b = 0
  · obtain ⟨z, B, B', K', g1, g2, g3, g4⟩ := pe_learns (J' := J') h.yk hT hp (f := g) (by omega)
    rw [if_pos c, if_pos c, g1, g2]
    exact ⟨z, B, B', K', rfl, rfl, h.sy g3 g4⟩
  · obtain ⟨w, B, B', K', g0, g1, g2, g3, g4⟩ := pe_fades (J' := J') h.yk hT hp (f := g) (by omega)
    rw [if_neg c, if_neg c, g1, show inb (4 : Int32) 1691 = true from rfl, pz_ck, show ix (4 : Int32) = 4 from rfl, g2]
    exact ⟨nI w, B, B', K', rfl, rfl, h.sy g3 g4⟩
end RU
