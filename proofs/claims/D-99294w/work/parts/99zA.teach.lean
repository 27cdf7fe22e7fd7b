/-! teaching, heirs -/
section TE
variable {s si : SN} {I : PI} {T : PT} {X : TS} {tN : XCo} {I' : PI} {J' : PJ}
theorem pe_canTeach (h : CC s si I T X tN I' J') (a f t : Int32) : ∃ (b : Bool) (B B' : PI) (K' : PJ), x_canTeach I T X tN f a t = some (bI b, B) ∧ m_canTeach I' J' f a t = some (bI b, B', K') ∧ SyX I B ∧ SyM I' B' J' K' ∧ (b = true → ∃ p q g, p < s 2 1 ∧ q < s 2 1 ∧ g < s 2 0 ∧ a = nI p ∧ t = nI q ∧ f = nI g ∧ s 5 g ≤ s 3 (14 + p)) := by
  have hV := h.1.1
  have hX := h.1.2.2.1
  have hM := h.1.2.2.2.2.1
  obtain ⟨⟨v0, v1, v2, v3, v4, v5, v6, v7⟩, vr, vf, -⟩ := id hV
  obtain ⟨b1, e1, e1', q1⟩ := pe_isPerson hV hX hM a
  obtain ⟨b2, e2, e2', q2⟩ := pe_isForm hV hX hM f
  obtain ⟨b3, e3, e3', q3⟩ := pe_isPerson hV hX hM t
  have no : ∀ (A : Option (Int32 × PI)) (A' : Option (Int32 × PI × PJ)), A = some (bI false, I) → A' = some (bI false, I', J') → ∃ (b : Bool) (B B' : PI) (K' : PJ), A = some (bI b, B) ∧ A' = some (bI b, B', K') ∧ SyX I B ∧ SyM I' B' J' K' ∧ (b = true → ∃ p q g, p < s 2 1 ∧ q < s 2 1 ∧ g < s 2 0 ∧ a = nI p ∧ t = nI q ∧ f = nI g ∧ s 5 g ≤ s 3 (14 + p)) := fun A A' h1 h2 => ⟨false, I, I', J', h1, h2, SyX.rf, SyM.rf, fun z => nomatch z⟩
  cases b1 with
  | false =>
    refine no _ _ ?_ ?_
    · unfold x_canTeach x_knows
      rw [e1]
      rfl
    · unfold m_canTeach
      rw [e2', pz_bs]
      cases b2 with
      | false => rfl
      | true =>
        rw [if_neg (by decide), e1']
        rfl
  | true =>
  cases b2 with
  | false =>
    refine no _ _ ?_ ?_
    · unfold x_canTeach x_knows
      rw [e1, pz_bs, if_neg (by decide), e2]
      rfl
    · unfold m_canTeach
      rw [e2']
      rfl
  | true =>
  obtain ⟨p, hp, rfl⟩ := q1 rfl
  obtain ⟨g, hg, rfl⟩ := q2 rfl
  have h8p : s 3 (8 + p) < 256 := vr.k256 v0 (by omega)
  have mp := hM.2.1 p hp
  have mf := hM.2.2.1 g (by omega)
  have hx14 : I 3 (14 + p) = nI (s 3 (14 + p)) := hX.1 3 _ (by omega) (by omega)
  have hx5 : I 5 g = nI (s 5 g) := hX.1 5 g (by omega) (by omega)
  have ha14 := (vr.2.2.2.1 p hp).2.2
  have hf5 := vf g hg
  have hmg1 : m_get I' (nI p) 1 = some (nI (s 3 (8 + p))) := (pm_get I' (w := 1) (by omega) (by omega)).trans (by rw [mp.2.1])
  have hmg2 : m_get I' (nI p) 2 = some (nI (s 3 (14 + p))) := (pm_get I' (w := 2) (by omega) (by omega)).trans (by rw [mp.2.2])
  have hml : m_lengthOf I' (nI g) = some (nI (s 5 g)) := by rw [pm_lengthOf I' (by omega), mf.2]
  have hxk : x_knows I (nI p) (nI g) = some (bI ((s 3 (8 + p)).testBit g)) := by
    unfold x_knows
    rw [e1, pz_bs, if_neg (by decide), e2, pz_bs, if_neg (by decide), px_formsOf hX (p := p) (by omega), pz_bs, px_has _ h8p g (by omega), pz_bs]
    cases (s 3 (8 + p)).testBit g <;> rfl
  have hmk : m_canTeach I' J' (nI g) (nI p) t = if b3 = true then (if (s 3 (8 + p)).testBit g = true then ((m_get I' t (1 : Int32)).bind fun v6 => (m_has v6 (nI g)).bind fun v7 => if v7 = (0 : Int32) then (if s 3 (14 + p) < s 5 g then some ((0 : Int32), I', J') else (m_learnsOf I' J' t (nI g)).bind <| un3 fun v10 I11 J12 => if v10 ≤ (0 : Int32) then some ((0 : Int32), I11, J12) else some ((1 : Int32), I11, J12)) else some ((0 : Int32), I', J')) else some ((0 : Int32), I', J')) else some ((0 : Int32), I', J') := by
    unfold m_canTeach
    rw [e2', pz_bs, if_neg (by decide), e1', pz_bs, if_neg (by decide), e3', pz_bs]
    cases b3 with
    | false => rfl
    | true =>
      rw [if_neg (by decide), if_pos rfl, hmg1, pz_bs, pm_has _ h8p g (by omega), pz_bs]
      cases (s 3 (8 + p)).testBit g with
      | false => rfl
      | true =>
        rw [if_neg (by decide), if_pos rfl]
        congr 1
        funext v6
        congr 1
        funext v7
        by_cases c7 : v7 = 0
        · rw [if_pos c7, if_pos c7, hmg2, pz_bs, hml, pz_bs]
          by_cases c : s 3 (14 + p) < s 5 g
          · rw [if_pos c, if_pos ((nI_ltI (by omega) (by omega)).mpr c)]
          · rw [if_neg c, if_neg (fun z => c ((nI_ltI (by omega) (by omega)).mp z))]
        · rw [if_neg c7, if_neg c7]
  have hxt : x_canTeach I T X tN (nI g) (nI p) t = if (s 3 (8 + p)).testBit g = true then (if s 3 (14 + p) < s 5 g then some ((0 : Int32), I) else (x_canLearn I T X tN t (nI g)).bind <| un2 fun v2 I3 => if v2 = (0 : Int32) then some ((0 : Int32), I3) else some ((1 : Int32), I3)) else some ((0 : Int32), I) := by
    unfold x_canTeach
    rw [hxk, pz_bs]
    cases (s 3 (8 + p)).testBit g with
    | false => rfl
    | true =>
      rw [if_neg (by decide), if_pos rfl, show (14 : Int32) = nI 14 from rfl, pz_add, pz_inb (by omega) (by omega), pz_ck, pz_inb (show g < 8 by omega) (by omega), pz_ck, pz_ix (by omega), pz_ix (by omega), hx14, hx5]
      by_cases c : s 3 (14 + p) < s 5 g
      · rw [if_pos c, if_pos ((nI_ltI (by omega) (by omega)).mpr c)]
      · rw [if_neg c, if_neg (fun z => c ((nI_ltI (by omega) (by omega)).mp z))]
  rw [hmk, hxt]
  cases hb : (s 3 (8 + p)).testBit g with
  | false =>
    refine no _ _ rfl ?_
    cases b3 <;> rfl
  | true =>
  rw [if_pos rfl, if_pos rfl]
  cases b3 with
  | false =>
    refine no _ _ ?_ rfl
    by_cases c : s 3 (14 + p) < s 5 g
    · rw [if_pos c]
      rfl
    · rw [if_neg c]
      unfold x_canLearn
      rw [e3]
      rfl
  | true =>
  obtain ⟨q, hq, rfl⟩ := q3 rfl
  have h8q : s 3 (8 + q) < 256 := vr.k256 v0 (by omega)
  have hmq1 : m_get I' (nI q) 1 = some (nI (s 3 (8 + q))) := (pm_get I' (w := 1) (by omega) (by omega)).trans (by rw [(hM.2.1 q hq).2.1])
  rw [if_pos rfl, hmq1, pz_bs, pm_has _ h8q g (by omega), pz_bs]
  have hxl : x_canLearn I T X tN (nI q) (nI g) = if (s 3 (8 + q)).testBit g = true then some ((0 : Int32), I) else ((x_rules I T tN).bind fun a5 => (x_says I X a5 3 (nI q) (nI g) (1 : Int32)).bind <| un2 fun v6 I7 => if v6 ≤ (0 : Int32) then some ((0 : Int32), I7) else some ((1 : Int32), I7)) := by
    unfold x_canLearn
    rw [e3, pz_bs, if_neg (by decide), e2, pz_bs, if_neg (by decide), px_formsOf hX (p := q) (by omega), pz_bs, px_has _ h8q g (by omega), pz_bs]
    cases (s 3 (8 + q)).testBit g <;> rfl
  rw [hxl]
  cases hb2 : (s 3 (8 + q)).testBit g with
  | true =>
    refine no _ _ ?_ rfl
    by_cases c : s 3 (14 + p) < s 5 g
    · rw [if_pos c]
      rfl
    · rw [if_neg c]
      rfl
  | false =>
  rw [if_neg (show ¬ false = true by decide), if_pos (show bI false = 0 from rfl)]
  by_cases c : s 3 (14 + p) < s 5 g
  · rw [if_pos c, if_pos c]
    exact no _ _ rfl rfl
  rw [if_neg c, if_neg c]
  obtain ⟨y, ey, hT⟩ := pe_rules h
  obtain ⟨z, B, B', K', g1, g2, g3, g4⟩ := pe_learns (J' := J') h.yk hT hq (f := g) (by omega)
  rw [ey, pz_bs, g1, pz_bs, pz_u2, g2, pz_bs, pz_u3]
  by_cases cz : z ≤ 0
  · rw [if_pos cz, if_pos cz]
    exact ⟨false, B, B', K', rfl, rfl, g3, g4, fun z => nomatch z⟩
  · rw [if_neg cz, if_neg cz]
    exact ⟨true, B, B', K', rfl, rfl, g3, g4, fun _ => ⟨p, q, g, hp, hq, hg, rfl, rfl, rfl, by omega⟩⟩
end TE
