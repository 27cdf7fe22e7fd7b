/-! ages, of both -/
section AG
variable {s si : SN} {I : PI} {T : PT} {X : TS} {tN : XCo} {I' : PI} {J' : PJ}
/-- a form forgotten -/
theorem pe_clr (h : CC s si I T X tN I' J') {p g : Nat} (hp : p < s 2 1) (hg : g < s 2 0) : ∃ (s1 : SN) (I1' : PI), CC s1 si (u2 I 3 (8 + p) (nI (clr (s 3 (8 + p)) g))) T X tN I1' J' ∧ m_forgetNow I' (nI p) (nI g) = some I1' ∧ I 3 (8 + p) &&& (((1 : Int32) <<< (nI g &&& 31)) ^^^ (-1 : Int32)) = nI (clr (s 3 (8 + p)) g) := by
  have hV := h.1.1
  have hX := h.1.2.2.1
  have hM := h.1.2.2.2.2.1
  obtain ⟨⟨v0, v1, v2, v3, v4, v5, v6, v7⟩, vr, vf, -⟩ := id hV
  have h8 : s 3 (8 + p) < 256 := vr.k256 v0 (by omega)
  have hc := pz_clr _ h8 g (by omega)
  have hl := clr_lt _ (by omega) _ (vr.2.2.2.1 p hp).2.1 g (by omega)
  have hx8 : I 3 (8 + p) = nI (s 3 (8 + p)) := hX.1 3 _ (by omega) (by omega)
  have g1 : m_get I' (nI p) 1 = some (nI (s 3 (8 + p))) := (pm_get I' (w := 1) (by omega) (by omega)).trans (by rw [(hM.2.1 p hp).2.1])
  have p1 : m_put I' (nI p) 1 (nI (clr (s 3 (8 + p)) g)) = some (u2 I' 1 (11 + 5 * p + 1) (nI (clr (s 3 (8 + p)) g))) := pm_put I' (w := 1) _ (by omega) (by omega)
  refine ⟨u2 s 3 (8 + p) (clr (s 3 (8 + p)) g), u2 I' 1 (11 + 5 * p + 1) (nI (clr (s 3 (8 + p)) g)), ?_, ?_, by rw [hx8]; exact hc⟩
  · refine h.step (fxU (by omega)) (fmU (by omega)) (set_V hV hp (w := 1) (by omega) (fun z => nomatch z) (fun _ => hl) (fun z => nomatch z)) (xrU hX _ (by omega)) (set_M hV hM hp (w := 1) (by omega) (fun i hi => u2_ne _ _ (Or.inr hi)) (u2_eq _ _ _ _)) (u2_ne _ _ (Or.inl (by omega))) ?_
    exact (h.lea.of (by simp (disch := omega) only [pz_row, pz_at, pz_no]) (by simp (disch := omega) only [pz_row, pz_at, pz_no]) (by simp (disch := omega) only [pz_row, pz_at, pz_no]))
  · unfold m_forgetNow
    rw [g1, pz_bs, show nI (s 3 (8 + p)) &&& (((1 : Int32) <<< (nI g &&& 31)) ^^^ (-1 : Int32)) = nI (clr (s 3 (8 + p)) g) from hc, p1]
    rfl
theorem CC.draw (h : CC s si I T X tN I' J') : CC (rowS s (rU (s 3) 1 (dr (s 3 1)))) si (u2 I 3 1 (nI (dr (s 3 1)))) T X tN (u2 I' 1 9 (nI (dr (s 3 1)))) J' := by
  obtain ⟨a, b, c⟩ := h.yk.draw (J' := J')
  exact h.row a b c fun j hj => rU_no _ _ (by omega)
theorem px_some {d n : Nat} (hd : d < 2 ^ 31) (hn : n < 2 ^ 31) : x_some (nI d) (nI n) = some (if n = 0 then -1 else nI (d % n)) := by
  unfold x_some
  by_cases c : n = 0
  · rw [if_pos c, c]
    rfl
  · have c' : ¬ nI n = 0 := nI_ne0 (by omega) hn
    have hz : nzi (nI n) = true := by
      unfold nzi
      rw [decide_eq_false c']
      rfl
    rw [if_neg c, if_neg c', hz, pz_ck, pz_div hd (by omega) hn, pz_mul, pz_rem hd (by omega) hn]
/-- what befalls by a draw -/
theorem pe_befalls (h : CC s si I T X tN I' J') (J : PJ) {d : Nat} (hd : d < 30703) (h6 : d % 6 < 4) : ∃ (s1 : SN) (I1 : PI) (J1 : PJ) (I1' : PI) (J1' : PJ), x_befalls I J T X tN (nI d) = some (I1, J1) ∧ m_happens I' J' (nI d) = some (I1', J1') ∧ CC s1 si I1 T X tN I1' J1' := by
  have hV := h.1.1
  have hX := h.1.2.2.1
  have hM := h.1.2.2.2.2.1
  obtain ⟨⟨v0, v1, v2, v3, v4, v5, v6, v7⟩, vr, vf, -⟩ := id hV
  have x0 : I 2 0 = nI (s 2 0) := hX.1 2 0 (by omega) (by omega)
  have x1 : I 2 1 = nI (s 2 1) := hX.1 2 1 (by omega) (by omega)
  have x2 : I 2 2 = nI (s 2 2) := hX.1 2 2 (by omega) (by omega)
  have m0 : I' 1 0 = nI (s 2 0) := hM.1.1
  have m1 : I' 1 1 = nI (s 2 1) := hM.1.2.1
  have m2 : I' 1 2 = nI (s 2 2) := hM.1.2.2.1
  have neg : ∀ n : Nat, n < 2 ^ 31 → ¬ (-1 : Int32) = nI n := fun n hn q => pz_ne1 hn q.symm
  have dv : ∀ e, 0 < e → e < 100 → nI d / nI e = nI (d / e) := fun e h1 h2 => pz_div (by omega) h1 (by omega)
  have d6 : d / 6 < 2 ^ 31 := by omega
  have d5 : d / 5 < 2 ^ 31 := by omega
  have hx : x_befalls I J T X tN (nI d) = if d % 6 = 2 then ((x_knows I (if s 2 1 = 0 then -1 else nI (d / 6 % s 2 1)) (if s 2 0 = 0 then -1 else nI (d % s 2 0))).bind fun v6 => if v6 = (0 : Int32) then some (I, J) else (lt_ ((8 : Int32) + (if s 2 1 = 0 then -1 else nI (d / 6 % s 2 1))) fun v7 => ck (inb v7 141) <| ck (inb v7 141) <| lt_ (u2 I 3 (ix v7) ((I 3 (ix v7)) &&& (((1 : Int32) <<< ((if s 2 0 = 0 then -1 else nI (d % s 2 0)) &&& 31)) ^^^ (-1 : Int32)))) fun I8 => some (I8, J))) else if d % 6 = 3 then ((x_longBy I J (if s 2 1 = 0 then -1 else nI (d / 6 % s 2 1)) (if s 2 2 = 0 then -1 else nI (d % s 2 2))).bind <| un3 fun v9 I10 J11 => if v9 = (-1 : Int32) then some (I10, J11) else ((x_tells I10 (if s 2 1 = 0 then -1 else nI (d / 6 % s 2 1)) (if s 2 2 = 0 then -1 else nI (d % s 2 2)) v9).bind <| un2 fun v12 I13 => some (I13, J11))) else ((x_canTeach I T X tN (if s 2 0 = 0 then -1 else nI (d % s 2 0)) (if s 2 1 = 0 then -1 else nI (d / 6 % s 2 1)) (if s 2 1 = 0 then -1 else nI (d / 5 % s 2 1))).bind <| un2 fun v14 I15 => if v14 = (0 : Int32) then some (I15, J) else ((x_teaches I15 (if s 2 0 = 0 then -1 else nI (d % s 2 0)) (if s 2 1 = 0 then -1 else nI (d / 6 % s 2 1)) (if s 2 1 = 0 then -1 else nI (d / 5 % s 2 1))).bind fun I16 => some (I16, J))) := by
    unfold x_befalls
    rw [show ix (0 : Int32) = 0 from rfl, show ix (1 : Int32) = 1 from rfl, show ix (2 : Int32) = 2 from rfl, x0, x1, x2, show (6 : Int32) = nI 6 from rfl, show (5 : Int32) = nI 5 from rfl, dv 6 (by omega) (by omega), dv 5 (by omega) (by omega), px_some (by omega) (by omega), px_some (by omega) (by omega), px_some (by omega) (by omega), px_some (by omega) (by omega), pz_bs, pz_bs, pz_bs, pz_bs, pz_mul, pz_rem (by omega) (by omega) (by omega), pz_lt]
    by_cases c2 : d % 6 = 2
    · rw [if_pos c2, if_pos (show nI (d % 6) = 2 from by rw [c2]; rfl)]
    · rw [if_neg c2, if_neg (show ¬ nI (d % 6) = 2 from fun q => c2 ((nI_eq (b := 2) (by omega) (by omega)).mp q))]
      by_cases c3 : d % 6 = 3
      · rw [if_pos c3, if_pos (show nI (d % 6) = 3 from by rw [c3]; rfl)]
      · rw [if_neg c3, if_neg (show ¬ nI (d % 6) = 3 from fun q => c3 ((nI_eq (b := 3) (by omega) (by omega)).mp q))]
  have nz : ∀ n : Nat, 0 < n → n < 100 → nzi (nI n) = true := fun n h1 h2 => by
    unfold nzi
    rw [decide_eq_false (show ¬ nI n = 0 from nI_ne0 h1 (by omega))]
    rfl
  have rm : ∀ e n : Nat, e < 2 ^ 31 → 0 < n → n < 100 → nI e - nI e / nI n * nI n = nI (e % n) := fun e n h0 h1 h2 => by
    rw [pz_div h0 h1 (by omega), pz_mul, pz_rem h0 h1 (by omega)]
  have i1 : inb (1 : Int32) 1691 = true := rfl
  have i2 : inb (2 : Int32) 1691 = true := rfl
  have i0 : inb (0 : Int32) 1691 = true := rfl
  have hm0 : s 2 1 = 0 → m_happens I' J' (nI d) = some (I', J') := fun c => by
    unfold m_happens
    rw [show (6 : Int32) = nI 6 from rfl, rm d 6 (by omega) (by omega) (by omega), if_pos (show nI (d % 6) ≤ 3 from (nI_leI (b := 3) (by omega) (by omega)).mpr (by omega)), i1, pz_ck, show ix (1 : Int32) = 1 from rfl, m1, c, if_pos (show nI 0 = 0 from rfl)]
  have hm1 : 0 < s 2 1 → m_happens I' J' (nI d) = if d % 6 = 3 then (if s 2 2 = 0 then some (I', J') else ((m_canTell I' J' (nI (d / 6 % s 2 1)) (nI (d % s 2 2))).bind <| un3 fun v9 I10 J11 => if v9 = (0 : Int32) then some (I10, J11) else ck (nzi (I10 1 2)) <| ((m_tellNow I10 J11 (nI (d / 6 % s 2 1)) (nI d - nI d / (I10 1 2) * (I10 1 2))).bind <| un3 fun v12 I13 J14 => some (I13, J14)))) else (if s 2 0 = 0 then some (I', J') else (if d % 6 = 2 then ((m_canForget I' (nI (d / 6 % s 2 1)) (nI (d % s 2 0))).bind fun v7 => if v7 = (0 : Int32) then some (I', J') else ((m_forgetNow I' (nI (d / 6 % s 2 1)) (nI (d % s 2 0))).bind fun I8 => some (I8, J'))) else ((m_canTeach I' J' (nI (d % s 2 0)) (nI (d / 6 % s 2 1)) (nI (d / 5 % s 2 1))).bind <| un3 fun v3 I4 J5 => if v3 = (0 : Int32) then some (I4, J5) else ck (nzi (I4 1 1)) <| ((m_teachNow I4 (nI (d % s 2 0)) (nI (d / 6 % s 2 1)) (nI (d / 5) - nI (d / 5) / (I4 1 1) * (I4 1 1))).bind fun I6 => some (I6, J5))))) := fun c => by
    unfold m_happens
    rw [show (6 : Int32) = nI 6 from rfl, show (5 : Int32) = nI 5 from rfl, rm d 6 (by omega) (by omega) (by omega), if_pos (show nI (d % 6) ≤ 3 from (nI_leI (b := 3) (by omega) (by omega)).mpr (by omega)), i1, i2, i0, pz_ck, show ix (1 : Int32) = 1 from rfl, show ix (2 : Int32) = 2 from rfl, show ix (0 : Int32) = 0 from rfl, m1, m2, m0, if_neg (show ¬ nI (s 2 1) = 0 from nI_ne0 c (by omega)), pz_ck, nz _ c (by omega), pz_ck, dv 6 (by omega) (by omega), dv 5 (by omega) (by omega), rm _ (s 2 1) d6 c (by omega), rm _ (s 2 1) d5 c (by omega), pz_lt]
    by_cases c3 : d % 6 = 3
    · rw [if_pos c3, if_pos (show nI (d % 6) = 3 from by rw [c3]; rfl), pz_ck]
      by_cases c2 : s 2 2 = 0
      · rw [if_pos c2, c2, if_pos (by decide)]
      · rw [if_neg c2, if_neg (nI_nle (by omega) (by omega)), pz_ck, nz _ (by omega) (by omega), pz_ck, rm d (s 2 2) (by omega) (by omega) (by omega)]
        rfl
    · rw [if_neg c3, if_neg (show ¬ nI (d % 6) = 3 from fun q => c3 ((nI_eq (b := 3) (by omega) (by omega)).mp q)), pz_ck]
      by_cases c0 : s 2 0 = 0
      · rw [if_pos c0, c0, if_pos (show nI 0 = 0 from rfl)]
      · rw [if_neg c0, if_neg (show ¬ nI (s 2 0) = 0 from nI_ne0 (by omega) (by omega)), pz_ck, nz _ (by omega) (by omega), pz_ck, rm d (s 2 0) (by omega) (by omega) (by omega), pz_lt]
        by_cases c2 : d % 6 = 2
        · rw [if_pos c2, if_pos (show nI (d % 6) = 2 from by rw [c2]; rfl)]
        · rw [if_neg c2, if_neg (show ¬ nI (d % 6) = 2 from fun q => c2 ((nI_eq (b := 2) (by omega) (by omega)).mp q)), pz_ck]
          rfl
  have noP : x_isPerson I (-1) = some (bI false) := by
    obtain ⟨b, e1, -, q⟩ := pe_isPerson hV hX hM (-1)
    cases b with
    | false => exact e1
    | true =>
      obtain ⟨p, hp, e⟩ := q rfl
      exact absurd e (neg p (by omega))
  have noF : x_isForm I (-1) = some (bI false) := by
    obtain ⟨b, e1, -, q⟩ := pe_isForm hV hX hM (-1)
    cases b with
    | false => exact e1
    | true =>
      obtain ⟨p, hp, e⟩ := q rfl
      exact absurd e (neg p (by omega))
  have noS : x_isStory I (-1) = some (bI false) := by
    obtain ⟨b, e1, -, q⟩ := pe_isStory hV hX hM (-1)
    cases b with
    | false => exact e1
    | true =>
      obtain ⟨p, hp, e⟩ := q rfl
      exact absurd e (neg p (by omega))
  have yesP : ∀ p, p < s 2 1 → x_isPerson I (nI p) = some (bI true) := fun p hp => by
    unfold x_isPerson
    rw [show ix (1 : Int32) = 1 from rfl, x1, x_in_s]
    have : (0 : Int32) ≤ nI p ∧ nI p ≤ nI (s 2 1) - 1 := ⟨nI_pos' (by omega), by
      rw [show (1 : Int32) = nI 1 from rfl, pz_sub (by omega)]
      exact (nI_leI (by omega) (by omega)).mpr (by omega)⟩
    rw [decide_eq_true this]
    rfl
  rw [hx]
  by_cases cP : s 2 1 = 0
  · rw [hm0 cP, if_pos cP, if_pos cP]
    have kn : ∀ F, x_knows I (-1) F = some 0 := fun F => by
      unfold x_knows
      rw [noP]
      rfl
    have lo : ∀ S, x_longBy I J (-1) S = some (-1, I, J) := fun S => by
      unfold x_longBy
      rw [noP]
      rfl
    have ct : ∀ F A, x_canTeach I T X tN F (-1) A = some (0, I) := fun F A => by
      unfold x_canTeach
      rw [kn]
      rfl
    rw [kn, lo, ct]
    refine ⟨s, I, J, I', J', ?_, rfl, h⟩
    split
    · rfl
    · split <;> rfl
  have hP : 0 < s 2 1 := by omega
  have hp1 : d / 6 % s 2 1 < s 2 1 := Nat.mod_lt _ hP
  rw [hm1 hP, if_neg cP, if_neg cP]
  by_cases c3 : d % 6 = 3
  · rw [if_neg (by omega), if_pos c3, if_pos c3]
    by_cases cS : s 2 2 = 0
    · rw [if_pos cS, if_pos cS]
      refine ⟨s, I, J, I', J', ?_, rfl, h⟩
      unfold x_longBy
      rw [yesP _ hp1, pz_bs, if_neg (by decide), noS]
      rfl
    · rw [if_neg cS, if_neg cS]
      obtain ⟨I1, J1, I1', J1', hC, h1⟩ := pe_long h J (nI (d / 6 % s 2 1)) (nI (d % s 2 2))
      rcases h1 with ⟨e1, e2⟩ | ⟨p, q, L, M, hp, hq, ep, eq', hL, he, hm, e1, e2⟩
      · rw [e1, e2]
        exact ⟨s, I1, J1, I1', J1', rfl, rfl, hC⟩
      · obtain ⟨I2, I2', J2', f1, f2, f3⟩ := pe_tells hC hp hq hL he hm
        have br := (vr.2.2.2.1 p hp).2.2
        have m2' : I1' 1 2 = nI (s 2 2) := hC.1.2.2.2.2.1.1.2.2.1
        rw [e1, e2, pz_bs, pz_bs, pz_u3, pz_u3, if_neg (show ¬ nI L = -1 from pz_ne1 (by omega)), if_neg (show ¬ nI 1 = 0 by decide), m2', nz _ (by omega) (by omega), pz_ck, rm d (s 2 2) (by omega) (by omega) (by omega), ep, eq', f1, f2]
        exact ⟨_, I2, J1, I2', J2', rfl, rfl, f3⟩
  · rw [if_neg c3]
    by_cases cF : s 2 0 = 0
    · rw [if_pos cF, if_pos cF, if_neg c3]
      have kn : x_knows I (nI (d / 6 % s 2 1)) (-1) = some 0 := by
        unfold x_knows
        rw [yesP _ hp1, pz_bs, if_neg (by decide), noF]
        rfl
      have ct : ∀ A, x_canTeach I T X tN (-1) (nI (d / 6 % s 2 1)) A = some (0, I) := fun A => by
        unfold x_canTeach
        rw [kn]
        rfl
      rw [kn, ct]
      refine ⟨s, I, J, I', J', ?_, rfl, h⟩
      split <;> rfl
    · rw [if_neg cF, if_neg cF, if_neg c3]
      by_cases c2 : d % 6 = 2
      · rw [if_pos c2, if_pos c2]
        obtain ⟨b, e1, e2, q⟩ := pe_knows hV hX hM (nI (d / 6 % s 2 1)) (nI (d % s 2 0))
        rw [e1, e2, pz_bs, pz_bs]
        cases b with
        | false => exact ⟨s, I, J, I', J', rfl, rfl, h⟩
        | true =>
          obtain ⟨p, g, hp, hg, ep, eg, -⟩ := q rfl
          obtain ⟨s1, A', a1, a2, a3⟩ := pe_clr h hp hg
          rw [if_neg (by decide), if_neg (by decide), ep, eg, a2, show (8 : Int32) = nI 8 from rfl, pz_add, pz_lt, pz_inb (by omega) (by omega), pz_ck, pz_ck, pz_ix (by omega), a3, pz_lt]
          exact ⟨s1, _, J, A', J', rfl, rfl, a1⟩
      · rw [if_neg c2, if_neg c2]
        obtain ⟨b, B, B', K', e1, e2, e3, e4, q⟩ := pe_canTeach h (nI (d / 6 % s 2 1)) (nI (d % s 2 0)) (nI (d / 5 % s 2 1))
        have hC := h.sy e3 e4
        rw [e1, e2, pz_bs, pz_bs, pz_u2, pz_u3]
        cases b with
        | false => exact ⟨s, B, J, B', K', rfl, rfl, hC⟩
        | true =>
          obtain ⟨p, z, g, hp, hz, hg, ep, ez, eg, hl⟩ := q rfl
          obtain ⟨s1, D, D', d1, d2, d3, -⟩ := pe_teaches hC hp hz hg hl
          have m1' : B' 1 1 = nI (s 2 1) := hC.1.2.2.2.2.1.1.2.1
          rw [if_neg (by decide), if_neg (by decide), m1', nz _ hP (by omega), pz_ck, rm _ (s 2 1) d5 hP (by omega), ep, ez, eg, d1, d2]
          exact ⟨s1, D, J, D', K', rfl, rfl, d3⟩
end AG
