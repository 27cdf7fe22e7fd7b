/-! a year passes, of both: forms, people -/
section YP
variable {s : SN} {r : Nat → Nat} {k2 : Nat} {I : PI} {T : PT} {X : TS} {tN : XCo} {I' : PI} {J' : PJ}
/-- the loop over forms -/
theorem pe_forms {p : Nat} (hp : p < s 2 1) {y : Nat} : ∀ (m g fx fm n : Nat) (r : Nat → Nat) (I I' : PI) (J' : PJ), g + m = s 2 0 → m < fx → m < fm → YK s r k2 I I' → x_rules I T tN = some y → TxR X (I' 3) y (I' 1 4) →
    ∃ (n1 : Nat) (r1 : Nat → Nat) (I1 I1' : PI) (J1' : PJ), x_fades_l5 T X tN k2 (nI p) fx (nI n) (nI g) I = some (nI (n + n1), I1) ∧ m_agePerson_l2 (nI p) fm (nI g) I' J' = some (I1', J1') ∧ YK s r1 k2 I1 I1' ∧ FYx k2 I I1 ∧ FYm (s 2 1) I' I1' J' J1' ∧ I1' 0 37 = I' 0 37 + nI n1 ∧ n1 ≤ m ∧ r1 0 = r 0 ∧ ∀ j, 20 ≤ j → r1 j = r j := by
  intro m
  induction m with
  | zero =>
    intro g fx fm n r I I' J' hg hfx hfm hY hR hT
    obtain ⟨fx, rfl⟩ : ∃ q, fx = q + 1 := ⟨fx - 1, by omega⟩
    obtain ⟨fm, rfl⟩ : ∃ q, fm = q + 1 := ⟨fm - 1, by omega⟩
    have h1 := hY.2.1
    refine ⟨0, r, I, I', J', ?_, ?_, hY, FYx.rf, FYm.rf, (by rw [show nI 0 = (0 : Int32) from rfl, Int32.add_zero]), Nat.le_refl _, rfl, fun _ _ => rfl⟩
    · show x_fades_b5 T X tN k2 (nI p) _ (nI n) (nI g) I = _
      unfold x_fades_b5
      rw [show ix (0 : Int32) = 0 from rfl, hY.2.2.2.2.2.1.1, if_pos ((nI_leI (by omega) (by omega)).mpr (by omega))]
      rfl
    · show m_agePerson_b2 (nI p) _ (nI g) I' J' = _
      unfold m_agePerson_b2
      rw [show inb (0 : Int32) 1691 = true from rfl, pz_ck, show ix (0 : Int32) = 0 from rfl, hY.2.2.2.2.2.2.2.1.1, if_pos ((nI_leI (by omega) (by omega)).mpr (by omega))]
  | succ m ih =>
    intro g fx fm n r I I' J' hg hfx hfm hY hR hT
    obtain ⟨fx, rfl⟩ : ∃ q, fx = q + 1 := ⟨fx - 1, by omega⟩
    obtain ⟨fm, rfl⟩ : ∃ q, fm = q + 1 := ⟨fm - 1, by omega⟩
    have hY' := hY
    obtain ⟨a0, a1, a2, ⟨c0, c1, c2, c3, c4, c5⟩, a4, ⟨a5, a6⟩, a7, ⟨b0, b1, b2, b3⟩, a8, a9⟩ := hY
    have h8 := hY'.r8 (p := p) (by omega)
    have hk2 : k2 ≠ 2 ∧ k2 ≠ 116 := by omega
    have hcl : ∀ (I1 : PI), FYx k2 I I1 → x_rules I1 T tN = some y := fun I1 q => (rules_eq (q.r 2 (by omega) (by omega))).trans hR
    have htl : ∀ (I1' : PI) (J1' : PJ), FYm (s 2 1) I' I1' J' J1' → TxR X (I1' 3) y (I1' 1 4) := fun I1' J1' q => by
      rw [q.1 3 (by omega) (by omega) (by omega) (by omega), q.2.2.1 4 (by omega) (by omega) (fun p hp => by omega)]
      exact hT
    have hmg : m_get I' (nI p) 1 = some (nI (r (8 + p))) := (pm_get I' (w := 1) (by omega) (by omega)).trans (by rw [(b3 p hp).2.1])
    have hxs : ∀ self, x_fades_b5 T X tN k2 (nI p) self (nI n) (nI g) I = if (r (8 + p)).testBit g = true then ((x_says I X y k2 (nI p) (nI g) (0 : Int32)).bind <| un2 fun v11 I12 => (x_drawn I12 k2 (10 : Int32)).bind <| un2 fun v13 I14 => if v13 < v11 then (lt_ ((8 : Int32) + nI p) fun v15 => ck (inb v15 141) <| ck (inb v15 141) <| lt_ (u2 I14 k2 (ix v15) ((I14 k2 (ix v15)) &&& (((1 : Int32) <<< (nI g &&& 31)) ^^^ (-1 : Int32)))) fun I16 => lt_ (nI n + (1 : Int32)) fun v17 => x_fades_j83 self (nI g) v17 I16) else x_fades_j83 self (nI g) (nI n) I14) else x_fades_j83 self (nI g) (nI n) I := fun self => by
      unfold x_fades_b5
      rw [show ix (0 : Int32) = 0 from rfl, a5, if_neg (fun q => absurd ((nI_leI (by omega) (by omega)).mp q) (by omega)), show (8 : Int32) = nI 8 from rfl, pz_add, pz_inb (show 8 + p < 141 by omega) (by omega), pz_ck, pz_ix (show 8 + p < 2 ^ 31 by omega), a4 _ (by omega), px_has _ h8 g (by omega), pz_bs, hR, pz_bs]
      cases (r (8 + p)).testBit g
      · rw [if_pos (by decide), if_neg (by decide)]
      · rw [if_neg (by decide), if_pos rfl]
    have hms : ∀ self, m_agePerson_b2 (nI p) self (nI g) I' J' = if (r (8 + p)).testBit g = true then ((m_fadesOf I' J' (I' 1 4) (nI p) (nI g)).bind <| un3 fun v11 I12 J13 => if v11 ≤ nI (r 1 % 10) then m_agePerson_j58 self (nI p) (nI g) I12 J13 (0 : Int32) else m_agePerson_j58 self (nI p) (nI g) I12 J13 (1 : Int32)) else m_agePerson_j98 self (nI g) I' J' := fun self => by
      unfold m_agePerson_b2
      rw [show inb (0 : Int32) 1691 = true from rfl, show inb (9 : Int32) 1691 = true from rfl, show inb (4 : Int32) 1691 = true from rfl, pz_ck, show ix (0 : Int32) = 0 from rfl, b0, if_neg (fun q => absurd ((nI_leI (by omega) (by omega)).mp q) (by omega)), hmg, pz_bs, pm_has _ h8 g (by omega), pz_bs, pz_ck, pz_ck, show ix (9 : Int32) = 9 from rfl, show ix (4 : Int32) = 4 from rfl, a8, show (10 : Int32) = nI 10 from rfl, pz_div (by omega) (by omega) (by omega), pz_mul, pz_rem (by omega) (by omega) (by omega)]
      cases (r (8 + p)).testBit g
      · rw [if_pos (by decide), if_neg (by decide)]
      · rw [if_neg (by decide), if_pos rfl]
    have sx : x_fades_l5 T X tN k2 (nI p) (fx + 1) (nI n) (nI g) I = x_fades_b5 T X tN k2 (nI p) (x_fades_l5 T X tN k2 (nI p) fx) (nI n) (nI g) I := rfl
    have sm : m_agePerson_l2 (nI p) (fm + 1) (nI g) I' J' = m_agePerson_b2 (nI p) (m_agePerson_l2 (nI p) fm) (nI g) I' J' := rfl
    rw [sx, sm, hxs, hms]
    have jx : ∀ (v : Int32) (A : PI), x_fades_j83 (x_fades_l5 T X tN k2 (nI p) fx) (nI g) v A = x_fades_l5 T X tN k2 (nI p) fx v (nI (g + 1)) A := fun v A => by
      unfold x_fades_j83
      rw [show (1 : Int32) = nI 1 from rfl, pz_add, pz_lt]
    have jm : ∀ (A : PI) (B : PJ), m_agePerson_j98 (m_agePerson_l2 (nI p) fm) (nI g) A B = m_agePerson_l2 (nI p) fm (nI (g + 1)) A B := fun A B => by
      unfold m_agePerson_j98
      rw [show (1 : Int32) = nI 1 from rfl, pz_add, pz_lt]
    cases hb : (r (8 + p)).testBit g with
    | false =>
      rw [if_neg (by decide), if_neg (by decide), jx, jm]
      obtain ⟨n1, r1, I1, I1', J1', d1, d2, d3, d4, d5, d6, d7, d8, d9⟩ := ih (g + 1) fx fm n r I I' J' (by omega) (by omega) (by omega) hY' hR hT
      exact ⟨n1, r1, I1, I1', J1', d1, d2, d3, d4, d5, d6, by omega, d8, d9⟩
    | true =>
      rw [if_pos rfl, if_pos rfl]
      obtain ⟨w, B, B', K', w0, w1, w2, w3, w4⟩ := pe_fades (J' := J') hY' hT hp (f := g) (by omega)
      obtain ⟨y1, y2, y3⟩ := hY'.sy (J' := J') w3 w4
      have hd := px_drawn (I := B) (k := k2) (m := 10) (y1.2.2.2.2.1 1 (by omega)) c1 (by omega) (by omega)
      obtain ⟨z1, z2, z3⟩ := y1.draw (J' := K')
      have ha := pm_anew (I := B') y1.2.2.2.2.2.2.2.2.1 c1
      rw [w1, w2, pz_bs, pz_bs, pz_u2, pz_u3, show (10 : Int32) = nI 10 from rfl, hd, pz_bs, pz_u2]
      by_cases c : r 1 % 10 < w
      · rw [if_pos ((nI_ltI (by omega) (by omega)).mpr c), if_neg (fun q => absurd ((nI_leI (by omega) (by omega)).mp q) (by omega))]
        have e8 : rU r 1 (dr (r 1)) (8 + p) = r (8 + p) := rU_no _ _ (by omega)
        have hclr := pz_clr _ h8 g (by omega)
        have hclt := clr_lt _ (by omega) _ (c3 p hp).2.1 g (by omega)
        obtain ⟨u1, u2', u3⟩ := z1.put (J' := K') (p := p) (w := 1) (v := clr (r (8 + p)) g) hp (by omega) (fun z => nomatch z) (fun _ => hclt) (fun z => nomatch z)
        have g8 : u2 B k2 1 (nI (dr (r 1))) k2 (8 + p) = nI (r (8 + p)) := (z1.2.2.2.2.1 (8 + p) (by omega)).trans (by rw [e8])
        have xh : (lt_ ((8 : Int32) + nI p) fun v15 => ck (inb v15 141) <| ck (inb v15 141) <| lt_ (u2 (u2 B k2 1 (nI (dr (r 1)))) k2 (ix v15) ((u2 B k2 1 (nI (dr (r 1))) k2 (ix v15)) &&& (((1 : Int32) <<< (nI g &&& 31)) ^^^ (-1 : Int32)))) fun I16 => lt_ (nI n + (1 : Int32)) fun v17 => x_fades_j83 (x_fades_l5 T X tN k2 (nI p) fx) (nI g) v17 I16) = x_fades_l5 T X tN k2 (nI p) fx (nI (n + 1)) (nI (g + 1)) (u2 (u2 B k2 1 (nI (dr (r 1)))) k2 (8 + p) (nI (clr (r (8 + p)) g))) := by
          rw [show (8 : Int32) = nI 8 from rfl, pz_add, pz_lt, pz_inb (show 8 + p < 141 by omega) (by omega), pz_ck, pz_ck, pz_ix (show 8 + p < 2 ^ 31 by omega), g8]
          rw [show nI (r (8 + p)) &&& (((1 : Int32) <<< (nI g &&& 31)) ^^^ (-1 : Int32)) = nI (clr (r (8 + p)) g) from hclr, pz_lt, show (1 : Int32) = nI 1 from rfl, pz_add, pz_lt, jx]
        rw [xh]
        have mh : m_agePerson_j58 (m_agePerson_l2 (nI p) fm) (nI p) (nI g) B' K' (1 : Int32) = m_agePerson_l2 (nI p) fm (nI (g + 1)) (u2 (u2 (u2 B' 1 9 (nI (dr (r 1)))) 1 (11 + 5 * p + 1) (nI (clr (r (8 + p)) g))) 0 37 (I' 0 37 + nI 1)) K' := by
          have q1 : m_get (u2 B' 1 9 (nI (dr (r 1)))) (nI p) 1 = some (nI (r (8 + p))) := (pm_get _ (w := 1) (by omega) (by omega)).trans (by rw [(z1.2.2.2.2.2.2.2.1.2.2.2 p hp).2.1, e8])
          have q2 : m_put (u2 B' 1 9 (nI (dr (r 1)))) (nI p) 1 (nI (clr (r (8 + p)) g)) = some (u2 (u2 B' 1 9 (nI (dr (r 1)))) 1 (11 + 5 * p + 1) (nI (clr (r (8 + p)) g))) := pm_put _ (w := 1) _ (by omega) (by omega)
          have q3 : u2 (u2 B' 1 9 (nI (dr (r 1)))) 1 (11 + 5 * p + 1) (nI (clr (r (8 + p)) g)) 0 37 = I' 0 37 := (u2_ne _ _ (Or.inl (by decide))).trans ((u2_ne _ _ (Or.inl (by decide))).trans (by rw [w4.1 0 (by omega) (by omega)]))
          unfold m_agePerson_j58
          rw [ha, pz_bs, if_neg (by decide), q1, pz_bs]
          rw [show nI (r (8 + p)) &&& (((1 : Int32) <<< (nI g &&& 31)) ^^^ (-1 : Int32)) = nI (clr (r (8 + p)) g) from hclr, q2, pz_bs, q3, show (1 : Int32) = nI 1 from rfl, pz_lt, jm]
        rw [mh]
        have fmz : FYm (s 2 1) (u2 (u2 B' 1 9 (nI (dr (r 1)))) 1 (11 + 5 * p + 1) (nI (clr (r (8 + p)) g))) (u2 (u2 (u2 B' 1 9 (nI (dr (r 1)))) 1 (11 + 5 * p + 1) (nI (clr (r (8 + p)) g))) 0 37 (I' 0 37 + nI 1)) K' K' := ⟨fun k a b c d => u2_row _ _ _ _ a, fun j a => u2_ne _ _ (Or.inr a), fun j _ _ _ => u2_ne _ _ (Or.inl (by decide)), fun _ _ => rfl⟩
        have row1 : u2 (u2 (u2 B' 1 9 (nI (dr (r 1)))) 1 (11 + 5 * p + 1) (nI (clr (r (8 + p)) g))) 0 37 (I' 0 37 + nI 1) 1 = u2 (u2 B' 1 9 (nI (dr (r 1)))) 1 (11 + 5 * p + 1) (nI (clr (r (8 + p)) g)) 1 := u2_row _ _ _ _ (by decide)
        have hYn := u1.new (J' := K') (J1' := K') u1.2.2.2.1 u1.2.2.2.2.1 FYx.rf fmz (by rw [row1]; exact u1.2.2.2.2.2.2.2.1.2.2.1) (by rw [row1]; exact u1.2.2.2.2.2.2.2.2.1) (by rw [row1]; exact u1.2.2.2.2.2.2.2.1.2.2.2)
        have tx : FYx k2 I (u2 (u2 B k2 1 (nI (dr (r 1)))) k2 (8 + p) (nI (clr (r (8 + p)) g))) := (y2.tr z2).tr u2'
        have tm := ((y3.tr z3).tr u3).tr fmz
        obtain ⟨n1, r1, I1, I1', J1', d1, d2, d3, d4, d5, d6, d7, d8, d9⟩ := ih (g + 1) fx fm (n + 1) _ _ _ K' (by omega) (by omega) (by omega) hYn (hcl _ tx) (htl _ _ tm)
        refine ⟨n1 + 1, r1, I1, I1', J1', by rw [d1, show n + 1 + n1 = n + (n1 + 1) by omega], d2, d3, tx.tr d4, tm.tr d5, ?_, by omega, ?_, fun j hj => ?_⟩
        · rw [d6, u2_eq, Int32.add_assoc, pz_add, Nat.add_comm 1 n1]
        · rw [d8, rU_no _ _ (by omega), rU_no _ _ (by omega)]
        · rw [d9 j hj, rU_no _ _ (by omega), rU_no _ _ (by omega)]
      · rw [if_neg (fun q => c ((nI_ltI (by omega) (by omega)).mp q)), if_pos ((nI_leI (by omega) (by omega)).mpr (by omega)), jx]
        have mh : m_agePerson_j58 (m_agePerson_l2 (nI p) fm) (nI p) (nI g) B' K' (0 : Int32) = m_agePerson_l2 (nI p) fm (nI (g + 1)) (u2 B' 1 9 (nI (dr (r 1)))) K' := by
          unfold m_agePerson_j58
          rw [ha, pz_bs, if_pos rfl, jm]
        rw [mh]
        obtain ⟨n1, r1, I1, I1', J1', d1, d2, d3, d4, d5, d6, d7, d8, d9⟩ := ih (g + 1) fx fm n _ _ _ K' (by omega) (by omega) (by omega) z1 (hcl _ (y2.tr z2)) (htl _ _ (y3.tr z3))
        refine ⟨n1, r1, I1, I1', J1', d1, d2, d3, (y2.tr z2).tr d4, (y3.tr z3).tr d5, ?_, by omega, ?_, fun j hj => ?_⟩
        · rw [d6, u2_ne _ _ (Or.inl (by decide)), w4.1 0 (by omega) (by omega)]
        · rw [d8, rU_no _ _ (by omega)]
        · rw [d9 j hj, rU_no _ _ (by omega)]
end YP
