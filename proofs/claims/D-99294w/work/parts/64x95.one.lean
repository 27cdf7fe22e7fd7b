/-! the reference begins a sum's part: case by case -/
theorem fgN_num (b : Nat → Nat) : ∀ m a v, v ≤ 999999 → (fgN b m a v).2 ≤ 999999 := by
  intro m
  induction m with
  | zero => exact fun a v h => h
  | succ m ih =>
    intro a v h
    rw [fgN]
    by_cases c : isDg (b a) = true
    · rw [if_pos c]
      have := isDg_in c
      exact ih _ _ (by split <;> omega)
    · rw [if_neg c]
      exact h
theorem lex_num (b : Nat → Nat) (n a : Nat) : (lex b n a).num ≤ 999999 := by
  unfold lex
  by_cases c0 : wsN b (n - a) a = n
  · rw [if_pos c0]; exact Nat.zero_le _
  rw [if_neg c0]
  by_cases c1 : isLt (b (wsN b (n - a) a)) = true
  · rw [if_pos c1]; exact Nat.zero_le _
  rw [if_neg c1]
  by_cases c2 : isDg (b (wsN b (n - a) a)) = true
  · rw [if_pos c2]; exact fgN_num b _ _ 0 (Nat.zero_le _)
  rw [if_neg c2]
  split
  · exact Nat.zero_le _
  · split <;> exact Nat.zero_le _
theorem tks_num (b : Nat → Nat) (n k : Nat) : (tks b n k).num ≤ 999999 := by
  cases k <;> exact lex_num b n _
section BO
variable {b : Nat → Nat} {n t kc : Nat} {I0 : PI} {J0 : PJ} {k : Nat} {P : List Nat} {C : List (Nat × Nat)} {w : Nat} {I : PI} {J : PJ}
theorem mc_num (hb : ∀ j, j < n → b j < 256) (ht : t < 4) (h : MC b n t kc I0 J0 k P C w I J) (hl : C.length + P.length < 304) (hp : P.length < 160) (hs : (tks b n k).sort = 300) : if 9999 < (tks b n k).num then m_beginOne I J = some (2, I, J) else ∃ I1 J1, m_beginOne I J = some (0, I1, J1) ∧ MC b n t kc I0 J0 (k + 1) (stl 7 P (C ++ [(0, (tks b n k).num)])).1 (stl 7 P (C ++ [(0, (tks b n k).num)])).2 1 I1 J1 := by
  have e1 : I 0 14 = 1 := (tok_k hb h.1 (c := 1) (Or.inr (Or.inl ⟨rfl, rfl⟩))).mpr hs
  have e5 : I 0 15 = nI (tks b n k).num := by
    have f2 : ∀ p ∈ smL, p.1 = 300 → p.2 = 1 := by decide +kernel
    exact h.1.2.2.2.2.1 (f2 _ (tks_sm hb k) hs)
  have hn := tks_num b n k
  have hx : m_beginOne_j20 I J = m_beginOne_j83 I J (nI 0) (nI (tks b n k).num) := by
    unfold m_beginOne_j20
    rw [mc_name hb h.1, hs, pz_bs]
    rw [show oN (nm 300) = (-1 : Int32) from rfl, if_neg (by decide)]
    unfold m_beginOne_j41 m_beginOne_j53 m_beginOne_j67
    rw [if_pos e1, if_pos e1, if_pos e1, e5]
    rfl
  unfold m_beginOne
  rw [if_pos e1, e5, show (9999 : Int32) = nI 9999 from rfl, hx]
  by_cases c : 9999 < (tks b n k).num
  · rw [if_pos c, if_neg (fun q => absurd ((nI_leI (by omega) (by omega)).mp q) (by omega))]
  · rw [if_neg c, if_pos ((nI_leI (by omega) (by omega)).mpr (by omega))]
    exact mc_j83 hb ht h hl hp 0 _
theorem mc_nonum (hb : ∀ j, j < n → b j < 256) (h : MC b n t kc I0 J0 k P C w I J) (hs : (tks b n k).sort ≠ 300) : ¬ I 0 14 = 1 ∧ m_beginOne I J = m_beginOne_j20 I J := by
  have e1 : ¬ I 0 14 = 1 := fun q => hs ((tok_k hb h.1 (c := 1) (Or.inr (Or.inl ⟨rfl, rfl⟩))).mp q)
  refine ⟨e1, ?_⟩
  unfold m_beginOne
  rw [if_neg e1]
theorem mc_nm (hb : ∀ j, j < n → b j < 256) (ht : t < 4) (hk : kc < 9) (h : MC b n t kc I0 J0 k P C w I J) (hl : C.length + P.length < 304) (hp : P.length < 160) (hs : nm (tks b n k).sort < 8) : if nm (tks b n k).sort = 7 ∧ kc ≠ 1 then m_beginOne I J = some (5, I, J) else ∃ I1 J1, m_beginOne I J = some (0, I1, J1) ∧ MC b n t kc I0 J0 (k + 1) (stl 7 P (C ++ [(1, nm (tks b n k).sort)])).1 (stl 7 P (C ++ [(1, nm (tks b n k).sort)])).2 1 I1 J1 := by
  have h3 : (tks b n k).sort ≠ 300 := by
    intro q
    rw [q] at hs
    exact absurd hs (by decide)
  obtain ⟨e1, e2⟩ := mc_nonum hb h h3
  rw [e2]
  unfold m_beginOne_j20
  have e0 : oN (nm (tks b n k).sort) = nI (nm (tks b n k).sort) := by
    unfold oN
    rw [if_neg (by omega)]
  rw [mc_name hb h.1, pz_bs, e0, show (7 : Int32) = nI 7 from rfl, h.2.1.2.2.1]
  have hx : m_beginOne_j41 I J (nI (nm (tks b n k).sort)) = m_beginOne_j83 I J (nI 1) (nI (nm (tks b n k).sort)) := by
    unfold m_beginOne_j41 m_beginOne_j53 m_beginOne_j67
    rw [if_neg e1, if_neg (nI_pos (by omega)), if_neg e1, if_neg e1]
    rfl
  rw [hx]
  by_cases c : nm (tks b n k).sort = 7
  · rw [if_pos (show nI (nm (tks b n k).sort) = nI 7 from by rw [c]), show (1 : Int32) = nI 1 from rfl]
    by_cases d : kc = 1
    · rw [if_neg (fun q => q.2 d), if_pos (show nI kc = nI 1 from by rw [d])]
      exact mc_j83 hb ht h hl hp 1 _
    · rw [if_pos ⟨c, d⟩, if_neg (fun q => d ((nI_eq (by omega) (by omega)).mp q))]
  · rw [if_neg (fun q => c q.1), if_neg (fun q => c ((nI_eq (by omega) (by omega)).mp q))]
    exact mc_j83 hb ht h hl hp 1 _
/-- what opens by a token -/
def opC (s : Nat) : Nat := if s = 40 then 40 else if s = 45 then 5 else if s = 213 then 4 else if s = 214 then 2 else if s = 215 then 41 else if s = 221 then 20 else 99
theorem mc_op (hb : ∀ j, j < n → b j < 256) (h : MC b n t kc I0 J0 k P C w I J) (hp : P.length < 160) (hs : (tks b n k).sort ≠ 300) (hn : nm (tks b n k).sort = 99) : m_beginOne I J = if opC (tks b n k).sort = 99 ∨ ((tks b n k).sort = 221 ∧ aah P = false) then some (1, I, J) else m_opened I J (nI (opC (tks b n k).sort)) := by
  obtain ⟨e1, e2⟩ := mc_nonum hb h hs
  rw [e2]
  unfold m_beginOne_j20
  rw [mc_name hb h.1, pz_bs, hn, show oN 99 = (-1 : Int32) from rfl, if_neg (by decide)]
  unfold m_beginOne_j41
  rw [if_neg e1, if_pos (by decide)]
  have q40 := tok_sg hb h.1 (c := 40) (by decide)
  have q45 := tok_sg hb h.1 (c := 45) (by decide)
  rw [show m_w4 104 97 108 102 = some (lN (wkN 13)) from by decide +kernel, show m_w5 107 110 111 119 110 = some (lN (wkN 14)) from by decide +kernel, show m_w2 105 102 = some (lN (wkN 15)) from by decide +kernel, show m_w3 110 111 116 = some (lN (wkN 21)) from by decide +kernel, show (40 : Int32) = nI 40 from rfl, show (45 : Int32) = nI 45 from rfl]
  rw [pz_bs, mt_word hb h.1 (w := 13) (by decide), pz_bs, pz_bs, mt_word hb h.1 (w := 14) (by decide), pz_bs, pz_bs, mt_word hb h.1 (w := 15) (by decide), pz_bs, pz_bs, mt_word hb h.1 (w := 21) (by decide), pz_bs, mc_aah h hp, pz_bs]
  generalize (tks b n k).sort = s at q40 q45 hs hn ⊢
  have un : ∀ o : Option (Int32 × PI × PJ), (o.bind (un3 fun v33 I34 J35 => some (v33, I34, J35))) = o := by
    intro o
    cases o <;> rfl
  rw [un, un, un, un, un, un]
  unfold opC
  by_cases c1 : s = 40
  · subst c1
    rw [if_pos (q40.mpr rfl)]
    rfl
  rw [if_neg (fun q => c1 (q40.mp q)), if_neg c1]
  by_cases c2 : s = 45
  · subst c2
    rw [if_pos (q45.mpr rfl)]
    rfl
  rw [if_neg (fun q => c2 (q45.mp q)), if_neg c2]
  by_cases c3 : s = 213
  · subst c3
    rw [decide_eq_true (show 213 = 200 + 13 from rfl), if_neg (by decide)]
    rfl
  rw [decide_eq_false (show ¬ s = 200 + 13 from c3), if_pos (by decide), if_neg c3]
  by_cases c4 : s = 214
  · subst c4
    rw [decide_eq_true (show 214 = 200 + 14 from rfl), if_neg (by decide)]
    rfl
  rw [decide_eq_false (show ¬ s = 200 + 14 from c4), if_pos (by decide), if_neg c4]
  by_cases c5 : s = 215
  · subst c5
    rw [decide_eq_true (show 215 = 200 + 15 from rfl), if_neg (by decide)]
    rfl
  rw [decide_eq_false (show ¬ s = 200 + 15 from c5), if_pos (by decide), if_neg c5]
  by_cases c6 : s = 221
  · subst c6
    rw [decide_eq_true (show 221 = 200 + 21 from rfl), if_neg (by decide)]
    cases aah P
    · rw [if_pos (by decide)]
      rfl
    · rw [if_neg (by decide)]
      rfl
  · rw [decide_eq_false (show ¬ s = 200 + 21 from c6), if_pos (by decide), if_neg c6]
    rfl
end BO
