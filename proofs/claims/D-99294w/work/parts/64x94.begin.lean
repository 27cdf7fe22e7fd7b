/-! the reference begins a sum's part -/
theorem stl_len (r : Nat) : ∀ (P : List Nat) (C : List (Nat × Nat)), (stl r P C).1.length + (stl r P C).2.length = P.length + C.length ∧ (stl r P C).1.length ≤ P.length := by
  intro P
  induction P with
  | nil => exact fun C => ⟨rfl, Nat.le_refl _⟩
  | cons x P ih =>
    intro C
    rw [stl]
    by_cases c : r ≤ rk x
    · rw [if_pos c]
      have := ih (C ++ [(x, 0)])
      rw [List.length_append, List.length_singleton] at this
      rw [List.length_cons]
      omega
    · rw [if_neg c]
      exact ⟨rfl, Nat.le_refl _⟩
def nm (s : Nat) : Nat := if s = 208 then 0 else if s = 202 then 1 else if s = 222 then 2 else if s = 209 then 3 else if s = 223 then 4 else if s = 224 then 5 else if s = 210 then 6 else if s = 225 then 7 else 99
theorem nm_le (s : Nat) : nm s < 8 ∨ nm s = 99 := by
  unfold nm
  repeat' split
  all_goals omega
section BG
variable {b : Nat → Nat} {n t kc : Nat} {I0 : PI} {J0 : PJ} {k : Nat} {P : List Nat} {C : List (Nat × Nat)} {w : Nat} {I : PI} {J : PJ}
theorem tok_lt (hb : ∀ j, j < n → b j < 256) : (tks b n k).mt < 300 := by
  have f2 : ∀ p ∈ smL, p.2 < 300 := by decide +kernel
  exact f2 _ (tks_sm hb k)
theorem tok_sg (hb : ∀ j, j < n → b j < 256) (h : MT b n k I J) {c : Nat} (hc : isSg c = true) : I 0 14 = nI c ↔ (tks b n k).sort = c := by
  have f2 : ∀ p ∈ smL, ∀ c ∈ sgL, (p.2 = c ↔ p.1 = c) := by decide +kernel
  have hc' : c ∈ sgL := by
    unfold isSg at hc
    exact List.contains_iff_mem.mp hc
  have f3 : ∀ c ∈ sgL, c < 300 := by decide
  have := f3 c hc'
  rw [h.2.2.2.1, nI_eq (by have := tok_lt (n := n) (k := k) hb; omega) (by omega)]
  exact f2 _ (tks_sm hb k) c hc'
theorem tok_k (hb : ∀ j, j < n → b j < 256) (h : MT b n k I J) {c s : Nat} (hc : (c = 0 ∧ s = 301) ∨ (c = 1 ∧ s = 300) ∨ (c = 4 ∧ s = 303) ∨ (c = 5 ∧ s = 304)) : I 0 14 = nI c ↔ (tks b n k).sort = s := by
  have f2 : ∀ p ∈ smL, (p.2 = 0 ↔ p.1 = 301) ∧ (p.2 = 1 ↔ p.1 = 300) ∧ (p.2 = 4 ↔ p.1 = 303) ∧ (p.2 = 5 ↔ p.1 = 304) := by decide +kernel
  obtain ⟨g0, g1, g2, g3⟩ := f2 _ (tks_sm hb k)
  have := tok_lt (n := n) (k := k) hb
  rw [h.2.2.2.1, nI_eq (by omega) (by omega)]
  rcases hc with ⟨rfl, rfl⟩ | ⟨rfl, rfl⟩ | ⟨rfl, rfl⟩ | ⟨rfl, rfl⟩
  · exact g0
  · exact g1
  · exact g2
  · exact g3
theorem tok_2 (hb : ∀ j, j < n → b j < 256) (h : MT b n k I J) : (I 0 14 = nI 2 ∧ ∀ w, w < 26 → (J 0 16 = lN (wkN w) ↔ (tks b n k).sort = 200 + w)) ∨ (¬ I 0 14 = nI 2 ∧ ∀ w, w < 26 → (tks b n k).sort ≠ 200 + w) := by
  have f2 : ∀ p ∈ smL, p.2 ≠ 2 → ∀ w, w < 26 → p.1 ≠ 200 + w := by decide +kernel
  have := tok_lt (n := n) (k := k) hb
  rw [h.2.2.2.1]
  by_cases c : (tks b n k).mt = 2
  · exact Or.inl ⟨by rw [c], h.2.2.2.2.2 c⟩
  · exact Or.inr ⟨fun q => c ((nI_eq (by omega) (by omega)).mp q), f2 _ (tks_sm hb k) c⟩
theorem mc_name (hb : ∀ j, j < n → b j < 256) (h : MT b n k I J) : m_nameOf I J = some (oN (nm (tks b n k).sort)) := by
  unfold m_nameOf
  rw [show m_w4 121 101 97 114 = some (lN (wkN 8)) from by decide +kernel, show m_w4 102 111 114 109 = some (lN (wkN 2)) from by decide +kernel, show m_w4 107 105 110 100 = some (lN (wkN 22)) from by decide +kernel, show m_w6 108 101 110 103 116 104 = some (lN (wkN 9)) from by decide +kernel, show m_w3 97 103 101 = some (lN (wkN 23)) from by decide +kernel, show m_w3 119 104 111 = some (lN (wkN 24)) from by decide +kernel, show m_w5 107 110 111 119 115 = some (lN (wkN 10)) from by decide +kernel, show m_w6 98 114 101 97 116 104 = some (lN (wkN 25)) from by decide +kernel, show (2 : Int32) = nI 2 from rfl]
  unfold nm
  rcases tok_2 hb h with ⟨h2, hw⟩ | ⟨h2, hw⟩
  · rw [if_pos h2]
    generalize (tks b n k).sort = s at hw ⊢
    have st : ∀ {w r : Nat} {x y : Option Int32} {z : Nat}, w < 26 → x = some (oN r) → y = some (oN z) → (if J 0 16 = lN (wkN w) then x else y) = some (oN (if s = 200 + w then r else z)) := by
      intro w r x y z h1 h2 h3
      by_cases c : s = 200 + w
      · rw [if_pos ((hw w h1).mpr c), if_pos c, h2]
      · rw [if_neg (fun q => c ((hw w h1).mp q)), if_neg c, h3]
    rw [pz_bs]
    refine st (w := 8) (r := 0) (by decide) rfl ?_
    rw [pz_bs]
    refine st (w := 2) (r := 1) (by decide) rfl ?_
    rw [pz_bs]
    refine st (w := 22) (r := 2) (by decide) rfl ?_
    rw [pz_bs]
    refine st (w := 9) (r := 3) (by decide) rfl ?_
    rw [pz_bs]
    refine st (w := 23) (r := 4) (by decide) rfl ?_
    rw [pz_bs]
    refine st (w := 24) (r := 5) (by decide) rfl ?_
    rw [pz_bs]
    refine st (w := 10) (r := 6) (by decide) rfl ?_
    rw [pz_bs]
    exact st (w := 25) (r := 7) (z := 99) (by decide) rfl rfl
  · rw [if_neg h2, if_neg (hw 8 (by decide)), if_neg (hw 2 (by decide)), if_neg (hw 22 (by decide)), if_neg (hw 9 (by decide)), if_neg (hw 23 (by decide)), if_neg (hw 24 (by decide)), if_neg (hw 10 (by decide)), if_neg (hw 25 (by decide))]
    rfl
/-- something opens -/
theorem mc_opened (hb : ∀ j, j < n → b j < 256) (h : MC b n t kc I0 J0 k P C w I J) (hp : P.length < 160) (hc : cnt P ≤ 8) {o : Nat} (ho : o < 44) (ho1 : cn o = 1) : if cnt P = 8 then m_opened I J (nI o) = some (3, I, J) else ∃ I1 J1, m_opened I J (nI o) = some (0, I1, J1) ∧ MC b n t kc I0 J0 (k + 1) (o :: P) C w I1 J1 := by
  have h' := h
  obtain ⟨h1, ⟨g17, g18, g19, g21, g22, g23⟩, gP, gC, gF, gJ⟩ := h
  unfold m_opened
  rw [g22, show (8 : Int32) = nI 8 from rfl]
  by_cases c : cnt P = 8
  · rw [if_pos c, if_pos (by rw [c])]
  · rw [if_neg c, if_neg (fun q => c ((nI_eq (by omega) (by omega)).mp q)), show (1 : Int32) = nI 1 from rfl, pz_add, pz_lt]
    have e21 : u2 I 0 22 (nI (cnt P + 1)) 0 21 = nI P.length := (pz_no _ _ (Or.inr (by decide))).trans g21
    have e21' : u2 (u2 I 0 22 (nI (cnt P + 1))) 10 P.length (nI o) 0 21 = nI P.length := (pz_no _ _ (Or.inl (by decide))).trans e21
    rw [e21, pz_inb hp (by omega), pz_ck, pz_ix (by omega), pz_lt, e21', pz_add, pz_lt]
    have q : MC b n t kc I0 J0 k (o :: P) C w (u2 (u2 (u2 I 0 22 (nI (cnt P + 1))) 10 P.length (nI o)) 0 21 (nI (P.length + 1))) J := by
      have z : ∀ j, j ≠ 21 → j ≠ 22 → u2 (u2 (u2 I 0 22 (nI (cnt P + 1))) 10 P.length (nI o)) 0 21 (nI (P.length + 1)) 0 j = I 0 j := fun j a1 a2 => (pz_no _ _ (Or.inr a1)).trans ((pz_no _ _ (Or.inl (by decide))).trans (pz_no _ _ (Or.inr a2)))
      refine h'.upd (fun j hj => ?_) (fun k a1 a2 a3 => (u2_row _ _ _ _ a1).trans ((u2_row _ _ _ _ a3).trans (u2_row _ _ _ _ a1))) ((z 18 (by decide) (by decide)).trans g18) ((pz_at _ _ rfl rfl).trans (by rw [List.length_cons])) ((pz_no _ _ (Or.inr (by decide))).trans ((pz_no _ _ (Or.inl (by decide))).trans ((pz_at _ _ rfl rfl).trans (by rw [cnt, ho1, Nat.add_comm])))) ((z 23 (by decide) (by decide)).trans g23) ⟨?_, ho, gP.of fun j hj => ?_⟩ (gC.of fun j _ _ => ?_) (fun j _ => ?_)
      · have : j ≠ 21 ∧ j ≠ 22 := by
          simp at hj
          omega
        exact z j this.1 this.2
      · exact (pz_no _ _ (Or.inl (by decide))).trans (pz_at _ _ rfl rfl)
      · exact (pz_no _ _ (Or.inl (by decide))).trans ((pz_no _ _ (Or.inr (by omega))).trans (pz_no _ _ (Or.inl (by decide))))
      · exact (pz_no _ _ (Or.inl (by decide))).trans ((pz_no _ _ (Or.inl (by decide))).trans (pz_no _ _ (Or.inl (by decide))))
      · exact (pz_no _ _ (Or.inl (by decide))).trans ((pz_no _ _ (Or.inl (by decide))).trans (pz_no _ _ (Or.inl (by decide))))
    obtain ⟨I1, J1, q1, q2⟩ := mc_next hb q
    rw [q1, pz_bs]
    exact ⟨I1, J1, rfl, q2⟩
theorem MC.whole (h : MC b n t kc I0 J0 k P C w I J) {w1 : Nat} : MC b n t kc I0 J0 k P C w1 (u2 I 0 23 (nI w1)) J := by
  have h' := h
  obtain ⟨h1, ⟨g17, g18, g19, g21, g22, g23⟩, gP, gC, gF, gJ⟩ := h
  refine h'.upd (fun j hj => pz_no _ _ (Or.inr (fun q => ?_))) (fun k a1 a2 a3 => u2_row _ _ _ _ a1) ((pz_no _ _ (Or.inr (by decide))).trans g18) ((pz_no _ _ (Or.inr (by decide))).trans g21) ((pz_no _ _ (Or.inr (by decide))).trans g22) (pz_at _ _ rfl rfl) (gP.of fun j _ => pz_no _ _ (Or.inl (by decide))) (gC.of fun j _ _ => pz_no _ _ (Or.inl (by decide))) (fun j _ => pz_no _ _ (Or.inl (by decide)))
  rw [q] at hj
  exact absurd hj (by decide)
theorem mc_j83 (hb : ∀ j, j < n → b j < 256) (ht : t < 4) (h : MC b n t kc I0 J0 k P C w I J) (hl : C.length + P.length < 304) (hp : P.length < 160) (o v : Nat) : ∃ I1 J1, m_beginOne_j83 I J (nI o) (nI v) = some (0, I1, J1) ∧ MC b n t kc I0 J0 (k + 1) (stl 7 P (C ++ [(o, v)])).1 (stl 7 P (C ++ [(o, v)])).2 1 I1 J1 := by
  unfold m_beginOne_j83
  obtain ⟨I1, q1, q2⟩ := mc_emit ht h (by omega) o v
  rw [q1, pz_bs]
  obtain ⟨I2, J2, r1, r2⟩ := mc_next hb q2
  rw [r1, pz_bs, pz_u2, pz_lt, show (1 : Int32) = nI 1 from rfl, show (7 : Int32) = nI 7 from rfl]
  obtain ⟨I3, s1, s2⟩ := m_stl ht (r := 7) (by decide) (by decide) (MC.whole r2 (w1 := 1)) (by rw [List.length_append, List.length_singleton]; omega) hp
  rw [s1, pz_bs]
  exact ⟨I3, J2, rfl, s2⟩
def atop : List Nat → Bool
  | [] => false
  | x :: _ => decide (rk x < 4)
def aah (P : List Nat) : Bool := decide (onow P = 41) && atop P
theorem mc_aah (h : MC b n t kc I0 J0 k P C w I J) (hp : P.length < 160) : m_isAskAhead I = some (bI (aah P)) := by
  unfold m_isAskAhead
  rw [m_oNow h hp, pz_bs]
  have h' := h
  obtain ⟨h1, ⟨g17, g18, g19, g21, g22, g23⟩, gP, gC, gF, gJ⟩ := h
  cases P with
  | nil => rfl
  | cons x P =>
    rw [List.length_cons] at hp g21
    obtain ⟨gx, gx2, gP'⟩ := gP
    unfold aah
    rw [atop]
    by_cases c : onow (x :: P) = 41
    · rw [c, show oN 41 = 41 from rfl, if_pos rfl, g21, show (1 : Int32) = nI 1 from rfl, pz_sub (by omega), show P.length + 1 - 1 = P.length by omega, pz_inb (by omega) (by omega), pz_ck, pz_ck, pz_ix (by omega), gx, m_rk x gx2, pz_bs, show (40 : Int32) = nI 40 from rfl]
      by_cases d : 40 ≤ x
      · rw [if_pos ((nI_leI (by omega) (by omega)).mpr d), decide_eq_true rfl, show decide (rk x < 4) = true from decide_eq_true (by unfold rk; rw [if_pos d]; omega)]
        rfl
      · rw [if_neg (fun q => d ((nI_leI (by omega) (by omega)).mp q))]
        have f : ∀ x, x < 40 → m_isIn (nI (rk x)) (nI 1) 3 = some (bI (decide (rk x < 4))) := by decide +kernel
        rw [f x (by omega), pz_bs, decide_eq_true rfl]
        cases decide (rk x < 4)
        · rw [if_pos (by decide)]; rfl
        · rw [if_neg (by decide)]; rfl
    · have e : ¬ oN (onow (x :: P)) = 41 := by
        unfold oN
        rcases oix_now (P := x :: P) ⟨gx, gx2, gP'⟩ with ⟨a, b⟩ | ⟨i, a, b, c', d, e⟩
        · rw [if_pos b]; decide
        · rw [if_neg (by omega)]
          exact fun q => c ((nI_eq (by omega) (by omega)).mp q)
      rw [if_neg e, decide_eq_false c]
      rfl
end BG
