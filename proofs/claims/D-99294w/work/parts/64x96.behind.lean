/-! the reference goes on behind a part -/
def cmN (s : Nat) : Nat := if s = 60 then 10 else if s = 303 then 11 else if s = 62 then 12 else if s = 304 then 13 else if s = 61 then 14 else if s = 35 then 15 else 99
def btw (s : Nat) (P : List Nat) : Nat := if s = 43 then 6 else if s = 45 then 7 else if s = 42 then 8 else if s = 47 then 9 else if onow P = 41 then (if icm P = true then (if s = 220 then 21 else if s = 219 then 22 else 99) else cmN s) else 99
def prt (s : Nat) (P : List Nat) : Nat := if onow P = 40 then (if s = 41 then 0 else 99) else if onow P = 41 then (if s = 216 ∧ icm P = true then 42 else 99) else if onow P = 42 then (if s = 217 then 43 else 99) else if onow P = 43 then (if s = 218 then 0 else 99) else 99
theorem oN_cases {r : Nat → Int32} {P : List Nat} (h : PlM r P) : onow P = 99 ∨ onow P = 40 ∨ onow P = 41 ∨ onow P = 42 ∨ onow P = 43 := by
  rcases oix_now h with ⟨a, b⟩ | ⟨i, a, b, c, d, e⟩ <;> omega
section BB
variable {b : Nat → Nat} {n t kc : Nat} {I0 : PI} {J0 : PJ} {k : Nat} {P : List Nat} {C : List (Nat × Nat)} {w : Nat} {I : PI} {J : PJ}
theorem mc_cmp (hb : ∀ j, j < n → b j < 256) (h : MT b n k I J) : m_compareOf I = some (oN (cmN (tks b n k).sort)) := by
  unfold m_compareOf cmN
  have st : ∀ {c s r : Nat} {x y : Option Int32} {z : Nat}, (I 0 14 = nI c ↔ (tks b n k).sort = s) → x = some (oN r) → y = some (oN z) → (if I 0 14 = nI c then x else y) = some (oN (if (tks b n k).sort = s then r else z)) := by
    intro c s r x y z h1 h2 h3
    by_cases d : (tks b n k).sort = s
    · rw [if_pos (h1.mpr d), if_pos d, h2]
    · rw [if_neg (fun q => d (h1.mp q)), if_neg d, h3]
  refine st (c := 60) (r := 10) (tok_sg hb h (c := 60) (by decide)) rfl ?_
  refine st (c := 4) (r := 11) (tok_k hb h (Or.inr (Or.inr (Or.inl ⟨rfl, rfl⟩)))) rfl ?_
  refine st (c := 62) (r := 12) (tok_sg hb h (c := 62) (by decide)) rfl ?_
  refine st (c := 5) (r := 13) (tok_k hb h (Or.inr (Or.inr (Or.inr ⟨rfl, rfl⟩)))) rfl ?_
  refine st (c := 61) (r := 14) (tok_sg hb h (c := 61) (by decide)) rfl ?_
  exact st (c := 35) (r := 15) (z := 99) (tok_sg hb h (c := 35) (by decide)) rfl rfl
theorem mc_btw (hb : ∀ j, j < n → b j < 256) (h : MC b n t kc I0 J0 k P C w I J) (hp : P.length < 160) : m_betweenOf I J = some (oN (btw (tks b n k).sort P)) := by
  unfold m_betweenOf btw
  have st : ∀ {c r : Nat} {x y : Option Int32} {z : Nat}, (I 0 14 = nI c ↔ (tks b n k).sort = c) → x = some (oN r) → y = some (oN z) → (if I 0 14 = nI c then x else y) = some (oN (if (tks b n k).sort = c then r else z)) := by
    intro c r x y z h1 h2 h3
    by_cases d : (tks b n k).sort = c
    · rw [if_pos (h1.mpr d), if_pos d, h2]
    · rw [if_neg (fun q => d (h1.mp q)), if_neg d, h3]
  refine st (c := 43) (r := 6) (tok_sg hb h.1 (by decide)) rfl ?_
  refine st (c := 45) (r := 7) (tok_sg hb h.1 (by decide)) rfl ?_
  refine st (c := 42) (r := 8) (tok_sg hb h.1 (by decide)) rfl ?_
  refine st (c := 47) (r := 9) (tok_sg hb h.1 (by decide)) rfl ?_
  rw [m_oNow h hp, pz_bs, m_isC h hp, pz_bs, mc_cmp hb h.1, pz_bs, show m_w3 97 110 100 = some (lN (wkN 20)) from by decide +kernel, show m_w2 111 114 = some (lN (wkN 19)) from by decide +kernel, pz_bs, mt_word hb h.1 (w := 20) (by decide), pz_bs, pz_bs, mt_word hb h.1 (w := 19) (by decide), pz_bs]
  by_cases c : onow P = 41
  · rw [if_pos (show oN (onow P) = 41 from by rw [c]; rfl), if_pos c]
    by_cases d : icm P = true
    · rw [d, if_neg (by decide), if_pos rfl]
      generalize (tks b n k).sort = s
      by_cases c1 : s = 220
      · subst c1
        rfl
      · rw [decide_eq_false (show ¬ s = 200 + 20 from c1), if_pos (by decide), if_neg c1]
        by_cases c2 : s = 219
        · subst c2
          rfl
        · rw [decide_eq_false (show ¬ s = 200 + 19 from c2), if_pos (by decide), if_neg c2]
          rfl
    · rw [Bool.eq_false_iff.mpr d, if_pos (by decide), if_neg (by decide)]
  · rw [if_neg c, if_neg]
    · rfl
    · rcases oN_cases h.2.2.1 with e | e | e | e | e <;> rw [e] <;> first | exact absurd e c | decide
theorem mc_prt (hb : ∀ j, j < n → b j < 256) (h : MC b n t kc I0 J0 k P C w I J) (hp : P.length < 160) : m_partOf I J (oN (onow P)) = some (oN (prt (tks b n k).sort P)) := by
  unfold m_partOf
  rw [m_isC h hp, pz_bs, show m_w4 116 104 101 110 = some (lN (wkN 16)) from by decide +kernel, show m_w4 101 108 115 101 = some (lN (wkN 17)) from by decide +kernel, show m_w3 101 110 100 = some (lN (wkN 18)) from by decide +kernel, pz_bs, mt_word hb h.1 (w := 16) (by decide), pz_bs, pz_bs, mt_word hb h.1 (w := 17) (by decide), pz_bs, pz_bs, mt_word hb h.1 (w := 18) (by decide), pz_bs]
  have q41 := tok_sg hb h.1 (c := 41) (by decide)
  generalize (tks b n k).sort = s at q41 ⊢
  rcases oN_cases h.2.2.1 with e | e | e | e | e
  · rw [e, show oN 99 = (-1 : Int32) from rfl, if_neg (by decide), if_neg (by decide), if_neg (by decide), if_neg (by decide)]
    unfold prt
    rw [e]
    rfl
  · have r : prt s P = if s = 41 then 0 else 99 := by
      unfold prt
      rw [e, if_pos rfl]
    rw [r, e, show oN 40 = 40 from rfl, if_pos rfl, show (41 : Int32) = nI 41 from rfl]
    by_cases c : s = 41
    · rw [if_pos (q41.mpr c), if_pos c]
      rfl
    · rw [if_neg (fun q => c (q41.mp q)), if_neg c]
      rfl
  · have r : prt s P = if s = 216 ∧ icm P = true then 42 else 99 := by
      unfold prt
      rw [e, if_neg (by decide), if_pos rfl]
    rw [r, e, show oN 41 = 41 from rfl, if_neg (by decide), if_pos rfl]
    by_cases c : s = 216
    · rw [decide_eq_true (show s = 200 + 16 from c), if_neg (by decide)]
      cases icm P
      · rw [if_pos (by decide), if_neg (fun q => absurd q.2 (by decide))]
        rfl
      · rw [if_neg (by decide), if_pos ⟨c, rfl⟩]
        rfl
    · rw [decide_eq_false (show ¬ s = 200 + 16 from c), if_pos (by decide), if_neg (fun q => c q.1)]
      rfl
  · have r : prt s P = if s = 217 then 43 else 99 := by
      unfold prt
      rw [e, if_neg (by decide), if_neg (by decide), if_pos rfl]
    rw [r, e, show oN 42 = 42 from rfl, if_neg (by decide), if_neg (by decide), if_pos rfl]
    by_cases c : s = 217
    · rw [decide_eq_true (show s = 200 + 17 from c), if_neg (by decide), if_pos c]
      rfl
    · rw [decide_eq_false (show ¬ s = 200 + 17 from c), if_pos (by decide), if_neg c]
      rfl
  · have r : prt s P = if s = 218 then 0 else 99 := by
      unfold prt
      rw [e, if_neg (by decide), if_neg (by decide), if_neg (by decide), if_pos rfl]
    rw [r, e, show oN 43 = 43 from rfl, if_neg (by decide), if_neg (by decide), if_neg (by decide), if_pos rfl]
    by_cases c : s = 218
    · rw [decide_eq_true (show s = 200 + 18 from c), if_neg (by decide), if_pos c]
      rfl
    · rw [decide_eq_false (show ¬ s = 200 + 18 from c), if_pos (by decide), if_neg c]
      rfl
theorem btw_in (s : Nat) (P : List Nat) : btw s P = 99 ∨ (6 ≤ btw s P ∧ btw s P < 23 ∧ btw s P ≠ 20) := by
  unfold btw cmN
  repeat' split
  all_goals omega
/-- a sign or a word between two -/
theorem mc_between (hb : ∀ j, j < n → b j < 256) (ht : t < 4) (h : MC b n t kc I0 J0 k P C w I J) (hl : C.length + P.length ≤ 304) (hp : P.length < 159) {o r : Nat} (ho : btw (tks b n k).sort P = o) (ho9 : o ≠ 99) (hr : r = if rk o = 4 then 5 else rk o) : ∃ I1 J1, m_behindOne I J = some (1, I1, J1) ∧ MC b n t kc I0 J0 (k + 1) (o :: (stl r P C).1) (stl r P C).2 0 I1 J1 := by
  have hi := btw_in (tks b n k).sort P
  rw [ho] at hi
  have hrr : 1 ≤ r ∧ r < 8 := by
    have f : ∀ o, o < 23 → 6 ≤ o → o ≠ 20 → 1 ≤ (if rk o = 4 then 5 else rk o) ∧ (if rk o = 4 then 5 else rk o) < 8 := by decide +kernel
    rw [hr]
    exact f o (by omega) (by omega) (by omega)
  have cn0 : cn o = 0 := by
    unfold cn
    rw [if_neg (by omega)]
  have j26 : ∃ I1 J1, m_behindOne_j26 I J (nI o) (nI r) = some (1, I1, J1) ∧ MC b n t kc I0 J0 (k + 1) (o :: (stl r P C).1) (stl r P C).2 0 I1 J1 := by
    unfold m_behindOne_j26
    obtain ⟨I1, q1, q2⟩ := m_stl ht hrr.2 hrr.1 h (by omega) (by omega)
    have hsl := stl_len r P C
    rw [q1, pz_bs]
    have q2' := q2
    obtain ⟨h1, ⟨g17, g18, g19, g21, g22, g23⟩, gP, gC, gF, gJ⟩ := q2
    have e21 : u2 I1 10 (stl r P C).1.length (nI o) 0 21 = nI (stl r P C).1.length := (pz_no _ _ (Or.inl (by decide))).trans g21
    rw [g21, pz_inb (by omega) (by omega), pz_ck, pz_ix (by omega), pz_lt, e21, show (1 : Int32) = nI 1 from rfl, pz_add, pz_lt, pz_lt, show (0 : Int32) = nI 0 from rfl]
    have q3 : MC b n t kc I0 J0 k (o :: (stl r P C).1) (stl r P C).2 w (u2 (u2 I1 10 (stl r P C).1.length (nI o)) 0 21 (nI ((stl r P C).1.length + 1))) J := by
      refine q2'.upd (fun j hj => (pz_no _ _ (Or.inr (fun q => ?_))).trans (pz_no _ _ (Or.inl (by decide)))) (fun k a1 a2 a3 => (u2_row _ _ _ _ a1).trans (u2_row _ _ _ _ a3)) ((pz_no _ _ (Or.inr (by decide))).trans ((pz_no _ _ (Or.inl (by decide))).trans g18)) ((pz_at _ _ rfl rfl).trans (by rw [List.length_cons])) ((pz_no _ _ (Or.inr (by decide))).trans ((pz_no _ _ (Or.inl (by decide))).trans (g22.trans (by rw [cnt, cn0, Nat.zero_add])))) ((pz_no _ _ (Or.inr (by decide))).trans ((pz_no _ _ (Or.inl (by decide))).trans g23)) ⟨?_, by omega, gP.of fun j hj => ?_⟩ (gC.of fun j _ _ => ?_) (fun j _ => ?_)
      · rw [q] at hj
        exact absurd hj (by decide)
      · exact (pz_no _ _ (Or.inl (by decide))).trans (pz_at _ _ rfl rfl)
      · exact (pz_no _ _ (Or.inl (by decide))).trans (pz_no _ _ (Or.inr (by omega)))
      · exact (pz_no _ _ (Or.inl (by decide))).trans (pz_no _ _ (Or.inl (by decide)))
      · exact (pz_no _ _ (Or.inl (by decide))).trans (pz_no _ _ (Or.inl (by decide)))
    obtain ⟨I2, J2, r1, r2⟩ := mc_next hb (MC.whole q3 (w1 := 0))
    rw [r1, pz_bs, pz_u2]
    exact ⟨I2, J2, rfl, r2⟩
  unfold m_behindOne
  have e0 : oN (btw (tks b n k).sort P) = nI o := by
    rw [ho]
    unfold oN
    rw [if_neg ho9]
  rw [mc_btw hb h (by omega), pz_bs, e0, if_neg (nI_pos (by omega)), m_rk o (by omega), pz_bs, pz_bs, show (4 : Int32) = nI 4 from rfl]
  have hrk := rk_le o
  by_cases c : rk o = 4
  · rw [if_pos (by rw [c])]
    rw [hr, if_pos c] at j26
    rw [hr, if_pos c]
    exact j26
  · rw [if_neg (fun q => c ((nI_eq (by omega) (by omega)).mp q))]
    rw [hr, if_neg c] at j26
    rw [hr, if_neg c]
    exact j26
/-- no part goes on here -/
theorem mc_stop (hb : ∀ j, j < n → b j < 256) (h : MC b n t kc I0 J0 k P C w I J) (hp : P.length < 160) (h1 : btw (tks b n k).sort P = 99) (h2 : prt (tks b n k).sort P = 99) : m_behindOne I J = some (0, I, J) := by
  unfold m_behindOne
  rw [mc_btw hb h hp, pz_bs, h1, show oN 99 = (-1 : Int32) from rfl, if_pos (by decide), m_oNow h hp, pz_bs, mc_prt hb h hp, h2, pz_bs, show oN 99 = (-1 : Int32) from rfl, if_neg (by decide)]
/-- the next part of what is open -/
theorem mc_part (hb : ∀ j, j < n → b j < 256) (ht : t < 4) (h : MC b n t kc I0 J0 k P C w I J) (hl : C.length + P.length ≤ 304) (hp : P.length < 160) (h1 : btw (tks b n k).sort P = 99) {x v : Nat} {Q : List Nat} {C1 : List (Nat × Nat)} (hv : prt (tks b n k).sort P = v) (hv1 : 40 ≤ v ∧ v < 44) (hS : stl 1 P C = (x :: Q, C1)) (hx : 40 ≤ x) : ∃ I1 J1, m_behindOne I J = some (1, I1, J1) ∧ MC b n t kc I0 J0 (k + 1) (v :: Q) C1 0 I1 J1 := by
  unfold m_behindOne
  have e0 : oN (prt (tks b n k).sort P) = nI v := by
    rw [hv]
    unfold oN
    rw [if_neg (by omega)]
  obtain ⟨I2, q1, q2⟩ := m_stl ht (r := 1) (by decide) (by decide) h (by omega) hp
  rw [hS] at q2
  have hsl := (stl_len 1 P C).2
  rw [hS] at hsl
  dsimp only at hsl q2
  rw [List.length_cons] at hsl
  obtain ⟨I3, J3, r1, r2⟩ := mc_next hb q2
  rw [mc_btw hb h hp, pz_bs, h1, show oN 99 = (-1 : Int32) from rfl, if_pos (by decide), m_oNow h hp, pz_bs, mc_prt hb h hp, e0, pz_bs, if_pos (nI_pos' (by omega)), show (1 : Int32) = nI 1 from rfl, q1, pz_bs, r1, pz_bs, pz_u2, if_neg (nI_nle (by omega) (by omega)), m_oAt r2 (by rw [List.length_cons]; omega), pz_bs, oix, if_pos hx]
  show ∃ I1 J1, ck (inb (nI Q.length) 160) (lt_ (u2 I3 10 (ix (nI Q.length)) (nI v)) _) = _ ∧ _
  rw [pz_inb (by omega) (by omega), pz_ck, pz_ix (by omega), pz_lt, pz_lt, show (0 : Int32) = nI 0 from rfl]
  have r2' := r2
  obtain ⟨h1, ⟨g17, g18, g19, g21, g22, g23⟩, ⟨gx, gx2, gP⟩, gC, gF, gJ⟩ := r2
  have q3 : MC b n t kc I0 J0 (k + 1) (v :: Q) C1 w (u2 I3 10 Q.length (nI v)) J3 := by
    refine r2'.upd (fun j hj => pz_no _ _ (Or.inl (by decide))) (fun k a1 a2 a3 => u2_row _ _ _ _ a3) ((pz_no _ _ (Or.inl (by decide))).trans g18) ((pz_no _ _ (Or.inl (by decide))).trans g21) ((pz_no _ _ (Or.inl (by decide))).trans (g22.trans ?_)) ((pz_no _ _ (Or.inl (by decide))).trans g23) ⟨pz_at _ _ rfl rfl, hv1.2, gP.of fun j hj => pz_no _ _ (Or.inr (by omega))⟩ (gC.of fun j _ _ => pz_no _ _ (Or.inl (by decide))) (fun j _ => pz_no _ _ (Or.inl (by decide)))
    rw [cnt, cnt]
    unfold cn
    rw [if_pos (Or.inl hx), if_pos (Or.inl hv1.1)]
  exact ⟨_, _, rfl, MC.whole q3⟩
/-- what is open is shut -/
theorem mc_shut (hb : ∀ j, j < n → b j < 256) (ht : t < 4) (h : MC b n t kc I0 J0 k P C w I J) (hl : C.length + P.length ≤ 304) (hp : P.length < 160) (h1 : btw (tks b n k).sort P = 99) {x : Nat} {Q : List Nat} {C1 : List (Nat × Nat)} (hv : prt (tks b n k).sort P = 0) (hS : stl 1 P C = (x :: Q, C1)) (hx : 40 ≤ x) (hx2 : onow P = x) : ∃ I1 J1, m_behindOne I J = some (1, I1, J1) ∧ MC b n t kc I0 J0 (k + 1) (stl 7 Q (if x = 43 then C1 ++ [(3, 0)] else C1)).1 (stl 7 Q (if x = 43 then C1 ++ [(3, 0)] else C1)).2 w I1 J1 := by
  unfold m_behindOne
  obtain ⟨I2, q1, q2⟩ := m_stl ht (r := 1) (by decide) (by decide) h (by omega) hp
  rw [hS] at q2
  have hsl := stl_len 1 P C
  rw [hS] at hsl
  dsimp only at hsl q2
  rw [List.length_cons] at hsl
  obtain ⟨I3, J3, r1, r2⟩ := mc_next hb q2
  rw [mc_btw hb h hp, pz_bs, h1, show oN 99 = (-1 : Int32) from rfl, if_pos (by decide), m_oNow h hp, pz_bs, mc_prt hb h hp, hv, pz_bs, show oN 0 = 0 from rfl, if_pos (by decide), show (1 : Int32) = nI 1 from rfl, q1, pz_bs, r1, pz_bs, pz_u2, if_pos (by decide), pz_lt, pz_lt]
  have r2' := r2
  obtain ⟨h1, ⟨g17, g18, g19, g21, g22, g23⟩, ⟨gx, gx2, gP⟩, gC, gF, gJ⟩ := r2
  have cx : cn x = 1 := by
    unfold cn
    rw [if_pos (Or.inl hx)]
  have e21 : u2 I3 0 22 (nI (cnt Q)) 0 21 = nI (Q.length + 1) := (pz_no _ _ (Or.inr (by decide))).trans (g21.trans (by rw [List.length_cons]))
  rw [g22, cnt, cx, pz_sub (by omega), show 1 + cnt Q - 1 = cnt Q by omega, e21, pz_sub (by omega), show Q.length + 1 - 1 = Q.length by omega]
  have q3 : MC b n t kc I0 J0 (k + 1) Q C1 w (u2 (u2 I3 0 22 (nI (cnt Q))) 0 21 (nI Q.length)) J3 := by
    have z : ∀ j, j ≠ 21 → j ≠ 22 → u2 (u2 I3 0 22 (nI (cnt Q))) 0 21 (nI Q.length) 0 j = I3 0 j := fun j a1 a2 => (pz_no _ _ (Or.inr a1)).trans (pz_no _ _ (Or.inr a2))
    refine r2'.upd (fun j hj => ?_) (fun k a1 a2 a3 => (u2_row _ _ _ _ a1).trans (u2_row _ _ _ _ a1)) ((z 18 (by decide) (by decide)).trans g18) (pz_at _ _ rfl rfl) ((pz_no _ _ (Or.inr (by decide))).trans (pz_at _ _ rfl rfl)) ((z 23 (by decide) (by decide)).trans g23) (gP.of fun j hj => (pz_no _ _ (Or.inl (by decide))).trans (pz_no _ _ (Or.inl (by decide)))) (gC.of fun j _ _ => (pz_no _ _ (Or.inl (by decide))).trans (pz_no _ _ (Or.inl (by decide)))) (fun j _ => (pz_no _ _ (Or.inl (by decide))).trans (pz_no _ _ (Or.inl (by decide))))
    have : j ≠ 21 ∧ j ≠ 22 := by
      simp at hj
      omega
    exact z j this.1 this.2
  generalize u2 (u2 I3 0 22 (nI (cnt Q))) 0 21 (nI Q.length) = I8 at q3 ⊢
  have j139 : ∀ (I9 : PI) (C9 : List (Nat × Nat)), MC b n t kc I0 J0 (k + 1) Q C9 w I9 J3 → C9.length + Q.length ≤ 304 → ∃ I1 J1, m_behindOne_j139 J3 I9 = some (nI 1, I1, J1) ∧ MC b n t kc I0 J0 (k + 1) (stl 7 Q C9).1 (stl 7 Q C9).2 w I1 J1 := by
    intro I9 C9 a1 a2
    unfold m_behindOne_j139
    obtain ⟨I10, s1, s2⟩ := m_stl ht (r := 7) (by decide) (by decide) a1 a2 (by omega)
    rw [show (7 : Int32) = nI 7 from rfl, s1, pz_bs]
    exact ⟨_, _, rfl, s2⟩
  rw [hx2]
  by_cases c : x = 43
  · subst c
    rw [if_pos rfl, if_pos (show oN 43 = 43 from rfl)]
    obtain ⟨I9, s1, s2⟩ := mc_emit ht q3 (by omega) 3 0
    rw [show (3 : Int32) = nI 3 from rfl, show (0 : Int32) = nI 0 from rfl, s1, pz_bs]
    exact j139 I9 _ s2 (by rw [List.length_append, List.length_singleton]; omega)
  · rw [if_neg c, if_neg]
    · exact j139 I8 C1 q3 (by omega)
    · unfold oN
      rw [if_neg (by omega)]
      exact fun q => c ((nI_eq (by omega) (by omega)).mp q)
end BB
