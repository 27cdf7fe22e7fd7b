/-! the lexer in numbers: a token of the class, a token of the reference -/
theorem tx_next {b : Nat → Nat} {n a : Nat} {I : PI} (hI : TIn b n I) (h2 : I 0 2 = nI a) (ha : a ≤ n) : ∃ I1, t_next I = some I1 ∧ Off [2, 3, 4, 5] I I1 ∧ I1 0 2 = nI (lex b n a).at_ ∧ I1 0 3 = nI (lex b n a).pl ∧ I1 0 4 = nI (lex b n a).sort ∧ ((lex b n a).sort = 300 → I1 0 5 = nI (min 99999 (lex b n a).num)) := by
  have h0 := hI.1
  obtain ⟨w1, w2⟩ := wsN_in b (n - a) a
  unfold t_next
  rw [tx_skip (n - a) a fu I (by omega) (fu_gt (by omega)) hI h2, pz_bs, pz_lt]
  unfold lex
  generalize wsN b (n - a) a = p at w1 w2 ⊢
  have e2 : u2 I 0 2 (nI p) 0 2 = nI p := pz_at _ _ rfl rfl
  rw [e2]
  have hI4 : TIn b n (u2 (u2 I 0 2 (nI p)) 0 3 (nI p)) := (hI.set (by decide)).set (by decide)
  have o4 : Off [2, 3, 4, 5] I (u2 (u2 I 0 2 (nI p)) 0 3 (nI p)) := (Off.rf.up (by decide)).up (by decide)
  have p2 : u2 (u2 I 0 2 (nI p)) 0 3 (nI p) 0 2 = nI p := (pz_no _ _ (Or.inr (by decide))).trans e2
  have p3 : u2 (u2 I 0 2 (nI p)) 0 3 (nI p) 0 3 = nI p := pz_at _ _ rfl rfl
  generalize u2 (u2 I 0 2 (nI p)) 0 3 (nI p) = I4 at hI4 o4 p2 p3 ⊢
  rw [p2, hI4.2.1]
  by_cases c0 : p = n
  · subst c0
    rw [if_pos rfl, if_pos rfl, pz_lt]
    exact ⟨_, rfl, o4.up (by decide), (pz_no _ _ (Or.inr (by decide))).trans p2, (pz_no _ _ (Or.inr (by decide))).trans p3, pz_at _ _ rfl rfl, fun q => absurd (show (301 : Nat) = 300 from q) (by decide)⟩
  rw [if_neg c0, if_neg (fun q => c0 ((nI_eq (by omega) (by omega)).mp q))]
  obtain ⟨hb, hbx⟩ := hI4.2.2 p (by omega)
  rw [pz_inb (by omega) (by omega), pz_ck, pz_ix (by omega), hbx, t_lt _ hb, pz_bs]
  by_cases c1 : isLt (b p) = true
  · rw [if_pos c1, c1, if_neg (by decide), tx_lt (n - p) p fu I4 (by omega) (fu_gt (by omega)) hI4 p2, pz_bs, pz_lt]
    obtain ⟨l1, l2, l3⟩ := wdL_at b (n - p) p
    have l4 := wdL_lt b (n - p) p
    rw [l1]
    generalize wdL b (n - p) p = L at l1 l2 l3 l4 ⊢
    have r := tx_words (b := b) (n := n) (a := p) (L := L) (by omega) l3 l4 26 0 fu (u2 (u2 I4 0 2 (nI (p + L.length))) 0 4 (302 : Int32)) (by omega) (fu_gt (by omega)) ((hI4.set (by decide)).set (by decide)) ((pz_no _ _ (Or.inr (by decide))).trans (pz_at _ _ rfl rfl)) ((pz_no _ _ (Or.inr (by decide))).trans ((pz_no _ _ (Or.inr (by decide))).trans p3)) (pz_at _ _ rfl rfl)
    rw [show (0 : Int32) = nI 0 from rfl, r, pz_bs]
    have wne : wsrt L 26 ≠ 300 := by
      rcases wsrt_in L with e | ⟨w, hw, e⟩ <;> omega
    exact ⟨_, rfl, ((o4.up (by decide)).up (by decide)).up (by decide), (pz_no _ _ (Or.inr (by decide))).trans ((pz_no _ _ (Or.inr (by decide))).trans (pz_at _ _ rfl rfl)), (pz_no _ _ (Or.inr (by decide))).trans ((pz_no _ _ (Or.inr (by decide))).trans ((pz_no _ _ (Or.inr (by decide))).trans p3)), pz_at _ _ rfl rfl, fun q => absurd q wne⟩
  rw [if_neg c1, Bool.eq_false_iff.mpr c1, if_pos (by decide), pz_ck, t_dg _ hb, pz_bs]
  by_cases c2 : isDg (b p) = true
  · rw [if_pos c2, c2, if_neg (by decide), pz_lt, pz_lt]
    obtain ⟨I1, q1, q2, q3, q4, q5⟩ := tx_fig (b := b) (n := n) (n - p) p 0 fu (u2 (u2 I4 0 4 300) 0 5 0) (by omega) (fu_gt (by omega)) ((hI4.set (by decide)).set (by decide)) ((pz_no _ _ (Or.inr (by decide))).trans ((pz_no _ _ (Or.inr (by decide))).trans p2)) (pz_at _ _ rfl rfl) (by omega)
    rw [q1, pz_lbl]
    exact ⟨I1, rfl, ((o4.up (by decide)).up (by decide)).tr (q2.mono (by intro j hj; simp at hj ⊢; omega)), q3, (q2.2 3 (by decide)).trans ((pz_no _ _ (Or.inr (by decide))).trans ((pz_no _ _ (Or.inr (by decide))).trans p3)), (q2.2 4 (by decide)).trans ((pz_no _ _ (Or.inr (by decide))).trans (pz_at _ _ rfl rfl)), fun _ => q4⟩
  rw [if_neg c2, Bool.eq_false_iff.mpr c2, if_pos (by decide), pz_ck, pz_lt, pz_lt, pz_lt, show (1 : Int32) = nI 1 from rfl, pz_add]
  obtain ⟨I1, q1, q2, q3⟩ := tx_signs hb 11 0 fu (u2 (u2 I4 0 2 (nI (p + 1))) 0 4 302) (by omega) (fu_gt (by omega)) (pz_at _ _ rfl rfl)
  rw [show (0 : Int32) = nI 0 from rfl, q1, pz_bs]
  have o1 : Off [2, 3, 4, 5] I I1 := ((o4.up (by decide)).up (by decide)).tr (q2.mono (by intro j hj; simp at hj ⊢; omega))
  have r2 : I1 0 2 = nI (p + 1) := (q2.2 2 (by decide)).trans ((pz_no _ _ (Or.inr (by decide))).trans (pz_at _ _ rfl rfl))
  have r3 : I1 0 3 = nI p := (q2.2 3 (by decide)).trans ((pz_no _ _ (Or.inr (by decide))).trans ((pz_no _ _ (Or.inr (by decide))).trans p3))
  have hI1 : TIn b n I1 := hI.off o1 (by decide)
  rw [sgN_all _ hb] at q3
  have fin : ¬ ((b p = 60 ∨ b p = 62) ∧ p + 1 < n ∧ b (p + 1) = 61) → ∃ I2, some I1 = some I2 ∧ Off [2, 3, 4, 5] I I2 ∧ I2 0 2 = nI (if isSg (b p) = true then (tkM p (p + 1) (b p) (b p) 0) else tkM p (p + 1) 302 (if b p = 58 then 58 else 3) 0).at_ ∧ I2 0 3 = nI (if isSg (b p) = true then (tkM p (p + 1) (b p) (b p) 0) else tkM p (p + 1) 302 (if b p = 58 then 58 else 3) 0).pl ∧ I2 0 4 = nI (if isSg (b p) = true then (tkM p (p + 1) (b p) (b p) 0) else tkM p (p + 1) 302 (if b p = 58 then 58 else 3) 0).sort ∧ ((if isSg (b p) = true then (tkM p (p + 1) (b p) (b p) 0) else tkM p (p + 1) 302 (if b p = 58 then 58 else 3) 0).sort = 300 → I2 0 5 = nI (min 99999 (if isSg (b p) = true then (tkM p (p + 1) (b p) (b p) 0) else tkM p (p + 1) 302 (if b p = 58 then 58 else 3) 0).num)) := by
    intro _
    by_cases c4 : isSg (b p) = true
    · rw [if_pos c4] at q3 ⊢
      have : b p < 128 := by
        have k : ∀ c, c < 256 → isSg c = true → c < 128 := by decide +kernel
        exact k _ hb c4
      rw [if_neg (by omega), byX_lo this] at q3
      exact ⟨I1, rfl, o1, r2, r3, q3, fun q => absurd (show b p = 300 from q) (by omega)⟩
    · rw [if_neg c4] at q3 ⊢
      rw [if_pos rfl] at q3
      exact ⟨I1, rfl, o1, r2, r3, q3, fun q => absurd (show (302 : Nat) = 300 from q) (by decide)⟩
  have j348 : ∀ k, k = 60 ∨ k = 62 → b p = k → ∃ I2, t_next_j348 (nI k) I1 = some I2 ∧ Off [2, 3, 4, 5] I I2 ∧ I2 0 2 = nI (if (b p = 60 ∨ b p = 62) ∧ p + 1 < n ∧ b (p + 1) = 61 then (tkM p (p + 2) (if b p = 60 then 303 else 304) (if b p = 60 then 4 else 5) 0) else if isSg (b p) = true then tkM p (p + 1) (b p) (b p) 0 else tkM p (p + 1) 302 (if b p = 58 then 58 else 3) 0).at_ ∧ I2 0 3 = nI (if (b p = 60 ∨ b p = 62) ∧ p + 1 < n ∧ b (p + 1) = 61 then (tkM p (p + 2) (if b p = 60 then 303 else 304) (if b p = 60 then 4 else 5) 0) else if isSg (b p) = true then tkM p (p + 1) (b p) (b p) 0 else tkM p (p + 1) 302 (if b p = 58 then 58 else 3) 0).pl ∧ I2 0 4 = nI (if (b p = 60 ∨ b p = 62) ∧ p + 1 < n ∧ b (p + 1) = 61 then (tkM p (p + 2) (if b p = 60 then 303 else 304) (if b p = 60 then 4 else 5) 0) else if isSg (b p) = true then tkM p (p + 1) (b p) (b p) 0 else tkM p (p + 1) 302 (if b p = 58 then 58 else 3) 0).sort ∧ ((if (b p = 60 ∨ b p = 62) ∧ p + 1 < n ∧ b (p + 1) = 61 then (tkM p (p + 2) (if b p = 60 then 303 else 304) (if b p = 60 then 4 else 5) 0) else if isSg (b p) = true then tkM p (p + 1) (b p) (b p) 0 else tkM p (p + 1) 302 (if b p = 58 then 58 else 3) 0).sort = 300 → I2 0 5 = nI (min 99999 (if (b p = 60 ∨ b p = 62) ∧ p + 1 < n ∧ b (p + 1) = 61 then (tkM p (p + 2) (if b p = 60 then 303 else 304) (if b p = 60 then 4 else 5) 0) else if isSg (b p) = true then tkM p (p + 1) (b p) (b p) 0 else tkM p (p + 1) 302 (if b p = 58 then 58 else 3) 0).num)) := by
    intro k hk e
    unfold t_next_j348
    rw [hI1.2.1, r2]
    by_cases c5 : p + 1 < n
    · rw [if_neg (fun q => absurd ((nI_leI (by omega) (by omega)).mp q) (by omega)), pz_inb (by omega) (by omega), pz_ck, pz_ix (by omega), (hI1.2.2 (p + 1) c5).2, show (61 : Int32) = nI 61 from rfl]
      by_cases c6 : b (p + 1) = 61
      · rw [if_pos ((byX_eq (by decide) (hI1.2.2 (p + 1) c5).1).mpr c6), if_pos (show (b p = 60 ∨ b p = 62) ∧ p + 1 < n ∧ b (p + 1) = 61 from ⟨by omega, c5, c6⟩), show (60 : Int32) = nI 60 from rfl]
        have j389 : ∀ v : Nat, v ≠ 300 → ∃ I2, t_next_j389 I1 (nI v) = some I2 ∧ Off [2, 3, 4, 5] I I2 ∧ I2 0 2 = nI (p + 2) ∧ I2 0 3 = nI p ∧ I2 0 4 = nI v := by
          intro v _
          unfold t_next_j389
          rw [pz_lt, pz_lt, show u2 I1 0 4 (nI v) 0 2 = nI (p + 1) from (pz_no _ _ (Or.inr (by decide))).trans r2, show (1 : Int32) = nI 1 from rfl, pz_add]
          exact ⟨_, rfl, (o1.up (by decide)).up (by decide), pz_at _ _ rfl rfl, (pz_no _ _ (Or.inr (by decide))).trans ((pz_no _ _ (Or.inr (by decide))).trans r3), (pz_no _ _ (Or.inr (by decide))).trans (pz_at _ _ rfl rfl)⟩
        rcases hk with rfl | rfl
        · rw [if_pos rfl, if_pos e]
          obtain ⟨I2, s1, s2, s3, s4, s5⟩ := j389 303 (by decide)
          exact ⟨I2, s1, s2, s3, s4, s5, fun q => absurd (show (303 : Nat) = 300 from q) (by decide)⟩
        · rw [if_neg (by decide), if_neg (by omega)]
          obtain ⟨I2, s1, s2, s3, s4, s5⟩ := j389 304 (by decide)
          exact ⟨I2, s1, s2, s3, s4, s5, fun q => absurd (show (304 : Nat) = 300 from q) (by decide)⟩
      · rw [if_neg (fun q => c6 ((byX_eq (c := 61) (by decide) (hI1.2.2 (p + 1) c5).1).mp q)), if_neg (fun q => c6 q.2.2)]
        exact fin (fun q => c6 q.2.2)
    · rw [if_pos ((nI_leI (by omega) (by omega)).mpr (by omega)), if_neg (fun q => c5 q.2.1)]
      exact fin (fun q => c5 q.2.1)
  rw [show (60 : Int32) = nI 60 from rfl, show (62 : Int32) = nI 62 from rfl]
  by_cases d1 : b p = 60
  · rw [if_pos ((byX_eq (by decide) hb).mpr d1), byX_lo (by omega)]
    rw [show nI (b p) = nI 60 from by rw [d1]]
    exact j348 60 (Or.inl rfl) d1
  · rw [if_neg (fun q => d1 ((byX_eq (c := 60) (by decide) hb).mp q))]
    by_cases d2 : b p = 62
    · rw [if_pos ((byX_eq (by decide) hb).mpr d2), byX_lo (by omega)]
      rw [show nI (b p) = nI 62 from by rw [d2]]
      exact j348 62 (Or.inr rfl) d2
    · rw [if_neg (fun q => d2 ((byX_eq (c := 62) (by decide) hb).mp q)), if_neg (fun q => q.1.elim d1 d2)]
      exact fin (fun q => q.1.elim d1 d2)
