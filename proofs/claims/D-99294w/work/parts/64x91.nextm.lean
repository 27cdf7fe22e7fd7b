/-! the lexer in numbers: a token of the reference -/
/-- what the reference's longs say of a word -/
def WJ (t : Tk) (J : PJ) : Prop := t.mt = 2 → ∀ w, w < 26 → (J 0 16 = lN (wkN w) ↔ t.sort = 200 + w)
def JOff (J J1 : PJ) : Prop := ∀ k j, k ≠ 0 ∨ j ≠ 16 → J1 k j = J k j
theorem JOff.rf {J : PJ} : JOff J J := fun _ _ _ => rfl
theorem JOff.tr {J J1 J2 : PJ} (h : JOff J J1) (g : JOff J1 J2) : JOff J J2 := fun k j hk => (g k j hk).trans (h k j hk)
theorem tm_next {b : Nat → Nat} {n a : Nat} {I : PI} {J : PJ} (hI : MIn b n I) (h2 : I 0 12 = nI a) (ha : a ≤ n) : ∃ I1 J1, m_nextToken I J = some (I1, J1) ∧ Off [12, 13, 14, 15] I I1 ∧ JOff J J1 ∧ I1 0 12 = nI (lex b n a).at_ ∧ I1 0 13 = nI (lex b n a).pl ∧ I1 0 14 = nI (lex b n a).mt ∧ ((lex b n a).mt = 1 → I1 0 15 = nI (lex b n a).num) ∧ WJ (lex b n a) J1 := by
  have h0 := hI.1
  obtain ⟨w1, w2⟩ := wsN_in b (n - a) a
  unfold m_nextToken
  rw [tm_skip (n - a) a fu I (by omega) (fu_gt (by omega)) hI h2, pz_bs, pz_lt]
  unfold lex
  generalize wsN b (n - a) a = p at w1 w2 ⊢
  have e2 : u2 I 0 12 (nI p) 0 12 = nI p := pz_at _ _ rfl rfl
  rw [e2]
  have hI4 : MIn b n (u2 (u2 I 0 12 (nI p)) 0 13 (nI p)) := (hI.set (by decide)).set (by decide)
  have o4 : Off [12, 13, 14, 15] I (u2 (u2 I 0 12 (nI p)) 0 13 (nI p)) := (Off.rf.up (by decide)).up (by decide)
  have p2 : u2 (u2 I 0 12 (nI p)) 0 13 (nI p) 0 12 = nI p := (pz_no _ _ (Or.inr (by decide))).trans e2
  have p3 : u2 (u2 I 0 12 (nI p)) 0 13 (nI p) 0 13 = nI p := pz_at _ _ rfl rfl
  generalize u2 (u2 I 0 12 (nI p)) 0 13 (nI p) = I4 at hI4 o4 p2 p3 ⊢
  rw [p2]
  by_cases c0 : p = n
  · subst c0
    rw [if_pos rfl, m_byteAt_end hI4, pz_bs, if_neg (by decide), pz_lt]
    exact ⟨_, _, rfl, o4.up (by decide), JOff.rf, (pz_no _ _ (Or.inr (by decide))).trans p2, (pz_no _ _ (Or.inr (by decide))).trans p3, pz_at _ _ rfl rfl, fun q => absurd (show (0 : Nat) = 1 from q) (by decide), fun q => absurd (show (0 : Nat) = 2 from q) (by decide)⟩
  rw [if_neg c0]
  obtain ⟨hb, -⟩ := hI4.2.2 p (by omega)
  rw [m_byteAt_in hI4 (by omega), pz_bs, if_pos (nI_pos' (by omega)), m_dg _ hb, pz_bs]
  have dl : isDg (b p) = true → isLt (b p) = true → False := by
    intro x y
    have := isDg_in x
    have := isLt_in y
    omega
  by_cases c1 : isLt (b p) = true
  · have c2 : isDg (b p) = false := by
      cases c : isDg (b p)
      · rfl
      · exact (dl c c1).elim
    rw [if_pos c1, c2, if_pos (by decide), m_lt _ hb, pz_bs, c1, if_neg (by decide), pz_lt, pz_lt]
    obtain ⟨J1, r1, r2, r3, r4⟩ := tm_lt (b := b) (n := n) (n - p) p 0 fu (u2 I4 0 14 2) (u2 J 0 16 0) (by omega) (fu_gt (by omega)) (hI4.set (by decide)) ((pz_no _ _ (Or.inr (by decide))).trans p2) (pz_at _ _ rfl rfl) (by decide)
    rw [r1, pz_lbl]
    refine ⟨_, _, rfl, (o4.up (by decide)).up (by decide), fun k j hk => (r4 k j hk).trans (pz_no _ _ hk), pz_at _ _ rfl rfl, (pz_no _ _ (Or.inr (by decide))).trans ((pz_no _ _ (Or.inr (by decide))).trans p3), (pz_no _ _ (Or.inr (by decide))).trans (pz_at _ _ rfl rfl), fun q => absurd (show (2 : Nat) = 1 from q) (by decide), fun _ w hw => ?_⟩
    show J1 0 16 = _ ↔ wsrt _ 26 = 200 + w
    have := (pW_ok w hw).2.1
    rw [r2, pk_lEQ (by omega) (by omega), wdL_pk, pk_word (wdL_lt b (n - p) p) hw, wsrt_iff hw]
  rw [if_neg c1]
  by_cases c2 : isDg (b p) = true
  · rw [if_pos c2, c2, if_neg (by decide), pz_lt, pz_lt]
    obtain ⟨I1, q1, q2, q3, q4⟩ := tm_fig (b := b) (n := n) (J := J) (n - p) p 0 fu (u2 (u2 I4 0 14 1) 0 15 0) (by omega) (fu_gt (by omega)) ((hI4.set (by decide)).set (by decide)) ((pz_no _ _ (Or.inr (by decide))).trans ((pz_no _ _ (Or.inr (by decide))).trans p2)) (pz_at _ _ rfl rfl) (by omega)
    rw [q1, pz_lbl]
    exact ⟨I1, _, rfl, ((o4.up (by decide)).up (by decide)).tr (q2.mono (by intro j hj; simp at hj ⊢; omega)), JOff.rf, q3, (q2.2 13 (by decide)).trans ((pz_no _ _ (Or.inr (by decide))).trans ((pz_no _ _ (Or.inr (by decide))).trans p3)), (q2.2 14 (by decide)).trans ((pz_no _ _ (Or.inr (by decide))).trans (pz_at _ _ rfl rfl)), fun _ => q4, fun q => absurd (show (1 : Nat) = 2 from q) (by decide)⟩
  rw [if_neg c2, Bool.eq_false_iff.mpr c2, if_pos (by decide), m_lt _ hb, pz_bs, Bool.eq_false_iff.mpr c1, if_pos (by decide), m_sg _ hb, pz_bs]
  have j247 : ∀ v : Nat, v ≠ 1 → v ≠ 2 → v = (if isSg (b p) = true then b p else if b p = 58 then 58 else 3) → ∃ I1 J1, m_nextToken_j247 J I4 (nI (b p)) (nI v) = some (I1, J1) ∧ Off [12, 13, 14, 15] I I1 ∧ JOff J J1 ∧ I1 0 12 = nI (if (b p = 60 ∨ b p = 62) ∧ p + 1 < n ∧ b (p + 1) = 61 then (tkM p (p + 2) (if b p = 60 then 303 else 304) (if b p = 60 then 4 else 5) 0) else if isSg (b p) = true then tkM p (p + 1) (b p) (b p) 0 else tkM p (p + 1) 302 (if b p = 58 then 58 else 3) 0).at_ ∧ I1 0 13 = nI (if (b p = 60 ∨ b p = 62) ∧ p + 1 < n ∧ b (p + 1) = 61 then (tkM p (p + 2) (if b p = 60 then 303 else 304) (if b p = 60 then 4 else 5) 0) else if isSg (b p) = true then tkM p (p + 1) (b p) (b p) 0 else tkM p (p + 1) 302 (if b p = 58 then 58 else 3) 0).pl ∧ I1 0 14 = nI (if (b p = 60 ∨ b p = 62) ∧ p + 1 < n ∧ b (p + 1) = 61 then (tkM p (p + 2) (if b p = 60 then 303 else 304) (if b p = 60 then 4 else 5) 0) else if isSg (b p) = true then tkM p (p + 1) (b p) (b p) 0 else tkM p (p + 1) 302 (if b p = 58 then 58 else 3) 0).mt ∧ ((if (b p = 60 ∨ b p = 62) ∧ p + 1 < n ∧ b (p + 1) = 61 then (tkM p (p + 2) (if b p = 60 then 303 else 304) (if b p = 60 then 4 else 5) 0) else if isSg (b p) = true then tkM p (p + 1) (b p) (b p) 0 else tkM p (p + 1) 302 (if b p = 58 then 58 else 3) 0).mt ≠ 1 ∧ (if (b p = 60 ∨ b p = 62) ∧ p + 1 < n ∧ b (p + 1) = 61 then (tkM p (p + 2) (if b p = 60 then 303 else 304) (if b p = 60 then 4 else 5) 0) else if isSg (b p) = true then tkM p (p + 1) (b p) (b p) 0 else tkM p (p + 1) 302 (if b p = 58 then 58 else 3) 0).mt ≠ 2) := by
    intro v v1 v2 ev
    unfold m_nextToken_j247
    rw [pz_lt, pz_lt, show u2 I4 0 14 (nI v) 0 12 = nI p from (pz_no _ _ (Or.inr (by decide))).trans p2, show (1 : Int32) = nI 1 from rfl, pz_add]
    have hI13 : MIn b n (u2 (u2 I4 0 14 (nI v)) 0 12 (nI (p + 1))) := (hI4.set (by decide)).set (by decide)
    have o13 : Off [12, 13, 14, 15] I (u2 (u2 I4 0 14 (nI v)) 0 12 (nI (p + 1))) := (o4.up (by decide)).up (by decide)
    have r2 : u2 (u2 I4 0 14 (nI v)) 0 12 (nI (p + 1)) 0 12 = nI (p + 1) := pz_at _ _ rfl rfl
    have r3 : u2 (u2 I4 0 14 (nI v)) 0 12 (nI (p + 1)) 0 13 = nI p := (pz_no _ _ (Or.inr (by decide))).trans ((pz_no _ _ (Or.inr (by decide))).trans p3)
    have r4 : u2 (u2 I4 0 14 (nI v)) 0 12 (nI (p + 1)) 0 14 = nI v := (pz_no _ _ (Or.inr (by decide))).trans (pz_at _ _ rfl rfl)
    generalize u2 (u2 I4 0 14 (nI v)) 0 12 (nI (p + 1)) = I13 at hI13 o13 r2 r3 r4 ⊢
    have fin : ¬ ((b p = 60 ∨ b p = 62) ∧ p + 1 < n ∧ b (p + 1) = 61) → ∃ I1 J1, some (I13, J) = some (I1, J1) ∧ Off [12, 13, 14, 15] I I1 ∧ JOff J J1 ∧ I1 0 12 = nI (if (b p = 60 ∨ b p = 62) ∧ p + 1 < n ∧ b (p + 1) = 61 then (tkM p (p + 2) (if b p = 60 then 303 else 304) (if b p = 60 then 4 else 5) 0) else if isSg (b p) = true then tkM p (p + 1) (b p) (b p) 0 else tkM p (p + 1) 302 (if b p = 58 then 58 else 3) 0).at_ ∧ I1 0 13 = nI (if (b p = 60 ∨ b p = 62) ∧ p + 1 < n ∧ b (p + 1) = 61 then (tkM p (p + 2) (if b p = 60 then 303 else 304) (if b p = 60 then 4 else 5) 0) else if isSg (b p) = true then tkM p (p + 1) (b p) (b p) 0 else tkM p (p + 1) 302 (if b p = 58 then 58 else 3) 0).pl ∧ I1 0 14 = nI (if (b p = 60 ∨ b p = 62) ∧ p + 1 < n ∧ b (p + 1) = 61 then (tkM p (p + 2) (if b p = 60 then 303 else 304) (if b p = 60 then 4 else 5) 0) else if isSg (b p) = true then tkM p (p + 1) (b p) (b p) 0 else tkM p (p + 1) 302 (if b p = 58 then 58 else 3) 0).mt ∧ ((if (b p = 60 ∨ b p = 62) ∧ p + 1 < n ∧ b (p + 1) = 61 then (tkM p (p + 2) (if b p = 60 then 303 else 304) (if b p = 60 then 4 else 5) 0) else if isSg (b p) = true then tkM p (p + 1) (b p) (b p) 0 else tkM p (p + 1) 302 (if b p = 58 then 58 else 3) 0).mt ≠ 1 ∧ (if (b p = 60 ∨ b p = 62) ∧ p + 1 < n ∧ b (p + 1) = 61 then (tkM p (p + 2) (if b p = 60 then 303 else 304) (if b p = 60 then 4 else 5) 0) else if isSg (b p) = true then tkM p (p + 1) (b p) (b p) 0 else tkM p (p + 1) 302 (if b p = 58 then 58 else 3) 0).mt ≠ 2) := by
      intro cc
      rw [if_neg cc]
      refine ⟨I13, J, rfl, o13, JOff.rf, ?_⟩
      by_cases c4 : isSg (b p) = true
      · rw [if_pos c4] at ev ⊢
        subst ev
        exact ⟨r2, r3, r4, v1, v2⟩
      · rw [if_neg c4] at ev ⊢
        rw [ev] at r4 v1 v2
        exact ⟨r2, r3, r4, v1, v2⟩
    have j272 : ∀ k, k = 60 ∨ k = 62 → b p = k → ∃ I1 J1, m_nextToken_j272 J (nI k) I13 = some (I1, J1) ∧ Off [12, 13, 14, 15] I I1 ∧ JOff J J1 ∧ I1 0 12 = nI (if (b p = 60 ∨ b p = 62) ∧ p + 1 < n ∧ b (p + 1) = 61 then (tkM p (p + 2) (if b p = 60 then 303 else 304) (if b p = 60 then 4 else 5) 0) else if isSg (b p) = true then tkM p (p + 1) (b p) (b p) 0 else tkM p (p + 1) 302 (if b p = 58 then 58 else 3) 0).at_ ∧ I1 0 13 = nI (if (b p = 60 ∨ b p = 62) ∧ p + 1 < n ∧ b (p + 1) = 61 then (tkM p (p + 2) (if b p = 60 then 303 else 304) (if b p = 60 then 4 else 5) 0) else if isSg (b p) = true then tkM p (p + 1) (b p) (b p) 0 else tkM p (p + 1) 302 (if b p = 58 then 58 else 3) 0).pl ∧ I1 0 14 = nI (if (b p = 60 ∨ b p = 62) ∧ p + 1 < n ∧ b (p + 1) = 61 then (tkM p (p + 2) (if b p = 60 then 303 else 304) (if b p = 60 then 4 else 5) 0) else if isSg (b p) = true then tkM p (p + 1) (b p) (b p) 0 else tkM p (p + 1) 302 (if b p = 58 then 58 else 3) 0).mt ∧ ((if (b p = 60 ∨ b p = 62) ∧ p + 1 < n ∧ b (p + 1) = 61 then (tkM p (p + 2) (if b p = 60 then 303 else 304) (if b p = 60 then 4 else 5) 0) else if isSg (b p) = true then tkM p (p + 1) (b p) (b p) 0 else tkM p (p + 1) 302 (if b p = 58 then 58 else 3) 0).mt ≠ 1 ∧ (if (b p = 60 ∨ b p = 62) ∧ p + 1 < n ∧ b (p + 1) = 61 then (tkM p (p + 2) (if b p = 60 then 303 else 304) (if b p = 60 then 4 else 5) 0) else if isSg (b p) = true then tkM p (p + 1) (b p) (b p) 0 else tkM p (p + 1) 302 (if b p = 58 then 58 else 3) 0).mt ≠ 2) := by
      intro k hk e
      unfold m_nextToken_j272
      rw [r2]
      by_cases c5 : p + 1 < n
      · rw [m_byteAt_in hI13 c5, pz_bs, show (61 : Int32) = nI 61 from rfl]
        have hb1 := (hI13.2.2 (p + 1) c5).1
        by_cases c6 : b (p + 1) = 61
        · rw [if_pos (by rw [c6]), if_pos (show (b p = 60 ∨ b p = 62) ∧ p + 1 < n ∧ b (p + 1) = 61 from ⟨by omega, c5, c6⟩), show (60 : Int32) = nI 60 from rfl]
          have j297 : ∀ v : Nat, v = 4 ∨ v = 5 → ∃ I1 J1, m_nextToken_j297 J I13 (nI v) = some (I1, J1) ∧ Off [12, 13, 14, 15] I I1 ∧ JOff J J1 ∧ I1 0 12 = nI (p + 2) ∧ I1 0 13 = nI p ∧ I1 0 14 = nI v ∧ v ≠ 1 ∧ v ≠ 2 := by
            intro v hv
            unfold m_nextToken_j297
            rw [pz_lt, pz_lt, show u2 I13 0 14 (nI v) 0 12 = nI (p + 1) from (pz_no _ _ (Or.inr (by decide))).trans r2, show (1 : Int32) = nI 1 from rfl, pz_add]
            exact ⟨_, _, rfl, (o13.up (by decide)).up (by decide), JOff.rf, pz_at _ _ rfl rfl, (pz_no _ _ (Or.inr (by decide))).trans ((pz_no _ _ (Or.inr (by decide))).trans r3), (pz_no _ _ (Or.inr (by decide))).trans (pz_at _ _ rfl rfl), by omega, by omega⟩
          rcases hk with rfl | rfl
          · rw [if_pos rfl, if_pos e, if_pos e]
            exact j297 4 (Or.inl rfl)
          · rw [if_neg (by decide), if_neg (by omega), if_neg (by omega)]
            exact j297 5 (Or.inr rfl)
        · rw [if_neg (fun q => c6 ((nI_eq (by omega) (by omega)).mp q))]
          exact fin (fun q => c6 q.2.2)
      · have e9 : p + 1 = n := by omega
        have be := m_byteAt_end hI13
        rw [show nI n = nI (p + 1) by rw [e9]] at be
        rw [be, pz_bs, if_neg (by decide)]
        exact fin (fun q => c5 q.2.1)
    rw [show (60 : Int32) = nI 60 from rfl, show (62 : Int32) = nI 62 from rfl]
    by_cases d1 : b p = 60
    · rw [if_pos (by rw [d1])]
      rw [show nI (b p) = nI 60 from by rw [d1]]
      exact j272 60 (Or.inl rfl) d1
    · rw [if_neg (fun q => d1 ((nI_eq (by omega) (by omega)).mp q))]
      by_cases d2 : b p = 62
      · rw [if_pos (by rw [d2])]
        rw [show nI (b p) = nI 62 from by rw [d2]]
        exact j272 62 (Or.inr rfl) d2
      · rw [if_neg (fun q => d2 ((nI_eq (by omega) (by omega)).mp q))]
        exact fin (fun q => q.1.elim d1 d2)
  have wrap : ∀ v : Nat, v ≠ 1 → v ≠ 2 → v = (if isSg (b p) = true then b p else if b p = 58 then 58 else 3) → ∃ I1 J1, m_nextToken_j247 J I4 (nI (b p)) (nI v) = some (I1, J1) ∧ Off [12, 13, 14, 15] I I1 ∧ JOff J J1 ∧ I1 0 12 = nI (if (b p = 60 ∨ b p = 62) ∧ p + 1 < n ∧ b (p + 1) = 61 then (tkM p (p + 2) (if b p = 60 then 303 else 304) (if b p = 60 then 4 else 5) 0) else if isSg (b p) = true then tkM p (p + 1) (b p) (b p) 0 else tkM p (p + 1) 302 (if b p = 58 then 58 else 3) 0).at_ ∧ I1 0 13 = nI (if (b p = 60 ∨ b p = 62) ∧ p + 1 < n ∧ b (p + 1) = 61 then (tkM p (p + 2) (if b p = 60 then 303 else 304) (if b p = 60 then 4 else 5) 0) else if isSg (b p) = true then tkM p (p + 1) (b p) (b p) 0 else tkM p (p + 1) 302 (if b p = 58 then 58 else 3) 0).pl ∧ I1 0 14 = nI (if (b p = 60 ∨ b p = 62) ∧ p + 1 < n ∧ b (p + 1) = 61 then (tkM p (p + 2) (if b p = 60 then 303 else 304) (if b p = 60 then 4 else 5) 0) else if isSg (b p) = true then tkM p (p + 1) (b p) (b p) 0 else tkM p (p + 1) 302 (if b p = 58 then 58 else 3) 0).mt ∧ ((if (b p = 60 ∨ b p = 62) ∧ p + 1 < n ∧ b (p + 1) = 61 then (tkM p (p + 2) (if b p = 60 then 303 else 304) (if b p = 60 then 4 else 5) 0) else if isSg (b p) = true then tkM p (p + 1) (b p) (b p) 0 else tkM p (p + 1) 302 (if b p = 58 then 58 else 3) 0).mt = 1 → I1 0 15 = nI (if (b p = 60 ∨ b p = 62) ∧ p + 1 < n ∧ b (p + 1) = 61 then (tkM p (p + 2) (if b p = 60 then 303 else 304) (if b p = 60 then 4 else 5) 0) else if isSg (b p) = true then tkM p (p + 1) (b p) (b p) 0 else tkM p (p + 1) 302 (if b p = 58 then 58 else 3) 0).num) ∧ WJ (if (b p = 60 ∨ b p = 62) ∧ p + 1 < n ∧ b (p + 1) = 61 then (tkM p (p + 2) (if b p = 60 then 303 else 304) (if b p = 60 then 4 else 5) 0) else if isSg (b p) = true then tkM p (p + 1) (b p) (b p) 0 else tkM p (p + 1) 302 (if b p = 58 then 58 else 3) 0) J1 := by
    intro v v1 v2 ev
    obtain ⟨I1, J1, q1, q2, q3, q4, q5, q6, q7, q8⟩ := j247 v v1 v2 ev
    exact ⟨I1, J1, q1, q2, q3, q4, q5, q6, fun q => absurd q q7, fun q => absurd q q8⟩
  by_cases c4 : isSg (b p) = true
  · have k : ∀ c, c < 256 → isSg c = true → 3 ≤ c := by decide +kernel
    have := k _ hb c4
    rw [show (isSg (b p) || decide (b p = 58)) = true from by rw [c4]; rfl, if_neg (by decide)]
    exact wrap (b p) (by omega) (by omega) (by rw [if_pos c4])
  · by_cases c7 : b p = 58
    · rw [show (isSg (b p) || decide (b p = 58)) = true from by rw [decide_eq_true c7, Bool.or_true], if_neg (by decide)]
      exact wrap (b p) (by omega) (by omega) (by rw [if_neg c4, if_pos c7, c7])
    · rw [show (isSg (b p) || decide (b p = 58)) = false from by rw [decide_eq_false c7, Bool.eq_false_iff.mpr c4]; rfl, if_pos (by decide), show (3 : Int32) = nI 3 from rfl]
      exact wrap 3 (by omega) (by omega) (by rw [if_neg c4, if_neg c7])
