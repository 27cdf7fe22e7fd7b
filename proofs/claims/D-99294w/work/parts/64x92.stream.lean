/-! the tokens of a tape one behind the other; both readers at one of them -/
def tks (b : Nat → Nat) (n : Nat) : Nat → Tk
  | 0 => lex b n 0
  | k + 1 => lex b n (tks b n k).at_
theorem lex_end (b : Nat → Nat) (n : Nat) : lex b n n = tkM n n 301 0 0 := by
  unfold lex
  rw [Nat.sub_self, if_pos (show wsN b 0 n = n from rfl)]
theorem tks_le {b : Nat → Nat} {n : Nat} (hb : ∀ j, j < n → b j < 256) : ∀ k, (tks b n k).at_ ≤ n := by
  intro k
  induction k with
  | zero => exact (lex_ok (Nat.zero_le n) hb).2.2.1
  | succ k ih => exact (lex_ok ih hb).2.2.1
theorem tks_sm {b : Nat → Nat} {n : Nat} (hb : ∀ j, j < n → b j < 256) (k : Nat) : ((tks b n k).sort, (tks b n k).mt) ∈ smL := by
  cases k with
  | zero => exact (lex_ok (Nat.zero_le n) hb).2.2.2.2
  | succ k => exact (lex_ok (tks_le hb k) hb).2.2.2.2
theorem lex_301 {b : Nat → Nat} {n a : Nat} (ha : a ≤ n) (hb : ∀ j, j < n → b j < 256) (h : (lex b n a).sort = 301) : (lex b n a).at_ = n := by
  unfold lex at h ⊢
  obtain ⟨w1, w2⟩ := wsN_in b (n - a) a
  generalize wsN b (n - a) a = p at w1 w2 h ⊢
  by_cases c0 : p = n
  · rw [if_pos c0]
  rw [if_neg c0] at h ⊢
  by_cases c1 : isLt (b p) = true
  · rw [if_pos c1] at h
    rcases wsrt_in (wdL b (n - p) p) with e | ⟨w, hw, e⟩ <;> (dsimp only [Tk.sort, tkM] at h; omega)
  rw [if_neg c1] at h
  by_cases c2 : isDg (b p) = true
  · rw [if_pos c2] at h
    dsimp only [Tk.sort, tkM] at h
    omega
  rw [if_neg c2] at h
  by_cases c3 : (b p = 60 ∨ b p = 62) ∧ p + 1 < n ∧ b (p + 1) = 61
  · rw [if_pos c3] at h
    dsimp only [Tk.sort, tkM] at h
    split at h <;> omega
  rw [if_neg c3] at h
  by_cases c4 : isSg (b p) = true
  · rw [if_pos c4] at h
    dsimp only [Tk.sort, tkM] at h
    have := hb p (by omega)
    omega
  rw [if_neg c4] at h
  dsimp only [Tk.sort, tkM] at h
  omega
theorem tks_end {b : Nat → Nat} {n : Nat} (hb : ∀ j, j < n → b j < 256) {k : Nat} (h : (tks b n k).sort = 301) : (tks b n k).at_ = n ∧ tks b n (k + 1) = tkM n n 301 0 0 := by
  have e : (tks b n k).at_ = n := by
    cases k with
    | zero => exact lex_301 (Nat.zero_le n) hb h
    | succ k => exact lex_301 (tks_le hb k) hb h
  exact ⟨e, by rw [tks, e, lex_end]⟩
/-- a token that isn't the end: so many bytes there are -/
theorem tks_lt {b : Nat → Nat} {n : Nat} (hb : ∀ j, j < n → b j < 256) : ∀ k, (tks b n k).sort ≠ 301 → k < (tks b n k).at_ := by
  intro k
  induction k with
  | zero => exact (lex_ok (Nat.zero_le n) hb).2.2.2.1
  | succ k ih =>
    intro h
    have h1 : (tks b n k).sort ≠ 301 := fun q => h (by rw [(tks_end hb q).2])
    have h2 := (lex_ok (tks_le hb k) hb).2.2.2.1 h
    have := ih h1
    show k + 1 < (lex b n (tks b n k).at_).at_
    omega
theorem tks_n {b : Nat → Nat} {n : Nat} (hb : ∀ j, j < n → b j < 256) {k : Nat} (h : (tks b n k).sort ≠ 301) : k + 1 ≤ n := by
  have := tks_lt hb k h
  have := tks_le hb k
  omega
theorem tks_pl {b : Nat → Nat} {n : Nat} (hb : ∀ j, j < n → b j < 256) (k : Nat) : (tks b n k).pl ≤ n := by
  cases k with
  | zero =>
    have := lex_ok (Nat.zero_le n) hb
    exact Nat.le_trans this.2.1 this.2.2.1
  | succ k =>
    have := lex_ok (tks_le hb k) hb
    exact Nat.le_trans this.2.1 this.2.2.1
/-- the class at a token -/
def XT (b : Nat → Nat) (n k : Nat) (I : PI) : Prop := TIn b n I ∧ I 0 2 = nI (tks b n k).at_ ∧ I 0 3 = nI (tks b n k).pl ∧ I 0 4 = nI (tks b n k).sort ∧ ((tks b n k).sort = 300 → I 0 5 = nI (min 99999 (tks b n k).num))
def XS (b : Nat → Nat) (n kd k o : Nat) (I : PI) : Prop := XT b n k I ∧ I 0 6 = nI o ∧ I 0 7 = nI kd
theorem xs_next {b : Nat → Nat} {n kd k o : Nat} {I : PI} (hb : ∀ j, j < n → b j < 256) (h : XS b n kd k o I) : ∃ I1, t_next I = some I1 ∧ XS b n kd (k + 1) o I1 := by
  obtain ⟨⟨h1, h2, h3, h4, h5⟩, h6, h7⟩ := h
  obtain ⟨I1, q1, q2, q3, q4, q5, q6⟩ := tx_next h1 h2 (tks_le hb k)
  exact ⟨I1, q1, ⟨h1.off q2 (by decide), q3, q4, q5, q6⟩, (q2.2 6 (by decide)).trans h6, (q2.2 7 (by decide)).trans h7⟩
theorem XS.open6 {b : Nat → Nat} {n kd k o o1 : Nat} {I : PI} (h : XS b n kd k o I) : XS b n kd k o1 (u2 I 0 6 (nI o1)) := by
  obtain ⟨⟨h1, h2, h3, h4, h5⟩, h6, h7⟩ := h
  exact ⟨⟨h1.set (by decide), (pz_no _ _ (Or.inr (by decide))).trans h2, (pz_no _ _ (Or.inr (by decide))).trans h3, (pz_no _ _ (Or.inr (by decide))).trans h4, fun q => (pz_no _ _ (Or.inr (by decide))).trans (h5 q)⟩, pz_at _ _ rfl rfl, (pz_no _ _ (Or.inr (by decide))).trans h7⟩
theorem XS.kind7 {b : Nat → Nat} {n kd kd1 k o : Nat} {I : PI} (h : XS b n kd k o I) : XS b n kd1 k o (u2 I 0 7 (nI kd1)) := by
  obtain ⟨⟨h1, h2, h3, h4, h5⟩, h6, h7⟩ := h
  exact ⟨⟨h1.set (by decide), (pz_no _ _ (Or.inr (by decide))).trans h2, (pz_no _ _ (Or.inr (by decide))).trans h3, (pz_no _ _ (Or.inr (by decide))).trans h4, fun q => (pz_no _ _ (Or.inr (by decide))).trans (h5 q)⟩, (pz_no _ _ (Or.inr (by decide))).trans h6, pz_at _ _ rfl rfl⟩
/-- the reference at a token -/
def MT (b : Nat → Nat) (n k : Nat) (I : PI) (J : PJ) : Prop := MIn b n I ∧ I 0 12 = nI (tks b n k).at_ ∧ I 0 13 = nI (tks b n k).pl ∧ I 0 14 = nI (tks b n k).mt ∧ ((tks b n k).mt = 1 → I 0 15 = nI (tks b n k).num) ∧ WJ (tks b n k) J
theorem mt_next {b : Nat → Nat} {n k : Nat} {I : PI} {J : PJ} (hb : ∀ j, j < n → b j < 256) (h : MT b n k I J) : ∃ I1 J1, m_nextToken I J = some (I1, J1) ∧ MT b n (k + 1) I1 J1 ∧ Off [12, 13, 14, 15] I I1 ∧ JOff J J1 := by
  obtain ⟨h1, h2, h3, h4, h5, h6⟩ := h
  obtain ⟨I1, J1, q1, q2, q3, q4, q5, q6, q7, q8⟩ := tm_next (J := J) h1 h2 (tks_le hb k)
  exact ⟨I1, J1, q1, ⟨h1.off q2 (by decide), q4, q5, q6, q7, q8⟩, q2, q3⟩
theorem MT.off {b : Nat → Nat} {n k : Nat} {I I1 : PI} {J : PJ} (h : MT b n k I J) (e9 : I1 9 = I 9) (e : ∀ j, 9 ≤ j → j < 16 → I1 0 j = I 0 j) : MT b n k I1 J := by
  obtain ⟨h1, h2, h3, h4, h5, h6⟩ := h
  exact ⟨⟨h1.1, (e 9 (by omega) (by omega)).trans h1.2.1, fun j hj => ⟨(h1.2.2 j hj).1, (congrFun e9 j).trans (h1.2.2 j hj).2⟩⟩, (e 12 (by omega) (by omega)).trans h2, (e 13 (by omega) (by omega)).trans h3, (e 14 (by omega) (by omega)).trans h4, fun q => (e 15 (by omega) (by omega)).trans (h5 q), h6⟩
/-- sorts of both sides -/
theorem mt_word {b : Nat → Nat} {n k : Nat} {I : PI} {J : PJ} (hb : ∀ j, j < n → b j < 256) (h : MT b n k I J) {w : Nat} (hw : w < 26) : m_isWord I J (lN (wkN w)) = some (bI (decide ((tks b n k).sort = 200 + w))) := by
  obtain ⟨h1, h2, h3, h4, h5, h6⟩ := h
  have hs := tks_sm hb k
  have f2 : ∀ p ∈ smL, p.2 < 300 ∧ (p.2 ≠ 2 → ∀ w, w < 26 → p.1 ≠ 200 + w) := by decide +kernel
  obtain ⟨g1, g2⟩ := f2 _ hs
  dsimp only at g1 g2
  unfold m_isWord
  rw [h4, show (2 : Int32) = nI 2 from rfl]
  by_cases c : (tks b n k).mt = 2
  · rw [if_pos (by rw [c])]
    have e := h6 c w hw
    by_cases d : J 0 16 = lN (wkN w)
    · rw [if_pos d, decide_eq_true (e.mp d)]
      rfl
    · rw [if_neg d, decide_eq_false (fun q => d (e.mpr q))]
      rfl
  · rw [if_neg (fun q => c ((nI_eq (by omega) (by omega)).mp q)), decide_eq_false (g2 c w hw)]
    rfl
