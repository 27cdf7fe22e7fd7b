/-! the lexer in numbers: a token -/
abbrev Tk : Type := Nat × Nat × Nat × Nat × Nat
abbrev tkM (p a s m v : Nat) : Tk := (p, a, s, m, v)
abbrev Tk.pl (t : Tk) : Nat := t.1
abbrev Tk.at_ (t : Tk) : Nat := t.2.1
abbrev Tk.sort (t : Tk) : Nat := t.2.2.1
abbrev Tk.mt (t : Tk) : Nat := t.2.2.2.1
abbrev Tk.num (t : Tk) : Nat := t.2.2.2.2
def sgL : List Nat := [60, 62, 61, 35, 43, 45, 42, 47, 40, 41, 59]
def isSg (c : Nat) : Bool := sgL.contains c
def lex (b : Nat → Nat) (n a : Nat) : Tk :=
  if wsN b (n - a) a = n then tkM n n 301 0 0 else
  if isLt (b (wsN b (n - a) a)) = true then tkM (wsN b (n - a) a) (ltN b (n - wsN b (n - a) a) (wsN b (n - a) a)) (wsrt (wdL b (n - wsN b (n - a) a) (wsN b (n - a) a)) 26) 2 0 else
  if isDg (b (wsN b (n - a) a)) = true then tkM (wsN b (n - a) a) ((fgN b (n - wsN b (n - a) a) (wsN b (n - a) a) 0).1) 300 1 ((fgN b (n - wsN b (n - a) a) (wsN b (n - a) a) 0).2) else
  if (b (wsN b (n - a) a) = 60 ∨ b (wsN b (n - a) a) = 62) ∧ wsN b (n - a) a + 1 < n ∧ b (wsN b (n - a) a + 1) = 61 then tkM (wsN b (n - a) a) (wsN b (n - a) a + 2) (if b (wsN b (n - a) a) = 60 then 303 else 304) (if b (wsN b (n - a) a) = 60 then 4 else 5) 0 else
  if isSg (b (wsN b (n - a) a)) = true then tkM (wsN b (n - a) a) (wsN b (n - a) a + 1) (b (wsN b (n - a) a)) (b (wsN b (n - a) a)) 0 else
  tkM (wsN b (n - a) a) (wsN b (n - a) a + 1) 302 (if b (wsN b (n - a) a) = 58 then 58 else 3) 0
theorem wsN_in (b : Nat → Nat) : ∀ m a, a ≤ wsN b m a ∧ wsN b m a ≤ a + m := by
  intro m
  induction m with
  | zero => exact fun a => ⟨Nat.le_refl _, Nat.le_refl _⟩
  | succ m ih =>
    intro a
    rw [wsN]
    have := ih (a + 1)
    split <;> omega
theorem fgN_in (b : Nat → Nat) : ∀ m a v, a ≤ (fgN b m a v).1 ∧ (fgN b m a v).1 ≤ a + m := by
  intro m
  induction m with
  | zero => exact fun a v => ⟨Nat.le_refl _, Nat.le_refl _⟩
  | succ m ih =>
    intro a v
    rw [fgN]
    by_cases c : isDg (b a) = true
    · rw [if_pos c]
      have := ih (a + 1) (if 99999 < v then v else 10 * v + b a - 48)
      omega
    · rw [if_neg c]
      exact ⟨Nat.le_refl _, by omega⟩
theorem fgN_gt {b : Nat → Nat} {m a v : Nat} (hm : 0 < m) (h : isDg (b a) = true) : a < (fgN b m a v).1 := by
  obtain ⟨m, rfl⟩ : ∃ q, m = q + 1 := ⟨m - 1, by omega⟩
  rw [fgN, if_pos h]
  have := fgN_in b m (a + 1) (if 99999 < v then v else 10 * v + b a - 48)
  omega
theorem ltN_gt {b : Nat → Nat} {m a : Nat} (hm : 0 < m) (h : isLt (b a) = true) : a < ltN b m a := by
  obtain ⟨m, rfl⟩ : ∃ q, m = q + 1 := ⟨m - 1, by omega⟩
  have := (wdL_at b m (a + 1)).1
  rw [ltN, if_pos h, this]
  omega
def smL : List (Nat × Nat) := (List.range 26).map (fun w => (200 + w, 2)) ++ sgL.map (fun c => (c, c)) ++ [(301, 0), (300, 1), (302, 2), (302, 3), (302, 58), (303, 4), (304, 5)]
theorem smL_w : ∀ w, w < 26 → (200 + w, 2) ∈ smL := by decide
theorem smL_s : ∀ c, c < 256 → isSg c = true → (c, c) ∈ smL := by decide +kernel
theorem lex_ok {b : Nat → Nat} {n a : Nat} (ha : a ≤ n) (hb : ∀ j, j < n → b j < 256) : a ≤ (lex b n a).pl ∧ (lex b n a).pl ≤ (lex b n a).at_ ∧ (lex b n a).at_ ≤ n ∧ ((lex b n a).sort ≠ 301 → a < (lex b n a).at_) ∧ ((lex b n a).sort, (lex b n a).mt) ∈ smL := by
  obtain ⟨w1, w2⟩ := wsN_in b (n - a) a
  unfold lex
  generalize wsN b (n - a) a = p at w1 w2 ⊢
  by_cases c0 : p = n
  · rw [if_pos c0]
    exact ⟨ha, Nat.le_refl _, Nat.le_refl _, fun q => absurd rfl q, show (301, 0) ∈ smL by decide⟩
  rw [if_neg c0]
  by_cases c1 : isLt (b p) = true
  · rw [if_pos c1]
    obtain ⟨l1, l2, -⟩ := wdL_at b (n - p) p
    have := ltN_gt (b := b) (m := n - p) (a := p) (by omega) c1
    refine ⟨w1, by dsimp only [Tk.pl, Tk.at_, Tk.sort, tkM]; omega, by dsimp only [Tk.pl, Tk.at_, Tk.sort, tkM]; omega, fun _ => by dsimp only [Tk.pl, Tk.at_, Tk.sort, tkM]; omega, ?_⟩
    dsimp only [Tk.sort, Tk.mt, tkM]
    rcases wsrt_in (wdL b (n - p) p) with e | ⟨w, hw, e⟩
    · rw [e]; decide
    · rw [e]; exact smL_w w hw
  rw [if_neg c1]
  by_cases c2 : isDg (b p) = true
  · rw [if_pos c2]
    have h1 := fgN_in b (n - p) p 0
    have h2 := fgN_gt (b := b) (m := n - p) (a := p) (v := 0) (by omega) c2
    exact ⟨w1, by dsimp only [Tk.pl, Tk.at_, Tk.sort, tkM]; omega, by dsimp only [Tk.pl, Tk.at_, Tk.sort, tkM]; omega, fun _ => by dsimp only [Tk.pl, Tk.at_, Tk.sort, tkM]; omega, show (300, 1) ∈ smL by decide⟩
  rw [if_neg c2]
  by_cases c3 : (b p = 60 ∨ b p = 62) ∧ p + 1 < n ∧ b (p + 1) = 61
  · rw [if_pos c3]
    refine ⟨w1, by dsimp only [Tk.pl, Tk.at_, Tk.sort, tkM]; omega, by dsimp only [Tk.pl, Tk.at_, Tk.sort, tkM]; omega, fun _ => by dsimp only [Tk.pl, Tk.at_, Tk.sort, tkM]; omega, ?_⟩
    dsimp only [Tk.sort, Tk.mt, tkM]
    split <;> decide
  rw [if_neg c3]
  by_cases c4 : isSg (b p) = true
  · rw [if_pos c4]
    exact ⟨w1, by dsimp only [Tk.pl, Tk.at_, Tk.sort, tkM]; omega, by dsimp only [Tk.pl, Tk.at_, Tk.sort, tkM]; omega, fun _ => by dsimp only [Tk.pl, Tk.at_, Tk.sort, tkM]; omega, smL_s _ (hb p (by omega)) c4⟩
  rw [if_neg c4]
  refine ⟨w1, by dsimp only [Tk.pl, Tk.at_, Tk.sort, tkM]; omega, by dsimp only [Tk.pl, Tk.at_, Tk.sort, tkM]; omega, fun _ => by dsimp only [Tk.pl, Tk.at_, Tk.sort, tkM]; omega, ?_⟩
  dsimp only [Tk.sort, Tk.mt, tkM]
  split <;> decide
/-- the signs that the class knows -/
def sgN (c : Nat) : Nat → Nat
  | 0 => 302
  | v + 1 => if sgL.getD v 0 = c then c else sgN c v
theorem sgN_all : ∀ c, c < 256 → sgN c 11 = if isSg c = true then c else 302 := by decide +kernel
theorem sg_ch : ∀ v, v < 11 → pCh 26 v = nI (sgL.getD v 0) ∧ sgL.getD v 0 < 128 := by decide +kernel
theorem tx_signs {c : Nat} (hc : c < 256) : ∀ m v f (I : PI), v + m = 11 → m < f → (I 0 4 = if sgN c v = 302 then nI 302 else byX c) → ∃ I1, t_next_l306 (byX c) f (nI v) I = some I1 ∧ Off [4] I I1 ∧ (I1 0 4 = if sgN c 11 = 302 then nI 302 else byX c) := by
  intro m
  induction m with
  | zero =>
    intro v f I hv hf h4
    obtain ⟨f, rfl⟩ : ∃ q, f = q + 1 := ⟨f - 1, by omega⟩
    have e : v = 11 := by omega
    subst e
    show ∃ I1, t_next_b306 (byX c) (t_next_l306 (byX c) f) (nI 11) I = _ ∧ _
    unfold t_next_b306
    rw [if_pos (by decide)]
    exact ⟨I, rfl, Off.rf, h4⟩
  | succ m ih =>
    intro v f I hv hf h4
    obtain ⟨f, rfl⟩ : ∃ q, f = q + 1 := ⟨f - 1, by omega⟩
    show ∃ I1, t_next_b306 (byX c) (t_next_l306 (byX c) f) (nI v) I = _ ∧ _
    unfold t_next_b306
    obtain ⟨s1, s2⟩ := sg_ch v (by omega)
    rw [show nI (pLen.getD 26 0) = nI 11 from rfl, if_neg (fun q => absurd ((nI_leI (by omega) (by omega)).mp q) (by omega)), pz_inb (show v < pLen.getD 26 0 from show v < 11 by omega) (by decide), pz_ck, pz_ix (by omega), s1]
    by_cases d : sgL.getD v 0 = c
    · rw [if_pos (by rw [byX_lo (by omega), d]), pz_lt]
      unfold t_next_j330
      rw [pz_lt, show (1 : Int32) = nI 1 from rfl, pz_add]
      obtain ⟨I1, q1, q2, q3⟩ := ih (v + 1) f (u2 I 0 4 (byX c)) (by omega) (by omega) ((pz_at _ _ rfl rfl).trans (by rw [sgN, if_pos d, if_neg (by omega)]))
      exact ⟨I1, q1, (Off.rf.up (by decide)).tr q2, q3⟩
    · rw [if_neg (fun q => d ((byX_eq s2 hc).mp q.symm).symm)]
      unfold t_next_j330
      rw [pz_lt, show (1 : Int32) = nI 1 from rfl, pz_add]
      exact ih (v + 1) f I (by omega) (by omega) (by rw [sgN, if_neg d]; exact h4)
theorem m_sg : ∀ c, c < 256 → m_isSign (nI c) = some (bI (isSg c || decide (c = 58))) := by decide +kernel
