/-! the lexer in numbers: the words known -/
def pWd : List (List Nat) := [[102, 97, 100, 101, 115], [108, 101, 97, 114, 110, 115], [102, 111, 114, 109], [112, 101, 114, 115, 111, 110], [115, 116, 111, 114, 121], [116, 101, 97, 99, 104], [102, 111, 114, 103, 101, 116], [116, 101, 108, 108], [121, 101, 97, 114], [108, 101, 110, 103, 116, 104], [107, 110, 111, 119, 115], [98, 121], [116, 111], [104, 97, 108, 102], [107, 110, 111, 119, 110], [105, 102], [116, 104, 101, 110], [101, 108, 115, 101], [101, 110, 100], [111, 114], [97, 110, 100], [110, 111, 116], [107, 105, 110, 100], [97, 103, 101], [119, 104, 111], [98, 114, 101, 97, 116, 104]]
def pW (w : Nat) : List Nat := pWd.getD w []
def wkN (w : Nat) : Nat := (pW w).foldl pkS 0
/-- the letters from a place on -/
def wdL (b : Nat → Nat) : Nat → Nat → List Nat
  | 0, _ => []
  | m + 1, a => if isLt (b a) = true then b a :: wdL b m (a + 1) else []
theorem wdL_at (b : Nat → Nat) : ∀ m a, ltN b m a = a + (wdL b m a).length ∧ (wdL b m a).length ≤ m ∧ ∀ i (h : i < (wdL b m a).length), (wdL b m a)[i] = b (a + i) := by
  intro m
  induction m with
  | zero => exact fun a => ⟨rfl, Nat.le_refl _, fun i h => absurd h (Nat.not_lt_zero _)⟩
  | succ m ih =>
    intro a
    obtain ⟨h1, h2, h3⟩ := ih (a + 1)
    rw [ltN]
    by_cases c : isLt (b a) = true
    · rw [if_pos c]
      have e : wdL b (m + 1) a = b a :: wdL b m (a + 1) := by rw [wdL, if_pos c]
      refine ⟨by rw [e, h1, List.length_cons]; omega, by rw [e, List.length_cons]; omega, fun i h => ?_⟩
      simp only [e]
      rcases i with _ | i
      · rfl
      · rw [List.getElem_cons_succ, h3 i (by rw [e, List.length_cons] at h; omega)]
        congr 1
        omega
    · rw [if_neg c]
      have e : wdL b (m + 1) a = [] := by rw [wdL, if_neg c]
      refine ⟨by rw [e]; rfl, by rw [e]; exact Nat.zero_le _, fun i h => ?_⟩
      rw [e] at h
      exact absurd h (Nat.not_lt_zero _)
theorem wdL_lt (b : Nat → Nat) : ∀ m a, ∀ c ∈ wdL b m a, isLt c = true := by
  intro m
  induction m with
  | zero => exact fun a c h => by cases h
  | succ m ih =>
    intro a c h
    rw [wdL] at h
    by_cases d : isLt (b a) = true
    · rw [if_pos d] at h
      rcases List.mem_cons.mp h with h | h
      · rw [h]; exact d
      · exact ih _ c h
    · rw [if_neg d] at h
      cases h
theorem wdL_pk (b : Nat → Nat) : ∀ m a w, pkN b m a w = (wdL b m a).foldl pkS w := by
  intro m
  induction m with
  | zero => exact fun _ _ => rfl
  | succ m ih =>
    intro a w
    rw [pkN, wdL]
    by_cases c : isLt (b a) = true
    · rw [if_pos c, if_pos c, ih, List.foldl_cons]
    · rw [if_neg c, if_neg c]
      rfl
/-- what is packed tells the letters -/
theorem pk_inj : ∀ (A B : List Nat), (∀ c ∈ A, 1 ≤ c ∧ c < 256) → (∀ c ∈ B, 1 ≤ c ∧ c < 256) → A.foldr (fun c w => pkS w c) 0 = B.foldr (fun c w => pkS w c) 0 → B.foldr (fun c w => pkS w c) 0 < 2 ^ 48 → A = B := by
  intro A
  induction A with
  | nil =>
    intro B _ hB h hl
    cases B with
    | nil => rfl
    | cons c B =>
      have := hB c List.mem_cons_self
      simp only [List.foldr_cons, List.foldr_nil] at h
      unfold pkS at h
      split at h <;> omega
  | cons c A ih =>
    intro B hA hB h hl
    have hc := hA c List.mem_cons_self
    cases B with
    | nil =>
      simp only [List.foldr_cons, List.foldr_nil] at h
      unfold pkS at h
      split at h <;> omega
    | cons d B =>
      have hd := hB d List.mem_cons_self
      simp only [List.foldr_cons] at h hl
      generalize hx : A.foldr (fun c w => pkS w c) 0 = x at h
      generalize hy : B.foldr (fun c w => pkS w c) 0 = y at h hl
      have e : x < 2 ^ 48 ∧ y < 2 ^ 48 ∧ x = y ∧ c = d := by
        unfold pkS at h hl
        split at h <;> split at h <;> split at hl <;> omega
      rw [e.2.2.2, ih B (fun z hz => hA z (List.mem_cons_of_mem _ hz)) (fun z hz => hB z (List.mem_cons_of_mem _ hz)) (by rw [hx, hy, e.2.2.1]) (by rw [hy]; exact e.2.1)]
theorem pW_ok : ∀ w, w < 26 → (∀ c ∈ pW w, 1 ≤ c ∧ c < 128) ∧ wkN w < 2 ^ 48 ∧ pLen.getD w 0 = (pW w).length ∧ (pW w).length ≤ 6 := by decide +kernel
theorem pW_ch : ∀ w, w < 26 → ∀ j, j < 6 → pCh w j = nI ((pW w).getD j 0) := by decide +kernel
theorem pW_inj : ∀ w, w < 26 → ∀ v, v < 26 → pW w = pW v → w = v := by decide +kernel
theorem pk_word {L : List Nat} (hL : ∀ c ∈ L, isLt c = true) {w : Nat} (hw : w < 26) : L.foldl pkS 0 = wkN w ↔ L = pW w := by
  refine ⟨fun h => ?_, fun h => by rw [h]; rfl⟩
  obtain ⟨h1, h2, -⟩ := pW_ok w hw
  unfold wkN at h h2
  rw [← List.foldr_reverse, ← List.foldr_reverse] at h
  rw [← List.foldr_reverse] at h2
  have e := pk_inj L.reverse (pW w).reverse (fun c hc => by
    have := isLt_in (hL c (List.mem_reverse.mp hc))
    omega) (fun c hc => by
    have := h1 c (List.mem_reverse.mp hc)
    omega) h h2
  exact List.reverse_inj.mp e
/-- the class's number of a word -/
def wsrt (L : List Nat) : Nat → Nat
  | 0 => 302
  | w + 1 => if L = pW w then 200 + w else wsrt L w
theorem wsrt_no {L : List Nat} : ∀ n, (∀ w, w < n → L ≠ pW w) → wsrt L n = 302 := by
  intro n
  induction n with
  | zero => exact fun _ => rfl
  | succ n ih =>
    intro h
    rw [wsrt, if_neg (h n (by omega)), ih (fun w hw => h w (by omega))]
theorem wsrt_yes {w : Nat} : ∀ n, n ≤ 26 → w < n → wsrt (pW w) n = 200 + w := by
  intro n
  induction n with
  | zero => exact fun _ h => absurd h (Nat.not_lt_zero _)
  | succ n ih =>
    intro hn h
    rw [wsrt]
    by_cases c : pW w = pW n
    · rw [if_pos c, pW_inj w (by omega) n (by omega) c]
    · rw [if_neg c]
      refine ih (by omega) ?_
      by_cases d : w = n
      · exact absurd (by rw [d]) c
      · omega
theorem wsrt_iff {L : List Nat} {w : Nat} (hw : w < 26) : wsrt L 26 = 200 + w ↔ L = pW w := by
  refine ⟨fun h => ?_, fun h => by rw [h]; exact wsrt_yes 26 (by omega) hw⟩
  by_cases c : ∃ v, v < 26 ∧ L = pW v
  · obtain ⟨v, hv, e⟩ := c
    rw [e, wsrt_yes 26 (by omega) hv] at h
    rw [e, show v = w by omega]
  · rw [wsrt_no 26 (fun v hv e => c ⟨v, hv, e⟩)] at h
    omega
theorem wsrt_in (L : List Nat) : wsrt L 26 = 302 ∨ ∃ w, w < 26 ∧ wsrt L 26 = 200 + w := by
  by_cases c : ∃ v, v < 26 ∧ L = pW v
  · obtain ⟨v, hv, e⟩ := c
    exact Or.inr ⟨v, hv, by rw [e, wsrt_yes 26 (by omega) hv]⟩
  · exact Or.inl (wsrt_no 26 (fun v hv e => c ⟨v, hv, e⟩))
