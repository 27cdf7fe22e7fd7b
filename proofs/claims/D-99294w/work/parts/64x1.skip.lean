/-! the lexer in numbers: blanks -/
/-- a byte as the class reads it -/
def byX (b : Nat) : Int32 := (nI b).toInt8.toInt32
theorem byX_eq {c : Nat} (hc : c < 128) {b : Nat} (hb : b < 256) : byX b = nI c ↔ b = c := by
  have key : ∀ c, c < 128 → ∀ b, b < 256 → (byX b = nI c ↔ b = c) := by decide +kernel
  exact key c hc b hb
/-- the tokens' object over the bytes b, n of them, at place a -/
def TIn (b : Nat → Nat) (n : Nat) (I : PI) : Prop := n ≤ 300 ∧ I 0 1 = nI n ∧ (∀ j, j < n → b j < 256 ∧ I 1 j = byX (b j))
def wsN (b : Nat → Nat) : Nat → Nat → Nat
  | 0, a => a
  | m + 1, a => if b a = 32 ∨ b a = 10 then wsN b m (a + 1) else a
theorem u2_self {I : PI} {k j : Nat} {v : Int32} (h : I k j = v) : u2 I k j v = I := by
  funext a i
  unfold u2
  by_cases ha : a = k
  · rw [if_pos ha]
    subst ha
    by_cases hi : i = j
    · subst hi
      rw [if_pos rfl, h]
    · rw [if_neg hi]
  · rw [if_neg ha]
theorem u2_twice {I : PI} {k j : Nat} {v w : Int32} : u2 (u2 I k j v) k j w = u2 I k j w := by
  funext a i
  by_cases ha : a = k
  · by_cases hi : i = j
    · rw [pz_at _ _ ha hi, pz_at _ _ ha hi]
    · rw [pz_no _ _ (Or.inr hi), pz_no _ _ (Or.inr hi), pz_no _ _ (Or.inr hi)]
  · rw [pz_no _ _ (Or.inl ha), pz_no _ _ (Or.inl ha), pz_no _ _ (Or.inl ha)]
theorem TIn.set {b : Nat → Nat} {n : Nat} {I : PI} (h : TIn b n I) {j : Nat} {v : Int32} (hj : j ≠ 1) : TIn b n (u2 I 0 j v) :=
  ⟨h.1, (pz_no _ _ (Or.inr (Ne.symm hj))).trans h.2.1, fun i hi => ⟨(h.2.2 i hi).1, (pz_no _ _ (Or.inl (by decide))).trans (h.2.2 i hi).2⟩⟩
theorem tx_skip {b : Nat → Nat} {n : Nat} : ∀ m a f (I : PI), a + m = n → m < f → TIn b n I → I 0 2 = nI a → t_next_l0 f I = some (u2 I 0 2 (nI (wsN b m a))) := by
  intro m
  induction m with
  | zero =>
    intro a f I ha hf hI h2
    obtain ⟨f, rfl⟩ : ∃ q, f = q + 1 := ⟨f - 1, by omega⟩
    show t_next_b0 (t_next_l0 f) I = _
    unfold t_next_b0
    have h0 := hI.1
    rw [if_pos (by rw [hI.2.1, h2, nI_leI (by omega) (by omega)]; omega), wsN, u2_self h2]
  | succ m ih =>
    intro a f I ha hf hI h2
    obtain ⟨f, rfl⟩ : ∃ q, f = q + 1 := ⟨f - 1, by omega⟩
    show t_next_b0 (t_next_l0 f) I = _
    unfold t_next_b0
    have h0 := hI.1
    obtain ⟨hb, hbx⟩ := hI.2.2 a (by omega)
    have hn : ¬ I 0 1 ≤ I 0 2 := by
      rw [hI.2.1, h2, nI_leI (by omega) (by omega)]
      omega
    have step : t_next_j39 (t_next_l0 f) I = some (u2 I 0 2 (nI (wsN b m (a + 1)))) := by
      unfold t_next_j39
      rw [pz_lt, h2, show (1 : Int32) = nI 1 from rfl, pz_add, ih (a + 1) f _ (by omega) (by omega) (hI.set (by decide)) (pz_at _ _ rfl rfl), u2_twice]
    rw [if_neg hn, h2, pz_inb (by omega) (by omega), pz_ix (by omega), pz_ck, pz_ck, hbx, wsN, step]
    rw [show (32 : Int32) = nI 32 from rfl, show (10 : Int32) = nI 10 from rfl]
    by_cases c1 : b a = 32
    · rw [if_pos ((byX_eq (c := 32) (by decide) hb).mpr c1), if_pos (Or.inl c1)]
    · rw [if_neg (fun q => c1 ((byX_eq (c := 32) (by decide) hb).mp q))]
      by_cases c2 : b a = 10
      · rw [if_pos ((byX_eq (c := 10) (by decide) hb).mpr c2), if_pos (Or.inr c2)]
      · rw [if_neg (fun q => c2 ((byX_eq (c := 10) (by decide) hb).mp q)), if_neg (fun q => q.elim c1 c2), u2_self h2]
