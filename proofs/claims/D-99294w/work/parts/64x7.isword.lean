/-! the lexer in numbers: the class looks a word up -/
theorem tx_isWord {b : Nat → Nat} {n a : Nat} {L : List Nat} {I : PI} (hI : TIn b n I) (h2 : I 0 2 = nI (a + L.length)) (h3 : I 0 3 = nI a) (hn : a + L.length ≤ n) (hL : ∀ i (h : i < L.length), L[i] = b (a + i)) (hLt : ∀ c ∈ L, isLt c = true) {w : Nat} (hw : w < 26) : t_isWord I w = some (bI (decide (L = pW w))) := by
  have h0 := hI.1
  obtain ⟨w1, -, w3, w4⟩ := pW_ok w hw
  unfold t_isWord
  rw [h2, h3, pz_sub (by omega), w3, show a + L.length - a = L.length by omega]
  by_cases c : L.length = (pW w).length
  · rw [if_pos (by rw [c])]
    have key : ∀ m j f, j + m = L.length → m < f → (L.take j = (pW w).take j) → t_isWord_l20 I w f (nI j) = some (if L = pW w then .inr () else .inl 0) := by
      intro m
      induction m with
      | zero =>
        intro j f hj hf ht
        obtain ⟨f, rfl⟩ : ∃ q, f = q + 1 := ⟨f - 1, by omega⟩
        show t_isWord_b20 I w (t_isWord_l20 I w f) (nI j) = _
        unfold t_isWord_b20
        rw [w3, if_pos ((nI_leI (by omega) (by omega)).mpr (by omega))]
        rw [List.take_of_length_le (by omega), List.take_of_length_le (by omega)] at ht
        rw [if_pos ht]
      | succ m ih =>
        intro j f hj hf ht
        obtain ⟨f, rfl⟩ : ∃ q, f = q + 1 := ⟨f - 1, by omega⟩
        show t_isWord_b20 I w (t_isWord_l20 I w f) (nI j) = _
        unfold t_isWord_b20
        have hjl : j < L.length := by omega
        have hjw : j < (pW w).length := by omega
        have hlt := isLt_in (hLt _ (List.getElem_mem hjl))
        rw [w3, if_neg (fun q => absurd ((nI_leI (by omega) (by omega)).mp q) (by omega)), h3, pz_add, pz_inb (by omega) (by omega), pz_inb hjw (by omega), pz_ix (by omega), pz_ix (by omega), pz_ck, pz_ck, (hI.2.2 (a + j) (by omega)).2, ← hL j hjl, byX_lo (by omega), pW_ch w hw j (by omega), show (pW w).getD j 0 = (pW w)[j] from by simp [List.getD, hjw]]
        by_cases d : L[j] = (pW w)[j]
        · rw [if_pos (by rw [d]), pz_lt, show (1 : Int32) = nI 1 from rfl, pz_add]
          refine ih (j + 1) f (by omega) (by omega) ?_
          rw [List.take_succ_eq_append_getElem hjl, List.take_succ_eq_append_getElem hjw, ht, d]
        · have := w1 _ (List.getElem_mem hjw)
          rw [if_neg (fun q => d ((nI_eq (by omega) (by omega)).mp q)), if_neg (fun q => d (by simp only [q]))]
    rw [show (0 : Int32) = nI 0 from rfl, key L.length 0 fu (by omega) (fu_gt (by omega)) (by simp)]
    by_cases d : L = pW w
    · rw [if_pos d, decide_eq_true d]
      rfl
    · rw [if_neg d, decide_eq_false d]
      rfl
  · rw [if_neg (fun q => c ((nI_eq (by omega) (by omega)).mp q)), decide_eq_false (fun q => c (by rw [q]))]
    rfl
theorem tx_words {b : Nat → Nat} {n a : Nat} {L : List Nat} (hn : a + L.length ≤ n) (hL : ∀ i (h : i < L.length), L[i] = b (a + i)) (hLt : ∀ c ∈ L, isLt c = true) : ∀ m v f (I : PI), v + m = 26 → m < f → TIn b n I → I 0 2 = nI (a + L.length) → I 0 3 = nI a → I 0 4 = nI (wsrt L v) → t_next_l144 f (nI v) I = some (u2 I 0 4 (nI (wsrt L 26))) := by
  intro m
  induction m with
  | zero =>
    intro v f I hv hf hI h2 h3 h4
    obtain ⟨f, rfl⟩ : ∃ q, f = q + 1 := ⟨f - 1, by omega⟩
    have e : v = 26 := by omega
    subst e
    show t_next_b144 (t_next_l144 f) (nI 26) I = _
    unfold t_next_b144
    rw [if_pos (by decide), u2_self h4]
  | succ m ih =>
    intro v f I hv hf hI h2 h3 h4
    obtain ⟨f, rfl⟩ : ∃ q, f = q + 1 := ⟨f - 1, by omega⟩
    show t_next_b144 (t_next_l144 f) (nI v) I = _
    unfold t_next_b144
    rw [show (26 : Int32) = nI 26 from rfl, if_neg (fun q => absurd ((nI_leI (by omega) (by omega)).mp q) (by omega)), pz_inb (by omega) (by omega), pz_ck, pz_ix (by omega), tx_isWord hI h2 h3 hn hL hLt (by omega), pz_bs]
    have st : ∀ I1 : PI, TIn b n I1 → I1 0 2 = nI (a + L.length) → I1 0 3 = nI a → I1 0 4 = nI (wsrt L (v + 1)) → t_next_j173 (t_next_l144 f) (nI v) I1 = some (u2 I1 0 4 (nI (wsrt L 26))) := by
      intro I1 g1 g2 g3 g4
      unfold t_next_j173
      rw [pz_lt, show (1 : Int32) = nI 1 from rfl, pz_add]
      exact ih (v + 1) f I1 (by omega) (by omega) g1 g2 g3 g4
    by_cases c : L = pW v
    · rw [decide_eq_true c, if_neg (by decide), pz_lt, show (200 : Int32) = nI 200 from rfl, pz_add, st _ (hI.set (by decide)) ((pz_no _ _ (Or.inr (by decide))).trans h2) ((pz_no _ _ (Or.inr (by decide))).trans h3) ((pz_at _ _ rfl rfl).trans (by rw [wsrt, if_pos c])), u2_twice]
    · rw [decide_eq_false c, if_pos (by decide), st I hI h2 h3 (by rw [wsrt, if_neg c]; exact h4)]
