/-! the lexer in numbers: figures -/
/-- the object's cell changes in some fields alone -/
def Off (js : List Nat) (I I1 : PI) : Prop := (∀ k, k ≠ 0 → I1 k = I k) ∧ ∀ j, js.contains j = false → I1 0 j = I 0 j
theorem Off.rf {js : List Nat} {I : PI} : Off js I I := ⟨fun _ _ => rfl, fun _ _ => rfl⟩
theorem Off.tr {js : List Nat} {I I1 I2 : PI} (h : Off js I I1) (g : Off js I1 I2) : Off js I I2 := ⟨fun k hk => (g.1 k hk).trans (h.1 k hk), fun j hj => (g.2 j hj).trans (h.2 j hj)⟩
theorem Off.up {js : List Nat} {I I1 : PI} (h : Off js I I1) {j : Nat} {v : Int32} (hj : js.contains j = true) : Off js I (u2 I1 0 j v) := by
  refine ⟨fun k hk => (u2_row _ _ _ _ hk).trans (h.1 k hk), fun i hi => (pz_no _ _ (Or.inr fun q => ?_)).trans (h.2 i hi)⟩
  rw [q, hj] at hi
  cases hi
theorem Off.mono {js ks : List Nat} {I I1 : PI} (h : Off js I I1) (hk : ∀ j, ks.contains j = false → js.contains j = false) : Off ks I I1 := ⟨h.1, fun j hj => h.2 j (hk j hj)⟩
theorem TIn.off {b : Nat → Nat} {n : Nat} {I I1 : PI} {js : List Nat} (h : TIn b n I) (g : Off js I I1) (hj : js.contains 1 = false) : TIn b n I1 := ⟨h.1, (g.2 1 hj).trans h.2.1, fun j hj => ⟨(h.2.2 j hj).1, (congrFun (g.1 1 (by decide)) j).trans (h.2.2 j hj).2⟩⟩
theorem MIn.off {b : Nat → Nat} {n : Nat} {I I1 : PI} {js : List Nat} (h : MIn b n I) (g : Off js I I1) (hj : js.contains 9 = false) : MIn b n I1 := ⟨h.1, (g.2 9 hj).trans h.2.1, fun j hj => ⟨(h.2.2 j hj).1, (congrFun (g.1 9 (by decide)) j).trans (h.2.2 j hj).2⟩⟩
def fgN (b : Nat → Nat) : Nat → Nat → Nat → Nat × Nat
  | 0, a, v => (a, v)
  | m + 1, a, v => if isDg (b a) = true then fgN b m (a + 1) (if 99999 < v then v else 10 * v + b a - 48) else (a, v)
theorem byX_lo {c : Nat} (hc : c < 128) : byX c = nI c := (byX_eq hc (by omega)).mpr rfl
theorem isDg_in {c : Nat} (h : isDg c = true) : 48 ≤ c ∧ c ≤ 57 := of_decide_eq_true h
theorem tx_fig {b : Nat → Nat} {n : Nat} : ∀ m a v f (I : PI), a + m = n → m < f → TIn b n I → I 0 2 = nI a → I 0 5 = nI (min 99999 v) → v ≤ 999999 → ∃ I1, t_next_l209 f I = some (.inl I1) ∧ Off [2, 5] I I1 ∧ I1 0 2 = nI (fgN b m a v).1 ∧ I1 0 5 = nI (min 99999 (fgN b m a v).2) ∧ (fgN b m a v).2 ≤ 999999 := by
  intro m
  induction m with
  | zero =>
    intro a v f I ha hf hI h2 h5 hv
    obtain ⟨f, rfl⟩ : ∃ q, f = q + 1 := ⟨f - 1, by omega⟩
    have h0 := hI.1
    refine ⟨I, ?_, Off.rf, h2, h5, hv⟩
    show t_next_b209 (t_next_l209 f) I = _
    unfold t_next_b209
    rw [if_pos (by rw [hI.2.1, h2, nI_leI (by omega) (by omega)]; omega)]
  | succ m ih =>
    intro a v f I ha hf hI h2 h5 hv
    obtain ⟨f, rfl⟩ : ∃ q, f = q + 1 := ⟨f - 1, by omega⟩
    have h0 := hI.1
    obtain ⟨hb, hbx⟩ := hI.2.2 a (by omega)
    have hn : ¬ I 0 1 ≤ I 0 2 := by
      rw [hI.2.1, h2, nI_leI (by omega) (by omega)]
      omega
    rw [fgN]
    show ∃ I1, t_next_b209 (t_next_l209 f) I = _ ∧ _
    unfold t_next_b209
    rw [if_neg hn, h2, pz_inb (by omega) (by omega), pz_ix (by omega), pz_ck, hbx, t_dg _ hb, pz_bs]
    by_cases hd : isDg (b a) = true
    · obtain ⟨d1, d2⟩ := isDg_in hd
      rw [if_pos hd, hd, if_neg (by decide), pz_ck, pz_lt, pz_lt, pz_lt, byX_lo (by omega), h5, show (10 : Int32) = nI 10 from rfl, show (48 : Int32) = nI 48 from rfl, show (99999 : Int32) = nI 99999 from rfl, show (1 : Int32) = nI 1 from rfl, pz_mul, pz_add, pz_sub (by omega)]
      have e : (if nI (10 * min 99999 v + b a - 48) < nI 99999 then nI (10 * min 99999 v + b a - 48) else nI 99999) = nI (min 99999 (if 99999 < v then v else 10 * v + b a - 48)) := by
        by_cases c : 10 * min 99999 v + b a - 48 < 99999
        · rw [if_pos ((nI_ltI (by omega) (by omega)).mpr c)]
          congr 1
          split <;> omega
        · rw [if_neg (fun q => c ((nI_ltI (by omega) (by omega)).mp q))]
          congr 1
          split <;> omega
      rw [e]
      have e2 : u2 I 0 5 (nI (min 99999 (if 99999 < v then v else 10 * v + b a - 48))) 0 2 = nI a := (pz_no _ _ (Or.inr (by decide))).trans h2
      rw [e2, pz_add]
      have o1 : Off [2, 5] I (u2 (u2 I 0 5 (nI (min 99999 (if 99999 < v then v else 10 * v + b a - 48)))) 0 2 (nI (a + 1))) := (Off.rf.up (by decide)).up (by decide)
      obtain ⟨I1, q1, q2, q3, q4, q5⟩ := ih (a + 1) (if 99999 < v then v else 10 * v + b a - 48) f _ (by omega) (by omega) (hI.off o1 (by decide)) (pz_at _ _ rfl rfl) ((pz_no _ _ (Or.inr (by decide))).trans (pz_at _ _ rfl rfl)) (by split <;> omega)
      exact ⟨I1, q1, o1.tr q2, q3, q4, q5⟩
    · rw [if_neg hd, Bool.eq_false_iff.mpr hd, if_pos (by decide)]
      exact ⟨I, rfl, Off.rf, h2, h5, hv⟩
theorem tm_fig {b : Nat → Nat} {n : Nat} {J : PJ} : ∀ m a v f (I : PI), a + m = n → m < f → MIn b n I → I 0 12 = nI a → I 0 15 = nI v → v ≤ 999999 → ∃ I1, m_nextToken_l85 J f I = some (.inl (I1, J)) ∧ Off [12, 15] I I1 ∧ I1 0 12 = nI (fgN b m a v).1 ∧ I1 0 15 = nI (fgN b m a v).2 := by
  intro m
  induction m with
  | zero =>
    intro a v f I ha hf hI h2 h5 hv
    obtain ⟨f, rfl⟩ : ∃ q, f = q + 1 := ⟨f - 1, by omega⟩
    have e : a = n := by omega
    subst e
    refine ⟨I, ?_, Off.rf, h2, h5⟩
    show m_nextToken_b85 J (m_nextToken_l85 J f) I = _
    unfold m_nextToken_b85
    rw [h2, m_byteAt_end hI, pz_bs, show m_isFigure (-1) = some 0 from rfl, pz_bs, if_pos rfl]
  | succ m ih =>
    intro a v f I ha hf hI h2 h5 hv
    obtain ⟨f, rfl⟩ : ∃ q, f = q + 1 := ⟨f - 1, by omega⟩
    have h0 := hI.1
    obtain ⟨hb, -⟩ := hI.2.2 a (by omega)
    rw [fgN]
    show ∃ I1, m_nextToken_b85 J (m_nextToken_l85 J f) I = _ ∧ _
    unfold m_nextToken_b85
    rw [h2, m_byteAt_in hI (by omega), pz_bs, m_dg _ hb, pz_bs]
    by_cases hd : isDg (b a) = true
    · obtain ⟨d1, d2⟩ := isDg_in hd
      rw [if_pos hd, hd, if_neg (by decide), pz_bs, h5, show (99999 : Int32) = nI 99999 from rfl]
      have fin : ∀ w, w ≤ 999999 → w = (if 99999 < v then v else 10 * v + b a - 48) → ∃ I1, m_nextToken_j135 (m_nextToken_l85 J f) I (nI w) = some (.inl (I1, J)) ∧ Off [12, 15] I I1 ∧ I1 0 12 = nI (fgN b m (a + 1) (if 99999 < v then v else 10 * v + b a - 48)).1 ∧ I1 0 15 = nI (fgN b m (a + 1) (if 99999 < v then v else 10 * v + b a - 48)).2 := by
        intro w hw e
        rw [← e]
        unfold m_nextToken_j135
        rw [pz_lt, pz_lt, show u2 I 0 15 (nI w) 0 12 = nI a from (pz_no _ _ (Or.inr (by decide))).trans h2, show (1 : Int32) = nI 1 from rfl, pz_add]
        have o1 : Off [12, 15] I (u2 (u2 I 0 15 (nI w)) 0 12 (nI (a + 1))) := (Off.rf.up (by decide)).up (by decide)
        obtain ⟨I1, q1, q2, q3, q4⟩ := ih (a + 1) w f _ (by omega) (by omega) (hI.off o1 (by decide)) (pz_at _ _ rfl rfl) ((pz_no _ _ (Or.inr (by decide))).trans (pz_at _ _ rfl rfl)) hw
        exact ⟨I1, q1, o1.tr q2, q3, q4⟩
      by_cases hv2 : v ≤ 99999
      · rw [if_pos ((nI_leI (by omega) (by omega)).mpr hv2), show (10 : Int32) = nI 10 from rfl, show (48 : Int32) = nI 48 from rfl, pz_mul, pz_add, pz_sub (by omega)]
        exact fin _ (by omega) (by rw [if_neg (by omega)])
      · rw [if_neg (fun q => hv2 ((nI_leI (by omega) (by omega)).mp q))]
        exact fin _ (by omega) (by rw [if_pos (by omega)])
    · rw [if_neg hd, Bool.eq_false_iff.mpr hd, if_pos (by decide)]
      exact ⟨I, rfl, Off.rf, h2, h5⟩
