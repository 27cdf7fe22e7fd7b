/-! a law's saying: both answer the same -/
theorem nI_705 (t : Nat) : (705 : Int32) * nI t = nI (705 * t) := by
  rw [show (705 : Int32) = nI 705 from rfl, pz_mul]
/-- a law's sum: what it means is what the reference sums up -/
theorem pm_summedUp {v : Nat → Int32} {I : PI} {J : PJ} {t k a e : Nat} {C : List (Nat × Nat)} {S : Sem} (ht : t < 4) (hk : k < 24) (hC : ItM (I 3) (705 * t + 97) C) (hC3 : C.length ≤ 300) (ha : I 3 (705 * t + 1 + 4 * k + 1) = nI a) (he : I 3 (705 * t + 1 + 4 * k + 2) = nI e) (hae : a ≤ e) (hec : e ≤ C.length) (hS : MnS ((C.drop a).take (e - a)) S) (hn : ∀ j, j < 8 → I 11 j = v j) (hkn : ∀ I2 : PI, I2 1 = I 1 → ∀ y, m_knownOf I2 y = some (knownL v y)) :
    ∃ I1 J1, m_summedUp I J (nI t) (nI k) = some (S v, I1, J1) ∧ (∀ k, k ≠ 13 → I1 k = I k) ∧ (∀ k, k ≠ 12 → J1 k = J k) := by
  have hl : ((C.drop a).take (e - a)).length = e - a := by
    rw [List.length_take, List.length_drop]
    omega
  obtain ⟨I1, J1, h1, h2, h3, h4⟩ := sum_run (x := 705 * t + 1 + 4 * k) (cb := 705 * t + 97) (e := e) (by omega) (by omega) (by omega) ((C.drop a).take (e - a)) a [] [S v] [] [] fu I J (by rw [hl]; omega) (by rw [hl]; exact fu_gt (by omega)) (hS.2.1 v [] []) hS.1 (fun q p hq => by
    obtain ⟨hi, -⟩ := List.getElem?_eq_some_iff.mp hq
    rw [hl] at hi
    rw [List.getElem?_take_of_lt hi, List.getElem?_drop] at hq
    exact hC (a + q) p hq) he trivial trivial hn hkn (by rw [hl]; simp; omega) (by rw [hl]; simp; omega)
  refine ⟨I1, J1, ?_, h3, h4⟩
  unfold m_summedUp
  rw [nI_705, show (4 : Int32) = nI 4 from rfl, show (1 : Int32) = nI 1 from rfl, show (97 : Int32) = nI 97 from rfl, pz_mul, pz_add, pz_add, pz_add, pz_lt, pz_lt, pz_add, pz_inb (by omega) (by omega), pz_ck, pz_ix (by omega), ha, pz_lt]
  rw [show m_summedUp_l38 (nI (705 * t + 1 + 4 * k)) (nI (705 * t + 97)) fu 0 0 (nI a) I J = some (I1, J1) from h1, pz_bs, pz_u2, show inb (0 : Int32) 330 = true from rfl, pz_ck, show ix (0 : Int32) = 0 from rfl, show J1 12 0 = S v from h2.1]
/-- no such law among those from a place on -/
theorem pm_says_no {I : PI} {J : PJ} {t s : Nat} {KL : List Cl} {lo hi : Int32} (ht : t < 4) (hs : s < 2) (hCl : ClM (I 3) t KL) (hV : KV KL) (h24 : KL.length ≤ 24) (hno : ∀ p ∈ KL, p.1 ≠ s) : ∀ (m k f : Nat), k + m = KL.length → m < f → m_says_l3 I J (nI t) (nI s) lo hi f (nI k) = some (.inr ()) := by
  intro m
  induction m with
  | zero =>
    intro k f hk hf
    obtain ⟨f, rfl⟩ : ∃ q, f = q + 1 := ⟨f - 1, by omega⟩
    show m_says_b3 _ _ _ _ _ _ _ _ = _
    unfold m_says_b3
    rw [if_neg (nI_pos (by omega)), nI_705, pz_inb (by omega) (by omega), pz_ck, pz_ix (by omega), hCl.1, if_pos ((nI_leI (by omega) (by omega)).mpr (by omega))]
  | succ m ih =>
    intro k f hk hf
    obtain ⟨f, rfl⟩ : ∃ q, f = q + 1 := ⟨f - 1, by omega⟩
    show m_says_b3 _ _ _ _ _ _ _ _ = _
    unfold m_says_b3
    have hkl : k < KL.length := by omega
    have hR := hCl.2 k KL[k] (List.getElem?_eq_getElem hkl)
    have hv := hV _ (List.getElem_mem hkl)
    have hne := hno _ (List.getElem_mem hkl)
    rw [if_neg (nI_pos (by omega)), nI_705, pz_inb (by omega) (by omega), pz_ck, pz_ix (by omega), hCl.1, if_neg (fun q => absurd ((nI_leI (by omega) (by omega)).mp q) (by omega)), show (4 : Int32) = nI 4 from rfl, show (1 : Int32) = nI 1 from rfl, pz_mul, pz_add, pz_add, pz_inb (by omega) (by omega), pz_ck, pz_ix (by omega), hR.1, if_neg (fun q => hne ((nI_eq (by omega) (by omega)).mp q)), pz_lt, pz_add]
    exact ih (k + 1) f (by omega) (by omega)
theorem pm_says_yes {v : Nat → Int32} {I : PI} {J : PJ} {t s a e : Nat} {A B : List Cl} {C : List (Nat × Nat)} {S : Sem} {lo hi : Int32} (ht : t < 4) (hs : s < 2) (hCl : ClM (I 3) t (A ++ (s, a, e, 0) :: B)) (hV : KV (A ++ (s, a, e, 0) :: B)) (h24 : (A ++ (s, a, e, 0) :: B).length ≤ 24) (hno : ∀ p ∈ A, p.1 ≠ s) (hC : ItM (I 3) (705 * t + 97) C) (hC3 : C.length ≤ 300) (hae : a ≤ e) (hec : e ≤ C.length) (hS : MnS ((C.drop a).take (e - a)) S) (hn : ∀ j, j < 8 → I 11 j = v j) (hkn : ∀ I2 : PI, I2 1 = I 1 → ∀ y, m_knownOf I2 y = some (knownL v y)) {z : Int32} (hz : m_cut (S v) lo hi = some z) :
    ∃ I1 J1, (∀ (m k f : Nat), k + m = A.length → m < f → m_says_l3 I J (nI t) (nI s) lo hi f (nI k) = some (.inl (z, I1, J1))) ∧ (∀ k, k ≠ 13 → I1 k = I k) ∧ (∀ k, k ≠ 12 → J1 k = J k) := by
  rw [List.length_append, List.length_cons] at h24
  have hlen : (A ++ (s, a, e, 0) :: B).length = A.length + (B.length + 1) := by rw [List.length_append, List.length_cons]
  have hat := hCl.2 A.length (s, a, e, 0) (by rw [List.getElem?_append_right (Nat.le_refl _), Nat.sub_self]; rfl)
  obtain ⟨I1, J1, h1, h2, h3⟩ := pm_summedUp (v := v) (J := J) (k := A.length) ht (by omega) hC hC3 hat.2.1 (hat.2.2.1 (by dsimp only; omega) (by dsimp only; omega)) hae hec hS hn hkn
  refine ⟨I1, J1, ?_, h2, h3⟩
  intro m
  induction m with
  | zero =>
    intro k f hk hf
    obtain ⟨f, rfl⟩ : ∃ q, f = q + 1 := ⟨f - 1, by omega⟩
    have ek : k = A.length := by omega
    subst ek
    show m_says_b3 _ _ _ _ _ _ _ _ = _
    unfold m_says_b3
    rw [if_neg (nI_pos (by omega)), nI_705, pz_inb (by omega) (by omega), pz_ck, pz_ix (by omega), hCl.1, if_neg (fun q => absurd ((nI_leI (by omega) (by omega)).mp q) (by omega)), show (4 : Int32) = nI 4 from rfl, show (1 : Int32) = nI 1 from rfl, pz_mul, pz_add, pz_add, pz_inb (by omega) (by omega), pz_ck, pz_ix (by omega), hat.1, if_pos rfl, h1, pz_bs, pz_u3, hz]
    rfl
  | succ m ih =>
    intro k f hk hf
    obtain ⟨f, rfl⟩ : ∃ q, f = q + 1 := ⟨f - 1, by omega⟩
    have hkl : k < A.length := by omega
    have hR := hCl.2 k A[k] (by rw [List.getElem?_append_left hkl, List.getElem?_eq_getElem hkl])
    have hv := hV _ (List.mem_append_left _ (List.getElem_mem hkl))
    have hne := hno _ (List.getElem_mem hkl)
    show m_says_b3 _ _ _ _ _ _ _ _ = _
    unfold m_says_b3
    rw [if_neg (nI_pos (by omega)), nI_705, pz_inb (by omega) (by omega), pz_ck, pz_ix (by omega), hCl.1, if_neg (fun q => absurd ((nI_leI (by omega) (by omega)).mp q) (by omega)), show (4 : Int32) = nI 4 from rfl, show (1 : Int32) = nI 1 from rfl, pz_mul, pz_add, pz_add, pz_inb (by omega) (by omega), pz_ck, pz_ix (by omega), hR.1, if_neg (fun q => hne ((nI_eq (by omega) (by omega)).mp q)), pz_lt, pz_add]
    exact ih (k + 1) f (by omega) (by omega)
/-- cutting to a range: both, and how far it goes -/
theorem held_cut {lo hi : Int32} (h : lo ≤ hi) (w : Int64) : ∃ z : Int32, x_held w lo hi = some z ∧ m_cut w lo hi = some z ∧ lo ≤ z ∧ z ≤ hi := by
  have hl := i32_64 lo
  have hh := i32_64 hi
  rw [Int32.le_iff_toInt_le] at h
  unfold x_held m_cut
  rw [pz_lt, pz_lt]
  by_cases c1 : w < hi.toInt64
  · rw [if_pos c1]
    rw [Int64.lt_iff_toInt_lt] at c1
    by_cases c2 : w < lo.toInt64
    · rw [if_pos c2]
      rw [Int64.lt_iff_toInt_lt] at c2
      rw [if_neg (show ¬ lo.toInt64 ≤ w from fun q => by rw [i64_le] at q; omega), Int32.toInt32_toInt64]
      exact ⟨lo, rfl, rfl, Int32.le_refl _, Int32.le_iff_toInt_le.mpr h⟩
    · rw [if_neg c2]
      rw [Int64.lt_iff_toInt_lt] at c2
      have e : w.toInt32.toInt = w.toInt := by
        have := Int32.minValue_le_toInt lo
        have := Int32.toInt_le hi
        have e1 : Int32.minValue.toInt = -2147483648 := by decide
        have e2 : Int32.maxValue.toInt = 2147483647 := by decide
        rw [Int64.toInt_toInt32, Int.bmod_eq_of_le] <;> omega
      rw [if_pos (show lo.toInt64 ≤ w from by rw [i64_le]; omega), if_pos (show w ≤ hi.toInt64 from by rw [i64_le]; omega)]
      exact ⟨w.toInt32, rfl, rfl, by rw [Int32.le_iff_toInt_le]; omega, by rw [Int32.le_iff_toInt_le]; omega⟩
  · rw [if_neg c1]
    rw [Int64.lt_iff_toInt_lt] at c1
    have e3 : hi.toInt64.toInt32 = hi := Int32.toInt32_toInt64 hi
    rw [if_neg (show ¬ hi.toInt64 < lo.toInt64 from fun q => by rw [Int64.lt_iff_toInt_lt] at q; omega), e3]
    by_cases c3 : w ≤ hi.toInt64
    · have e : w = hi.toInt64 := by
        rw [i64_le] at c3
        exact Int64.toInt_inj.mp (by omega)
      rw [e, if_pos (show lo.toInt64 ≤ hi.toInt64 from by rw [i64_le]; omega), if_pos (show hi.toInt64 ≤ hi.toInt64 from by rw [i64_le]; omega), e3]
      exact ⟨hi, rfl, rfl, Int32.le_iff_toInt_le.mpr h, Int32.le_refl _⟩
    · rw [if_pos (show lo.toInt64 ≤ w from by rw [i64_le] at c3 ⊢; omega), if_neg c3]
      exact ⟨hi, rfl, rfl, Int32.le_iff_toInt_le.mpr h, Int32.le_refl _⟩
