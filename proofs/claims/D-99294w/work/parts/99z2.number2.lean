/-! number: the class's search over its rows, the reference's over codes -/
def nfind (h : Nat → Bool) : Nat → Nat → Int32
  | 0, _ => -1
  | n + 1, k => if h k = true then nI k else nfind h n (k + 1)
theorem nfind_congr {h h' : Nat → Bool} (hh : ∀ k, k < 120 → h k = h' k) : ∀ n k, n + k = 120 → nfind h n k = nfind h' n k := by
  intro n
  induction n with
  | zero => intro k _; rfl
  | succ n ih =>
    intro k hk
    rw [nfind, nfind, hh k (by omega), ih (k + 1) (by omega)]
def hitF (f : Nat → Int32) (k : Nat) : Bool := decide (f 0 = nI (ordT k 0) ∧ f 1 = nI (ordT k 1) ∧ f 2 = nI (ordT k 2) ∧ f 3 = nI (ordT k 3) ∧ f 4 = nI (ordT k 4))
theorem px_numL {f : Nat → Int32} {I : PI} (hI : ∀ i d, i < 120 → d < 5 → I (122 + i) d = nI (ordT i d)) : ∀ n k, n + k = 120 → x_numL f I (n + 1) k = some (nfind (hitF f) n k) := by
  intro n
  induction n with
  | zero =>
    intro k hk
    have e : k = 120 := by omega
    subst e
    rw [x_numL, if_pos (by decide)]
    rfl
  | succ n ih =>
    intro k hk
    have hlt : ¬ (120 : Int32) ≤ nI k := by
      rw [show (120 : Int32) = nI 120 from rfl, nI_leI (by omega) (by omega)]
      omega
    rw [x_numL, if_neg hlt, pz_inb (by omega) (by omega), pz_ix (by omega), pz_ck, u_eq_ok, pz_bs, hI k 0 (by omega) (by omega), hI k 1 (by omega) (by omega), hI k 2 (by omega) (by omega), hI k 3 (by omega) (by omega), hI k 4 (by omega) (by omega), nfind]
    by_cases hh : f 0 = nI (ordT k 0) ∧ f 1 = nI (ordT k 1) ∧ f 2 = nI (ordT k 2) ∧ f 3 = nI (ordT k 3) ∧ f 4 = nI (ordT k 4)
    · rw [if_pos hh, if_neg (by decide), if_pos (show hitF f k = true from decide_eq_true hh)]
    · rw [if_neg hh, if_pos rfl, if_neg (show ¬ hitF f k = true from fun q => hh (of_decide_eq_true q)), ih (k + 1) (by omega)]
/-- five numbers below ten as one -/
def horT (k : Nat) : Nat → Nat → Nat → Nat
  | 0, _, c => c
  | m + 1, d, c => horT k m (d + 1) (10 * c + ordT k d)
theorem pm_l13 {I : PI} {k : Nat} (hk : k < 120) (hI : ∀ d, d < 5 → I 4 (5 * k + d) = nI (ordT k d)) : ∀ m d c f, d + m = 5 → m < f → c < 10 ^ d → m_numberOf_l13 I (nI k) f (nI c) (nI d) = some (nI (horT k m d c)) := by
  intro m
  induction m with
  | zero =>
    intro d c f hd hf hc
    obtain ⟨f, rfl⟩ : ∃ q, f = q + 1 := ⟨f - 1, by omega⟩
    have e : d = 5 := by omega
    subst e
    show m_numberOf_b13 I (nI k) (m_numberOf_l13 I (nI k) f) (nI c) (nI 5) = _
    unfold m_numberOf_b13
    rw [if_pos (by decide)]
    rfl
  | succ m ih =>
    intro d c f hd hf hc
    obtain ⟨f, rfl⟩ : ∃ q, f = q + 1 := ⟨f - 1, by omega⟩
    have hd5 : d < 5 := by omega
    have h5 : ¬ (5 : Int32) ≤ nI d := by
      rw [show (5 : Int32) = nI 5 from rfl, nI_leI (by omega) (by omega)]
      omega
    have ho := (ord_ok k hk d hd5).1
    have hc9 : 10 * c + ordT k d < 10 ^ (d + 1) := by rw [Nat.pow_succ]; omega
    show m_numberOf_b13 I (nI k) (m_numberOf_l13 I (nI k) f) (nI c) (nI d) = _
    unfold m_numberOf_b13
    rw [if_neg h5, show (5 : Int32) = nI 5 from rfl, show (10 : Int32) = nI 10 from rfl, show (1 : Int32) = nI 1 from rfl, pz_mul, pz_mul, pz_add, pz_add, pz_inb (by omega) (by omega), pz_ix (by omega), pz_ck, hI d hd5, pz_lt, pz_lt, pz_add]
    exact ih (d + 1) (10 * c + ordT k d) f (by omega) (by omega) hc9
theorem pm_l2 {I : PI} (hI : ∀ i d, i < 120 → d < 5 → I 4 (5 * i + d) = nI (ordT i d)) (p : Int32) : ∀ n k f, n + k = 120 → n < f → lbind (m_numberOf_l2 I p f (nI k)) some (fun _ => some (-1 : Int32)) = some (nfind (fun k => decide (nI (horT k 5 0 0) = p)) n k) := by
  intro n
  induction n with
  | zero =>
    intro k f hk hf
    obtain ⟨f, rfl⟩ : ∃ q, f = q + 1 := ⟨f - 1, by omega⟩
    have e : k = 120 := by omega
    subst e
    show lbind (m_numberOf_b2 I p (m_numberOf_l2 I p f) (nI 120)) some _ = _
    unfold m_numberOf_b2
    rw [if_pos (by decide)]
    rfl
  | succ n ih =>
    intro k f hk hf
    obtain ⟨f, rfl⟩ : ∃ q, f = q + 1 := ⟨f - 1, by omega⟩
    have hlt : ¬ (120 : Int32) ≤ nI k := by
      rw [show (120 : Int32) = nI 120 from rfl, nI_leI (by omega) (by omega)]
      omega
    show lbind (m_numberOf_b2 I p (m_numberOf_l2 I p f) (nI k)) some _ = _
    unfold m_numberOf_b2
    rw [if_neg hlt]
    have h13 := pm_l13 (k := k) (by omega) (fun d hd => hI k d (by omega) hd) 5 0 0 fu (by omega) (by unfold fu; omega) (by decide)
    rw [show (0 : Int32) = nI 0 from rfl, h13, pz_bs, nfind]
    by_cases hh : nI (horT k 5 0 0) = p
    · rw [if_pos hh, if_pos (decide_eq_true hh)]
      rfl
    · rw [if_neg hh, if_neg (fun q => hh (of_decide_eq_true q)), pz_lt, show (1 : Int32) = nI 1 from rfl, pz_add]
      exact ih (k + 1) f (by omega) (by omega)
