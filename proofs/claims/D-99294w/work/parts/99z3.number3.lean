/-! number: both sides -/
theorem nfind_false {h : Nat → Bool} (hh : ∀ k, k < 120 → h k = false) : ∀ n k, n + k = 120 → nfind h n k = -1 := by
  intro n
  induction n with
  | zero => intro k _; rfl
  | succ n ih =>
    intro k hk
    rw [nfind, if_neg (by rw [hh k (by omega)]; decide), ih (k + 1) (by omega)]
theorem m_isDoing_s (p : Int32) : m_isDoing p = some (bI (decide ((0 : Int32) ≤ p ∧ p ≤ 4))) := by
  unfold m_isDoing
  rw [m_isIn_s, pz_bs, pz_isb, pz_ck]
theorem in5 {p : Int32} (h : (0 : Int32) ≤ p ∧ p ≤ 4) : ∃ a, a < 5 ∧ p = nI a := by
  rcases pz_cases p with h0 | ⟨n, hn, rfl⟩
  · exact absurd h.1 (Int32.not_le.mpr h0)
  · refine ⟨n, ?_, rfl⟩
    have h2 := h.2
    rw [show (4 : Int32) = nI 4 from rfl, nI_leI (by omega) (by omega)] at h2
    omega
theorem not5 {p : Int32} (h : ¬ ((0 : Int32) ≤ p ∧ p ≤ 4)) {a : Nat} (ha : a < 5) : ¬ p = nI a := fun e => h (by
  subst e
  rw [show (4 : Int32) = nI 4 from rfl, show (0 : Int32) = nI 0 from rfl, nI_leI (by omega) (by omega), nI_leI (by omega) (by omega)]
  omega)
theorem pu_number {s si : SN} {I : PI} {T : PT} {X : TS} {tN : XCo} {I' : PI} {J' : PJ} (h : CC s si I T X tN I' J') (p1 p2 p3 p4 p5 : Int32) : ∃ r, x_number I p1 p2 p3 p4 p5 = some r ∧ m_number I' p1 p2 p3 p4 p5 = some r := by
  have hT := h.2.2.2.1
  have hx := px_numL (f := upd (upd (upd (upd (upd (fun _ => 0) (ix (0 : Int32)) p1) (ix (1 : Int32)) p2) (ix (2 : Int32)) p3) (ix (3 : Int32)) p4) (ix (4 : Int32)) p5) (I := I) (fun i d hi hd => (hT i d hi hd).1) 120 0 rfl
  refine ⟨_, hx, ?_⟩
  have hf : ∀ k, hitF (upd (upd (upd (upd (upd (fun _ => 0) (ix (0 : Int32)) p1) (ix (1 : Int32)) p2) (ix (2 : Int32)) p3) (ix (3 : Int32)) p4) (ix (4 : Int32)) p5) k = decide (p1 = nI (ordT k 0) ∧ p2 = nI (ordT k 1) ∧ p3 = nI (ordT k 2) ∧ p4 = nI (ordT k 3) ∧ p5 = nI (ordT k 4)) := fun k => rfl
  have hl : ∀ k, k < 120 → ∀ d, d < 5 → ordT k d < 5 := fun k hk d hd => (ord_ok k hk d hd).1
  rw [nfind_congr (fun k _ => hf k) 120 0 rfl]
  unfold m_number
  rw [m_isDoing_s, m_isDoing_s, m_isDoing_s, m_isDoing_s, m_isDoing_s, pz_bs]
  have no : (∀ k, k < 120 → ¬ (p1 = nI (ordT k 0) ∧ p2 = nI (ordT k 1) ∧ p3 = nI (ordT k 2) ∧ p4 = nI (ordT k 3) ∧ p5 = nI (ordT k 4))) → nfind (fun k => decide (p1 = nI (ordT k 0) ∧ p2 = nI (ordT k 1) ∧ p3 = nI (ordT k 2) ∧ p4 = nI (ordT k 3) ∧ p5 = nI (ordT k 4))) 120 0 = -1 := fun hno => nfind_false (fun k hk => decide_eq_false (hno k hk)) 120 0 rfl
  have st : ∀ (p : Int32) (o : Option Int32) (V : Int32), (¬ ((0 : Int32) ≤ p ∧ p ≤ 4) → V = -1) → ((0 : Int32) ≤ p ∧ p ≤ 4 → o = some V) → (if bI (decide ((0 : Int32) ≤ p ∧ p ≤ 4)) = 0 then some (-1 : Int32) else o) = some V := by
    intro p o V h1 h2
    by_cases c : (0 : Int32) ≤ p ∧ p ≤ 4
    · rw [decide_eq_true c, if_neg (by decide), h2 c]
    · rw [decide_eq_false c, if_pos (by decide), h1 c]
  refine st p1 _ _ (fun c => no fun k hk q => not5 c (hl k hk 0 (by omega)) q.1) (fun c1 => ?_)
  rw [pz_bs]
  refine st p2 _ _ (fun c => no fun k hk q => not5 c (hl k hk 1 (by omega)) q.2.1) (fun c2 => ?_)
  rw [pz_bs]
  refine st p3 _ _ (fun c => no fun k hk q => not5 c (hl k hk 2 (by omega)) q.2.2.1) (fun c3 => ?_)
  rw [pz_bs]
  refine st p4 _ _ (fun c => no fun k hk q => not5 c (hl k hk 3 (by omega)) q.2.2.2.1) (fun c4 => ?_)
  rw [pz_bs]
  refine st p5 _ _ (fun c => no fun k hk q => not5 c (hl k hk 4 (by omega)) q.2.2.2.2) (fun c5 => ?_)
  obtain ⟨a1, l1, rfl⟩ := in5 c1
  obtain ⟨a2, l2, rfl⟩ := in5 c2
  obtain ⟨a3, l3, rfl⟩ := in5 c3
  obtain ⟨a4, l4, rfl⟩ := in5 c4
  obtain ⟨a5, l5, rfl⟩ := in5 c5
  have hm := pm_l2 (I := I') (fun i d hi hd => (hT i d hi hd).2.2.1) ((((nI a1 * (10000 : Int32) + nI a2 * (1000 : Int32)) + nI a3 * (100 : Int32)) + nI a4 * (10 : Int32)) + nI a5) 120 0 fu rfl (by unfold fu; omega)
  unfold m_numberOf
  show Option.bind (lbind (m_numberOf_l2 I' _ fu (nI 0)) some (fun _ => some (-1 : Int32))) _ = _
  rw [hm, pz_bs]
  refine congrArg some (nfind_congr (fun k hk => ?_) 120 0 rfl)
  have b0 := hl k hk 0 (by omega)
  have b1 := hl k hk 1 (by omega)
  have b2 := hl k hk 2 (by omega)
  have b3 := hl k hk 3 (by omega)
  have b4 := hl k hk 4 (by omega)
  have e : nI (horT k 5 0 0) = ((((nI a1 * (10000 : Int32) + nI a2 * (1000 : Int32)) + nI a3 * (100 : Int32)) + nI a4 * (10 : Int32)) + nI a5) ↔ 10 * (10 * (10 * (10 * (10 * 0 + ordT k 0) + ordT k 1) + ordT k 2) + ordT k 3) + ordT k 4 = a1 * 10000 + a2 * 1000 + a3 * 100 + a4 * 10 + a5 := by
    rw [show (10000 : Int32) = nI 10000 from rfl, show (1000 : Int32) = nI 1000 from rfl, show (100 : Int32) = nI 100 from rfl, show (10 : Int32) = nI 10 from rfl, pz_mul, pz_mul, pz_mul, pz_mul, pz_add, pz_add, pz_add, pz_add]
    show nI (10 * (10 * (10 * (10 * (10 * 0 + ordT k 0) + ordT k 1) + ordT k 2) + ordT k 3) + ordT k 4) = _ ↔ _
    exact nI_eq (by omega) (by omega)
  refine decide_eq_decide.mpr (e.trans ?_)
  rw [nI_eq (by omega) (by omega), nI_eq (by omega) (by omega), nI_eq (by omega) (by omega), nI_eq (by omega) (by omega), nI_eq (by omega) (by omega)]
  omega
