/-! a sum's items run by the reference -/
theorem pm_clip (x : Int64) : m_clip x = some (clM x) := by
  unfold m_clip clM
  by_cases c : x ≤ 1000000
  · rw [if_pos c, if_pos c]
    by_cases d : -1000000 ≤ x
    · rw [if_pos d, if_pos d]
    · rw [if_neg d, if_neg d]
  · rw [if_neg c, if_neg c]
theorem pm_two {o : Nat} (ho : 6 ≤ o ∧ o < 10) (x y : Int64) : m_two (nI o) x y = some (twL o x y) := by
  have hc : o = 6 ∨ o = 7 ∨ o = 8 ∨ o = 9 := by omega
  unfold m_two
  rw [pm_clip, pm_clip, pm_clip, pm_clip, pz_bs, pz_bs, pz_bs, pz_bs]
  rcases hc with rfl | rfl | rfl | rfl
  · rfl
  · rfl
  · rfl
  · show (if y = 0 then some 0 else ck (nzl y) (some (clM (x / y)))) = some (if y = 0 then 0 else clM (x / y))
    by_cases c : y = 0
    · rw [if_pos c, if_pos c]
    · rw [if_neg c, if_neg c]
      unfold nzl ck
      rw [decide_eq_false c]
      rfl
theorem pm_asked {o : Nat} (ho : 10 ≤ o ∧ o < 20) (x y : Int64) : m_isAsked (nI o) x y = some (bI (isA o x y)) := by
  have e : ∀ c : Nat, c < 20 → (nI o = nI c ↔ o = c) := fun c hc => nI_eq (by omega) (by omega)
  unfold m_isAsked isA
  rw [show (10 : Int32) = nI 10 from rfl, show (11 : Int32) = nI 11 from rfl, show (12 : Int32) = nI 12 from rfl, show (13 : Int32) = nI 13 from rfl, show (14 : Int32) = nI 14 from rfl]
  have le_not : ∀ a b : Int64, a ≤ b ↔ ¬ b < a := fun a b => by
    rw [i64_le, Int64.lt_iff_toInt_lt]
    omega
  by_cases c1 : o = 10
  · rw [if_pos ((e 10 (by omega)).mpr c1), if_pos c1]
    by_cases d : x < y
    · rw [decide_eq_true d, if_neg (fun q => (le_not _ _).mp q d)]
      rfl
    · rw [decide_eq_false d, if_pos ((le_not _ _).mpr d)]
      rfl
  rw [if_neg (fun q => c1 ((e 10 (by omega)).mp q)), if_neg c1]
  by_cases c2 : o = 11
  · rw [if_pos ((e 11 (by omega)).mpr c2), if_pos c2]
    by_cases d : y < x
    · rw [if_pos d, decide_eq_false (fun q => (le_not _ _).mp q d)]
      rfl
    · rw [if_neg d, decide_eq_true ((le_not _ _).mpr d)]
      rfl
  rw [if_neg (fun q => c2 ((e 11 (by omega)).mp q)), if_neg c2]
  by_cases c3 : o = 12
  · rw [if_pos ((e 12 (by omega)).mpr c3), if_pos c3]
    by_cases d : y < x
    · rw [decide_eq_true d, if_neg (fun q => (le_not _ _).mp q d)]
      rfl
    · rw [decide_eq_false d, if_pos ((le_not _ _).mpr d)]
      rfl
  rw [if_neg (fun q => c3 ((e 12 (by omega)).mp q)), if_neg c3]
  by_cases c4 : o = 13
  · rw [if_pos ((e 13 (by omega)).mpr c4), if_pos c4]
    by_cases d : x < y
    · rw [if_pos d, decide_eq_false (fun q => (le_not _ _).mp q d)]
      rfl
    · rw [if_neg d, decide_eq_true ((le_not _ _).mpr d)]
      rfl
  rw [if_neg (fun q => c4 ((e 13 (by omega)).mp q)), if_neg c4]
  by_cases c5 : o = 14
  · rw [if_pos ((e 14 (by omega)).mpr c5), if_pos c5]
    by_cases d : x = y
    · rw [if_pos d, decide_eq_true d]
      rfl
    · rw [if_neg d, decide_eq_false d]
      rfl
  rw [if_neg (fun q => c5 ((e 14 (by omega)).mp q)), if_neg c5]
  by_cases d : x = y
  · rw [if_pos d, decide_eq_true d]
    rfl
  · rw [if_neg d, decide_eq_false d]
    rfl
theorem pm_half (x : Int64) : m_halfOf x = some (halfL x) := by
  unfold m_halfOf halfL
  by_cases c : x < 0
  · rw [if_pos c, if_neg]
    intro q
    rw [i64_le] at q
    rw [Int64.lt_iff_toInt_lt] at c
    omega
  · rw [if_neg c, if_pos]
    rw [i64_le]
    rw [Int64.lt_iff_toInt_lt] at c
    omega
theorem pm_ofOne {o : Nat} {I : PI} {v : Nat → Int32} {x : Int64} (ho : o = 2 ∨ o = 4 ∨ o = 5) (hk : m_knownOf I x = some (knownL v x)) : m_ofOne I (nI o) x = some (unL v o x) := by
  unfold m_ofOne
  rw [pm_half, hk, pz_bs, pz_bs]
  rcases ho with rfl | rfl | rfl <;> rfl
theorem pm_joined {o : Nat} (ho : o = 21 ∨ o = 22) (c d : Bool) : m_joined (nI o) (bI c) (bI d) = some (bI (if o = 21 then c && d else c || d)) := by
  rcases ho with rfl | rfl <;> cases c <;> cases d <;> decide +kernel
theorem nar_b (c : Bool) : vp_nar .boolean (bI c) = bI c := by cases c <;> decide +kernel
def VsM (r : Nat → Int64) : List Int64 → Prop
  | [] => True
  | x :: P => r P.length = x ∧ VsM r P
def TsM (r : Nat → Int32) : List Bool → Prop
  | [] => True
  | x :: P => r P.length = bI x ∧ TsM r P
theorem VsM.of {r r1 : Nat → Int64} : ∀ {P : List Int64}, VsM r P → (∀ j, j < P.length → r1 j = r j) → VsM r1 P
  | [], _, _ => trivial
  | _ :: P, h, e => ⟨(e P.length (by simp)).trans h.1, h.2.of fun j hj => e j (by rw [List.length_cons]; omega)⟩
theorem TsM.of {r r1 : Nat → Int32} : ∀ {P : List Bool}, TsM r P → (∀ j, j < P.length → r1 j = r j) → TsM r1 P
  | [], _, _ => trivial
  | _ :: P, h, e => ⟨(e P.length (by simp)).trans h.1, h.2.of fun j hj => e j (by rw [List.length_cons]; omega)⟩
/-- one item -/
theorem sum_step {v : Nat → Int32} {x cb e i : Nat} {p : Nat × Nat} {vs vs1 : List Int64} {ts ts1 : List Bool} {I : PI} {J : PJ} (self : Int32 → Int32 → Int32 → PI → PJ → Option (PI × PJ)) (hs : stI v p (vs, ts) = some (vs1, ts1)) (hv : p.1 < 23 ∧ p.2 < 10000 ∧ (p.1 = 1 → p.2 < 8)) (h1 : I 3 (cb + 2 * i) = nI p.1) (h2 : I 3 (cb + 2 * i + 1) = nI p.2) (hx : I 3 (x + 2) = nI e) (hie : i < e) (he : e < 1000) (hcb : cb + 2 * e < 2820) (hx2 : x + 2 < 2820) (hV : VsM (J 12) vs) (hT : TsM (I 13) ts) (hn : ∀ j, j < 8 → I 11 j = v j) (hk : ∀ y, m_knownOf I y = some (knownL v y)) (lv : vs.length < 330) (lt : ts.length < 330) :
    ∃ I1 J1, m_summedUp_b38 (nI x) (nI cb) self (nI vs.length) (nI ts.length) (nI i) I J = self (nI vs1.length) (nI ts1.length) (nI (i + 1)) I1 J1 ∧ VsM (J1 12) vs1 ∧ TsM (I1 13) ts1 ∧ (∀ k, k ≠ 13 → I1 k = I k) ∧ (∀ k, k ≠ 12 → J1 k = J k) ∧ vs1.length ≤ vs.length + 1 ∧ ts1.length ≤ ts.length + 1 := by
  obtain ⟨o, a⟩ := p
  dsimp only at hv h1 h2
  obtain ⟨ho, ha, ha8⟩ := hv
  unfold m_summedUp_b38
  rw [show (2 : Int32) = nI 2 from rfl, show (1 : Int32) = nI 1 from rfl, pz_add, pz_inb hx2 (by omega), pz_ck, pz_ix (by omega), hx, if_neg (fun q => absurd ((nI_leI (by omega) (by omega)).mp q) (by omega)), pz_mul, pz_add, pz_inb (by omega) (by omega), pz_ck, pz_ix (by omega), h1, pz_lt, pz_add, pz_inb (by omega) (by omega), pz_ck, pz_ix (by omega), h2, pz_lt]
  unfold stI at hs
  dsimp only at hs
  have e : ∀ c : Nat, c < 30 → (nI o = nI c ↔ o = c) := fun c hc => nI_eq (by omega) (by omega)
  have j349 : ∀ (a b : Int32) (I2 : PI) (J2 : PJ), m_summedUp_j349 self (nI i) a b I2 J2 = self a b (nI (i + 1)) I2 J2 := fun a b I2 J2 => by
    unfold m_summedUp_j349
    rw [pz_lt, show (1 : Int32) = nI 1 from rfl, pz_add]
  have j112 : ∀ w : Int64, ∃ I1 J1, m_summedUp_j112 self (nI vs.length) (nI ts.length) (nI i) I J w = self (nI (w :: vs).length) (nI ts.length) (nI (i + 1)) I1 J1 ∧ VsM (J1 12) (w :: vs) ∧ TsM (I1 13) ts ∧ (∀ k, k ≠ 13 → I1 k = I k) ∧ (∀ k, k ≠ 12 → J1 k = J k) ∧ (w :: vs).length ≤ vs.length + 1 ∧ ts.length ≤ ts.length + 1 := fun w => by
    unfold m_summedUp_j112
    rw [pz_inb lv (by omega), pz_ck, pz_ix (by omega), pz_lt, show (1 : Int32) = nI 1 from rfl, pz_add, pz_lt, j349]
    exact ⟨I, u2 J 12 vs.length w, rfl, ⟨pz_at _ _ rfl rfl, hV.of fun j hj => pz_no _ _ (Or.inr (by omega))⟩, hT, fun _ _ => rfl, fun k hk => u2_row _ _ _ _ hk, by simp, by omega⟩
  by_cases c0 : o = 0
  · rw [if_pos c0] at hs
    obtain ⟨e1, e2⟩ := Prod.mk.inj (Option.some.inj hs)
    subst e1 e2
    rw [if_neg (fun q => absurd ((nI_ltI (by omega) (by omega)).mp q) (by omega)), if_pos (show nI o = 0 from (e 0 (by omega)).mpr c0)]
    exact j112 _
  rw [if_neg c0] at hs
  by_cases c1 : o = 1
  · rw [if_pos c1] at hs
    obtain ⟨e1, e2⟩ := Prod.mk.inj (Option.some.inj hs)
    subst e1 e2
    rw [if_neg (fun q => absurd ((nI_ltI (by omega) (by omega)).mp q) (by omega)), if_neg (show ¬ nI o = 0 from fun q => c0 ((e 0 (by omega)).mp q)), pz_inb (ha8 c1) (by omega), pz_ck, pz_ix (by omega), hn a (ha8 c1)]
    exact j112 _
  rw [if_neg c1] at hs
  rw [if_pos ((nI_ltI (by omega) (by omega)).mpr (by omega))]
  by_cases c3 : o = 3
  · rw [if_pos c3] at hs
    rw [if_pos (show nI o = 3 from (e 3 (by omega)).mpr c3)]
    cases vs with
    | nil => cases hs
    | cons y vs =>
      cases vs with
      | nil => cases hs
      | cons z vs =>
        cases ts with
        | nil => cases hs
        | cons c ts =>
          obtain ⟨e1, e2⟩ := Prod.mk.inj (Option.some.inj hs)
          subst e1 e2
          rw [List.length_cons, List.length_cons] at lv
          rw [List.length_cons] at lt
          rw [List.length_cons, List.length_cons, List.length_cons, pz_dec (by omega), pz_dec (by omega), show vs.length + 1 + 1 - 1 = vs.length + 1 by omega, show ts.length + 1 - 1 = ts.length by omega, pz_lt, pz_lt, pz_inb (by omega) (by omega), pz_ck, pz_ix (by omega), hT.1, pz_sub (by omega), show vs.length + 1 - 1 = vs.length by omega]
          cases c
          · rw [if_pos (by decide), pz_inb (show vs.length + 1 < 330 by omega) (by omega), pz_ck, pz_inb (by omega) (by omega), pz_ck, pz_ix (by omega), pz_ix (by omega), pz_lt, j349]
            refine ⟨I, _, rfl, ⟨(pz_at _ _ rfl rfl).trans hV.1, hV.2.2.of fun j hj => pz_no _ _ (Or.inr (by omega))⟩, hT.2, fun _ _ => rfl, fun k hk => u2_row _ _ _ _ hk, by simp only [List.length_cons]; omega, by omega⟩
          · rw [if_neg (by decide), j349]
            exact ⟨I, J, rfl, hV.2, hT.2, fun _ _ => rfl, fun _ _ => rfl, by simp only [List.length_cons]; omega, by omega⟩
  rw [if_neg c3] at hs
  rw [if_neg (show ¬ nI o = 3 from fun q => c3 ((e 3 (by omega)).mp q))]
  rw [show (5 : Int32) = nI 5 from rfl, show (10 : Int32) = nI 10 from rfl, show (20 : Int32) = nI 20 from rfl]
  by_cases c5 : o ≤ 5
  · rw [if_pos c5] at hs
    rw [if_neg (fun q => absurd ((nI_ltI (by omega) (by omega)).mp q) (by omega))]
    cases vs with
    | nil => cases hs
    | cons y vs =>
      obtain ⟨e1, e2⟩ := Prod.mk.inj (Option.some.inj hs)
      subst e1 e2
      rw [List.length_cons] at lv
      rw [List.length_cons, pz_sub (by omega), show vs.length + 1 - 1 = vs.length by omega, pz_inb (by omega) (by omega), pz_ck, pz_ix (by omega), pm_ofOne (by omega) (hk _), pz_bs, pz_ck, pz_lt, j349, hV.1]
      exact ⟨I, _, rfl, ⟨pz_at _ _ rfl rfl, hV.2.of fun j hj => pz_no _ _ (Or.inr (by omega))⟩, hT, fun _ _ => rfl, fun k hk => u2_row _ _ _ _ hk, by simp only [List.length_cons]; omega, by omega⟩
  rw [if_neg c5] at hs
  rw [if_pos ((nI_ltI (by omega) (by omega)).mpr (by omega))]
  by_cases c10 : o < 10
  · rw [if_pos c10] at hs
    rw [if_neg (fun q => absurd ((nI_leI (by omega) (by omega)).mp q) (by omega))]
    cases vs with
    | nil => cases hs
    | cons y vs =>
      cases vs with
      | nil => cases hs
      | cons z vs =>
        obtain ⟨e1, e2⟩ := Prod.mk.inj (Option.some.inj hs)
        subst e1 e2
        rw [List.length_cons, List.length_cons] at lv
        rw [List.length_cons, List.length_cons, pz_dec (by omega), show vs.length + 1 + 1 - 1 = vs.length + 1 by omega, pz_lt, pz_sub (by omega), show vs.length + 1 - 1 = vs.length by omega, pz_inb (by omega) (by omega), pz_ck, pz_inb (show vs.length + 1 < 330 by omega) (by omega), pz_ck, pz_ix (by omega), pz_ix (by omega), pm_two ⟨by omega, c10⟩, pz_bs, pz_ck, pz_lt, j349, show J 12 (vs.length + 1) = y from hV.1, hV.2.1]
        exact ⟨I, _, rfl, ⟨pz_at _ _ rfl rfl, hV.2.2.of fun j hj => pz_no _ _ (Or.inr (by omega))⟩, hT, fun _ _ => rfl, fun k hk => u2_row _ _ _ _ hk, by simp only [List.length_cons]; omega, by omega⟩
  rw [if_neg c10] at hs
  rw [if_pos ((nI_leI (by omega) (by omega)).mpr (by omega))]
  by_cases c20 : o < 20
  · rw [if_pos c20] at hs
    rw [if_neg (fun q => absurd ((nI_leI (by omega) (by omega)).mp q) (by omega))]
    cases vs with
    | nil => cases hs
    | cons y vs =>
      cases vs with
      | nil => cases hs
      | cons z vs =>
        obtain ⟨e1, e2⟩ := Prod.mk.inj (Option.some.inj hs)
        subst e1 e2
        rw [List.length_cons, List.length_cons] at lv
        have em2 : nI (vs.length + 1 + 1) + -nI 2 = nI vs.length := by
          rw [← Int32.sub_eq_add_neg, pz_sub (by omega)]
          rfl
        rw [List.length_cons, List.length_cons, em2, pz_lt, pz_inb (by omega) (by omega), pz_ck, pz_add, pz_inb (show vs.length + 1 < 330 by omega) (by omega), pz_ck, pz_ix (by omega), pz_ix (by omega), pm_asked ⟨by omega, c20⟩, pz_bs, pz_inb lt (by omega), pz_ck, pz_ix (by omega), nar_b, pz_lt, pz_lt, j349, show J 12 (vs.length + 1) = y from hV.1, hV.2.1, pz_add]
        exact ⟨_, J, rfl, hV.2.2, ⟨pz_at _ _ rfl rfl, hT.of fun j hj => pz_no _ _ (Or.inr (by omega))⟩, fun k hk => u2_row _ _ _ _ hk, fun _ _ => rfl, by omega, by simp only [List.length_cons]; omega⟩
  rw [if_neg c20] at hs
  rw [if_pos ((nI_leI (by omega) (by omega)).mpr (by omega))]
  by_cases c21 : o = 20
  · rw [if_pos c21] at hs
    rw [if_pos ((e 20 (by omega)).mpr c21)]
    cases ts with
    | nil => cases hs
    | cons c ts =>
      obtain ⟨e1, e2⟩ := Prod.mk.inj (Option.some.inj hs)
      subst e1 e2
      rw [List.length_cons] at lt
      rw [List.length_cons, pz_sub (by omega), show ts.length + 1 - 1 = ts.length by omega, pz_inb (by omega) (by omega), pz_ck, pz_ix (by omega), hT.1]
      have j312 : ∀ d : Bool, m_summedUp_j312 self (nI vs.length) (nI (ts.length + 1)) (nI i) I J (bI d) = self (nI vs.length) (nI (ts.length + 1)) (nI (i + 1)) (u2 I 13 ts.length (bI d)) J := fun d => by
        unfold m_summedUp_j312
        rw [show (1 : Int32) = nI 1 from rfl, pz_sub (by omega), show ts.length + 1 - 1 = ts.length by omega, pz_inb (by omega) (by omega), pz_ck, pz_ix (by omega), nar_b, pz_lt, j349]
      have fin : ∀ d, ∃ I1 J1, self (nI vs.length) (nI (ts.length + 1)) (nI (i + 1)) (u2 I 13 ts.length (bI d)) J = self (nI vs.length) (nI (d :: ts).length) (nI (i + 1)) I1 J1 ∧ VsM (J1 12) vs ∧ TsM (I1 13) (d :: ts) ∧ (∀ k, k ≠ 13 → I1 k = I k) ∧ (∀ k, k ≠ 12 → J1 k = J k) ∧ vs.length ≤ vs.length + 1 ∧ (d :: ts).length ≤ ts.length + 1 + 1 := fun d => ⟨_, J, rfl, hV, ⟨pz_at _ _ rfl rfl, hT.2.of fun j hj => pz_no _ _ (Or.inr (by omega))⟩, fun k hk => u2_row _ _ _ _ hk, fun _ _ => rfl, by omega, by simp only [List.length_cons]; omega⟩
      cases c
      · rw [if_pos (by decide), show nI 1 = bI true from rfl, j312]
        exact fin true
      · rw [if_neg (by decide), show (0 : Int32) = bI false from rfl, j312]
        exact fin false
  rw [if_neg c21] at hs
  rw [if_neg (fun q => c21 ((e 20 (by omega)).mp q))]
  cases ts with
  | nil => cases hs
  | cons d ts =>
    cases ts with
    | nil => cases hs
    | cons c ts =>
      obtain ⟨e1, e2⟩ := Prod.mk.inj (Option.some.inj hs)
      subst e1 e2
      rw [List.length_cons, List.length_cons] at lt
      rw [List.length_cons, List.length_cons, pz_dec (by omega), show ts.length + 1 + 1 - 1 = ts.length + 1 by omega, pz_lt, pz_sub (by omega), show ts.length + 1 - 1 = ts.length by omega, pz_inb (by omega) (by omega), pz_ck, pz_inb (show ts.length + 1 < 330 by omega) (by omega), pz_ck, pz_ix (by omega), pz_ix (by omega), show I 13 (ts.length + 1) = bI d from hT.1, hT.2.1, pm_joined (by omega), pz_bs, pz_ck, nar_b, pz_lt, j349]
      exact ⟨_, J, rfl, hV, ⟨pz_at _ _ rfl rfl, hT.2.2.of fun j hj => pz_no _ _ (Or.inr (by omega))⟩, fun k hk => u2_row _ _ _ _ hk, fun _ _ => rfl, by omega, by simp only [List.length_cons]; omega⟩
theorem sum_run {v : Nat → Int32} {x cb e : Nat} (he : e < 1000) (hcb : cb + 2 * e < 2820) (hx2 : x + 2 < 2820) : ∀ (rest : List (Nat × Nat)) (i : Nat) (vs vs1 : List Int64) (ts ts1 : List Bool) (f : Nat) (I : PI) (J : PJ), i + rest.length = e → rest.length < f → rnI v rest (vs, ts) = some (vs1, ts1) → ItV rest → (∀ q p, rest[q]? = some p → I 3 (cb + 2 * (i + q)) = nI p.1 ∧ I 3 (cb + 2 * (i + q) + 1) = nI p.2) → I 3 (x + 2) = nI e → VsM (J 12) vs → TsM (I 13) ts → (∀ j, j < 8 → I 11 j = v j) → (∀ I2 : PI, I2 1 = I 1 → ∀ y, m_knownOf I2 y = some (knownL v y)) → vs.length + rest.length ≤ 330 → ts.length + rest.length ≤ 330 →
    ∃ I1 J1, m_summedUp_l38 (nI x) (nI cb) f (nI vs.length) (nI ts.length) (nI i) I J = some (I1, J1) ∧ VsM (J1 12) vs1 ∧ (∀ k, k ≠ 13 → I1 k = I k) ∧ (∀ k, k ≠ 12 → J1 k = J k) := by
  intro rest
  induction rest with
  | nil =>
    intro i vs vs1 ts ts1 f I J hi hf hr hV hit hx hv ht hn hk lv lt
    obtain ⟨f, rfl⟩ : ∃ q, f = q + 1 := ⟨f - 1, by simp at hf; omega⟩
    cases hr
    refine ⟨I, J, ?_, hv, fun _ _ => rfl, fun _ _ => rfl⟩
    show m_summedUp_b38 _ _ _ _ _ _ _ _ = _
    unfold m_summedUp_b38
    rw [List.length_nil, Nat.add_zero] at hi
    rw [show (2 : Int32) = nI 2 from rfl, pz_add, pz_inb hx2 (by omega), pz_ck, pz_ix (by omega), hx, if_pos ((nI_leI (by omega) (by omega)).mpr (by omega))]
  | cons p rest ih =>
    intro i vs vs1 ts ts1 f I J hi hf hr hV hit hx hv ht hn hk lv lt
    obtain ⟨f, rfl⟩ : ∃ q, f = q + 1 := ⟨f - 1, by omega⟩
    rw [List.length_cons] at hi hf lv lt
    obtain ⟨⟨vs2, ts2⟩, h1, h2⟩ := Option.bind_eq_some_iff.mp (show (stI v p (vs, ts)).bind (rnI v rest) = some (vs1, ts1) from hr)
    obtain ⟨g1, g2⟩ := hit 0 p rfl
    rw [Nat.add_zero] at g1 g2
    obtain ⟨I1, J1, s1, s2, s3, s4, s5, s6, s7⟩ := sum_step (e := e) (m_summedUp_l38 (nI x) (nI cb) f) h1 (hV p List.mem_cons_self) g1 g2 hx (by omega) he hcb hx2 hv ht hn (hk I rfl) (by omega) (by omega)
    obtain ⟨I2, J2, r1, r2, r3, r4⟩ := ih (i + 1) vs2 vs1 ts2 ts1 f I1 J1 (by omega) (by omega) h2 (fun q hq => hV q (List.mem_cons_of_mem _ hq)) (fun q w hw => by
      rw [s4 3 (by decide)]
      have := hit (q + 1) w hw
      rw [show i + 1 + q = i + (q + 1) by omega]
      exact this) (by rw [s4 3 (by decide)]; exact hx) s2 s3 (fun j hj => by rw [s4 11 (by decide)]; exact hn j hj) (fun I3 h3 => hk I3 (h3.trans (s4 1 (by decide)))) (by omega) (by omega)
    refine ⟨I2, J2, ?_, r2, fun k hk => (r3 k hk).trans (s4 k hk), fun k hk => (r4 k hk).trans (s5 k hk)⟩
    show m_summedUp_b38 _ _ _ _ _ _ _ _ = _
    rw [s1, r1]
