/-! scripts played, of both -/
theorem Rg.cases {r : Int32} (h : Rg r) : (r = -1 ∧ r < 0) ∨ (¬ r = -1 ∧ ¬ r < 0) := by
  rcases h with rfl | ⟨n, hn, rfl⟩
  · exact Or.inl ⟨rfl, by decide⟩
  · exact Or.inr ⟨pz_ne1 hn, nI_pos hn⟩
theorem dg_len : ∀ (o : Nat) (KL : List Cl), (dgL o KL).length ≤ KL.length
  | _, [] => Nat.le_refl _
  | o, p :: KL => by
    rw [dgL]
    have := dg_len (o + 1) KL
    split <;> simp only [List.length_cons] <;> omega
theorem dg_cl : ∀ (o : Nat) (KL : List Cl), o + KL.length < 2 ^ 31 → ∀ d ∈ dgL o KL, o ≤ ix d.2.2.2.2 ∧ ix d.2.2.2.2 < o + KL.length
  | _, [], _, d, h => absurd h List.not_mem_nil
  | o, p :: KL, hl, d, h => by
    rw [List.length_cons] at hl ⊢
    rw [dgL] at h
    have ih := dg_cl (o + 1) KL (by omega) d
    by_cases c : p.1 < 2
    · rw [if_pos c] at h
      have := ih h
      omega
    · rw [if_neg c] at h
      rcases List.mem_cons.mp h with h | h
      · rw [h]
        have e : ix (d5 o p).2.2.2.2 = o := pz_ix (by omega)
        rw [e]
        omega
      · have := ih h
        omega
theorem dg_split : ∀ (o : Nat) (KL : List Cl) (k : Nat), dgL o KL = dgL o (KL.take k) ++ dgL (o + k) (KL.drop k)
  | o, KL, 0 => by rw [List.take_zero, List.drop_zero]; rfl
  | o, [], k + 1 => rfl
  | o, p :: KL, k + 1 => by
    rw [List.take_succ_cons, List.drop_succ_cons, dgL, dgL, dg_split (o + 1) KL k, show o + (k + 1) = o + 1 + k by omega]
    split <;> rfl
/-- where both stand: so many doings have been done, they lie ahead of a clause -/
def Inv (i k : Nat) (L : List D5) : Prop := i ≤ L.length ∧ ∀ j d, L[j]? = some d → (j < i ↔ ix d.2.2.2.2 < k)
theorem Inv.len {i k : Nat} {A B : List D5} (h : Inv i k (A ++ B)) (hA : ∀ d ∈ A, ix d.2.2.2.2 < k) (hB : ∀ d ∈ B, k ≤ ix d.2.2.2.2) : A.length = i := by
  obtain ⟨h1, h2⟩ := h
  rw [List.length_append] at h1
  rcases Nat.lt_trichotomy A.length i with c | c | c
  · have hb : 0 < B.length := by omega
    have e : (A ++ B)[A.length]? = some B[0] := by
      rw [List.getElem?_append_right (Nat.le_refl _), Nat.sub_self, List.getElem?_eq_getElem hb]
    have := (h2 _ _ e).mp c
    have := hB _ (List.getElem_mem hb)
    omega
  · exact c
  · have e : (A ++ B)[i]? = some A[i] := by
      rw [List.getElem?_append_left c, List.getElem?_eq_getElem c]
    have := (h2 _ _ e).mpr (hA _ (List.getElem_mem c))
    omega
theorem Inv.mk' {k : Nat} {A B : List D5} (hA : ∀ d ∈ A, ix d.2.2.2.2 < k) (hB : ∀ d ∈ B, k ≤ ix d.2.2.2.2) : Inv A.length k (A ++ B) := by
  refine ⟨by rw [List.length_append]; omega, fun j d hj => ?_⟩
  by_cases c : j < A.length
  · rw [List.getElem?_append_left c] at hj
    have := hA d (List.mem_of_getElem? hj)
    omega
  · rw [List.getElem?_append_right (by omega)] at hj
    have := hB d (List.mem_of_getElem? hj)
    omega
section PL
variable {s si : SN} {I : PI} {T : PT} {X : TS} {tN : XCo} {I' : PI} {J' : PJ}
/-- a year by itself, of the class -/
theorem px_year1 (h : CC s si I T X tN I' J') : (s 3 0 = 9999 ∧ x_year I T X tN 1 = some (-1, I)) ∨ (s 3 0 < 9999 ∧ ∀ (A : PI) (n : Nat) (B : PI), xs_keeps I = some A → x_passes A T X tN 3 = some (nI n, B) → x_year I T X tN 1 = some (nI n, B)) := by
  have hy0 := h.1.1.2.1.1
  have hx0 : I 3 0 = nI (s 3 0) := h.1.2.2.1.1 3 0 (by omega) (by omega)
  have e1 : x_in 1 1 60 = some (bI true) := by decide +kernel
  have hh : x_year I T X tN 1 = if s 3 0 + 1 ≤ 9999 then ((x_year_l33 T X tN 1 fu 0 0 I).bind <| un2 fun v5 I6 => some (v5, I6)) else some (-1, I) := by
    unfold x_year
    rw [e1, pz_bs, if_neg (show ¬ bI true = 0 by decide), show ix (0 : Int32) = 0 from rfl, hx0, show nI (s 3 0) + (1 : Int32) = nI (s 3 0 + 1) from nI_add _ 1]
    by_cases c : s 3 0 + 1 ≤ 9999
    · rw [if_pos c, if_pos (show nI (s 3 0 + 1) ≤ 9999 from (nI_leI (b := 9999) (by omega) (by omega)).mpr c)]
    · rw [if_neg c, if_neg (show ¬ nI (s 3 0 + 1) ≤ 9999 from fun q => c ((nI_leI (b := 9999) (by omega) (by omega)).mp q))]
  by_cases c : s 3 0 = 9999
  · exact Or.inl ⟨c, by rw [hh, if_neg (by omega)]⟩
  · refine Or.inr ⟨by omega, fun A n B ha hb => ?_⟩
    obtain ⟨q, hq⟩ : ∃ q, fu = q + 2 := ⟨fu - 2, by unfold fu; omega⟩
    rw [hh, if_pos (by omega), hq]
    have e2 : ∀ v A, x_year_l33 T X tN 1 (q + 1) v 1 A = some (v, A) := fun v A => by
      show x_year_b33 T X tN 1 _ v 1 A = _
      unfold x_year_b33
      rw [if_pos (by decide)]
    have e3 : x_year_l33 T X tN 1 (q + 2) 0 0 I = some (nI n, B) := by
      show x_year_b33 T X tN 1 (x_year_l33 T X tN 1 (q + 1)) 0 0 I = _
      unfold x_year_b33
      rw [if_neg (by decide), ha, pz_bs, hb, pz_bs, pz_u2, pz_lt, pz_lt, show (0 : Int32) + 1 = 1 from rfl, e2, show (0 : Int32) + nI n = nI (0 + n) from nI_add 0 n, Nat.zero_add]
    rw [e3]
    rfl
theorem pe_passesL {N : Nat} (hN : N ≤ 60) : ∀ (m k fx fm : Nat) (s : SN) (I I' : PI) (J' : PJ), k + m = N → m < fx → m < fm → CC s si I T X tN I' J' → ∃ (b : Bool) (s1 : SN) (I1 I1' : PI) (J1' : PJ), lbind (x_passesAll_l2 T X tN (nI N) fx (nI k) I) some (fun I3 => some ((1 : Int32), I3)) = some (bI b, I1) ∧ lbind (m_arePassed_l7 (nI N) fm (nI k) I' J') some (un2 fun I5 J6 => some ((1 : Int32), I5, J6)) = some (bI b, I1', J1') ∧ CC s1 si I1 T X tN I1' J1' ∧ s1 2 3 = s 2 3 := by
  intro m
  induction m with
  | zero =>
    intro k fx fm s I I' J' hk hfx hfm h
    obtain ⟨fx, rfl⟩ : ∃ q, fx = q + 1 := ⟨fx - 1, by omega⟩
    obtain ⟨fm, rfl⟩ : ∃ q, fm = q + 1 := ⟨fm - 1, by omega⟩
    refine ⟨true, s, I, I', J', ?_, ?_, h, rfl⟩
    · show lbind (x_passesAll_b2 T X tN (nI N) _ (nI k) I) _ _ = _
      unfold x_passesAll_b2
      rw [if_pos ((nI_leI (by omega) (by omega)).mpr (by omega))]
      rfl
    · show lbind (m_arePassed_b7 (nI N) _ (nI k) I' J') _ _ = _
      unfold m_arePassed_b7
      rw [if_pos ((nI_leI (by omega) (by omega)).mpr (by omega))]
      rfl
  | succ m ih =>
    intro k fx fm s I I' J' hk hfx hfm h
    obtain ⟨fx, rfl⟩ : ∃ q, fx = q + 1 := ⟨fx - 1, by omega⟩
    obtain ⟨fm, rfl⟩ : ∃ q, fm = q + 1 := ⟨fm - 1, by omega⟩
    have h8 : I' 1 8 = nI (s 3 0) := h.1.2.2.2.2.1.1.2.2.2.2.2.2.2.2.1
    have hy0 := h.1.1.2.1.1
    have sx : x_passesAll_l2 T X tN (nI N) (fx + 1) (nI k) I = ((x_year I T X tN (1 : Int32)).bind <| un2 fun v4 I5 => if v4 = (-1 : Int32) then some (.inl ((0 : Int32), I5)) else x_passesAll_l2 T X tN (nI N) fx (nI (k + 1)) I5) := by
      show x_passesAll_b2 T X tN (nI N) _ (nI k) I = _
      unfold x_passesAll_b2
      rw [if_neg (fun q => absurd ((nI_leI (by omega) (by omega)).mp q) (by omega)), show nI k + (1 : Int32) = nI (k + 1) from nI_add k 1]
      rfl
    have sm : m_arePassed_l7 (nI N) (fm + 1) (nI k) I' J' = if s 3 0 = 9999 then some (.inl ((0 : Int32), I', J')) else ((m_keepStep I').bind fun I7 => (m_pass I7 J').bind <| un2 fun I8 J9 => m_arePassed_l7 (nI N) fm (nI (k + 1)) I8 J9) := by
      show m_arePassed_b7 (nI N) _ (nI k) I' J' = _
      unfold m_arePassed_b7
      rw [if_neg (fun q => absurd ((nI_leI (by omega) (by omega)).mp q) (by omega)), show inb (8 : Int32) 1691 = true from rfl, pz_ck, show ix (8 : Int32) = 8 from rfl, h8, show nI k + (1 : Int32) = nI (k + 1) from nI_add k 1]
      by_cases c : s 3 0 = 9999
      · rw [if_pos c, if_pos (show nI (s 3 0) = 9999 from by rw [c]; rfl)]
      · rw [if_neg c, if_neg (show ¬ nI (s 3 0) = 9999 from fun q => c ((nI_eq (b := 9999) (by omega) (by omega)).mp q))]
        rfl
    rw [sx, sm]
    rcases px_year1 h with ⟨c, e⟩ | ⟨c, e⟩
    · rw [if_pos c, e, pz_bs, pz_u2, if_pos rfl]
      exact ⟨false, s, I, I', J', rfl, rfl, h, rfl⟩
    · obtain ⟨A, A', a1, a2, a3, a4, a5, -⟩ := h.keeps2
      have v5 := h.1.1.1.2.2.2.2.2.1
      obtain ⟨n1, s1, B, B', K', b1, b2, b3, b4, b5, b6, b7⟩ := pe_passNow a3 (by rw [a5]; omega)
      rw [if_neg (by omega), e A n1 B a1 b1, pz_bs, pz_u2, if_neg (show ¬ nI n1 = -1 from pz_ne1 (by omega)), a2, pz_bs, b2, pz_bs, pz_u2]
      obtain ⟨b, s2, D, D', L', d1, d2, d3, d4⟩ := ih (k + 1) fx fm s1 B B' K' (by omega) (by omega) (by omega) b3
      exact ⟨b, s2, D, D', L', d1, d2, d3, d4.trans ((congrFun b7 3).trans ((keepS_ok s v5).2 3 (by omega)))⟩
/-- one doing -/
theorem pe_does (h : CC s si I T X tN I' J') (J : PJ) {p : Cl} {x cl : Nat} (h2 : 2 ≤ p.1) (hv : p.1 < 9 ∧ p.2.1 < 10000 ∧ (p.1 = 8 → 1 ≤ p.2.1 ∧ p.2.1 ≤ 60)) (hR : Rw (I' 3) x p) (hx : x + 3 < 2820) : ∃ (b : Bool) (s1 : SN) (I1 : PI) (J1 : PJ) (I1' : PI) (J1' : PJ), x_does I J T X tN (d5 cl p) = some (bI b, I1, J1) ∧ m_isPlayed I' J' (nI x) = some (bI b, I1', J1') ∧ CC s1 si I1 T X tN I1' J1' ∧ s1 2 3 = s 2 3 := by
  obtain ⟨so, a, b, c⟩ := p
  dsimp only at h2 hv
  obtain ⟨r0, r1, r2, r3⟩ := hR
  dsimp only at r0 r1 r2 r3
  unfold m_isPlayed
  rw [show (1 : Int32) = nI 1 from rfl, show (2 : Int32) = nI 2 from rfl, show (3 : Int32) = nI 3 from rfl, pz_add, pz_add, pz_add, pz_inb (show x + 1 < 2820 by omega) (by omega), pz_ck, pz_ix (show x + 1 < 2 ^ 31 by omega), pz_lt, pz_inb (show x + 2 < 2820 by omega) (by omega), pz_ck, pz_ix (show x + 2 < 2 ^ 31 by omega), pz_lt, pz_inb (show x < 2820 by omega) (by omega), pz_ck, pz_ix (show x < 2 ^ 31 by omega), pz_lt, pz_inb (show x + 3 < 2820 by omega) (by omega), pz_ix (show x + 3 < 2 ^ 31 by omega), r0, r1]
  have fin : ∀ {r : Int32} {s1 : SN} {I1 : PI} {J1 : PJ} {I1' : PI} {J1' : PJ}, Rg r → CC s1 si I1 T X tN I1' J1' → s1 2 3 = s 2 3 → ∃ (b : Bool) (s2 : SN) (I2 : PI) (J2 : PJ) (I2' : PI) (J2' : PJ), (if r = (-1 : Int32) then some ((0 : Int32), I1, J1) else some ((1 : Int32), I1, J1)) = some (bI b, I2, J2) ∧ (if r < (0 : Int32) then some ((0 : Int32), I1', J1') else some (nI 1, I1', J1')) = some (bI b, I2', J2') ∧ CC s2 si I2 T X tN I2' J2' ∧ s2 2 3 = s 2 3 := by
    intro r s1 I1 J1 I1' J1' hr hC he
    rcases hr.cases with ⟨c1, c2⟩ | ⟨c1, c2⟩
    · rw [if_pos c1, if_pos c2]
      exact ⟨false, s1, I1, J1, I1', J1', rfl, rfl, hC, he⟩
    · rw [if_neg c1, if_neg c2]
      exact ⟨true, s1, I1, J1, I1', J1', rfl, rfl, hC, he⟩
  have isbB : ∀ {r : Int32}, isb r = true → ∃ b, r = bI b := fun {r} hr => by
    unfold isb at hr
    by_cases c : r = 0
    · exact ⟨false, c⟩
    · rw [decide_eq_false c, Bool.false_or] at hr
      exact ⟨true, of_decide_eq_true hr⟩
  unfold x_does d5
  dsimp only
  have hc : so = 2 ∨ so = 3 ∨ so = 4 ∨ so = 5 ∨ so = 6 ∨ so = 7 ∨ so = 8 := by omega
  rcases hc with rfl | rfl | rfl | rfl | rfl | rfl | rfl
  · obtain ⟨r, s1, I1, I1', e1, e2, e3, e4, e5⟩ := pu_form h (nI a) (nI b)
    rw [r2 (by omega) (by omega)]
    rw [if_pos (show nI (200 + 2) = 202 from rfl), if_pos (show nI 2 = nI 2 from rfl), if_neg (show ¬ (2 = 4 ∨ 2 = 8) by omega), e1, e2]
    exact fin e5 e3 e4
  · obtain ⟨r, s1, I1, I1', e1, e2, e3, e4, e5⟩ := pu_person h (nI a) (nI b)
    rw [r2 (by omega) (by omega)]
    rw [if_neg (show ¬ nI (200 + 3) = 202 by decide), if_pos (show nI (200 + 3) = 203 from rfl), if_neg (show ¬ nI 3 = nI 2 by decide), if_pos (show nI 3 = nI 3 from rfl), if_neg (show ¬ (3 = 4 ∨ 3 = 8) by omega), e1, e2]
    exact fin e5 e3 e4
  · obtain ⟨r, s1, I1, I1', e1, e2, e3, e4, e5⟩ := pu_story h (nI a)
    rw [if_neg (show ¬ nI (200 + 4) = 202 by decide), if_neg (show ¬ nI (200 + 4) = 203 by decide), if_pos (show nI (200 + 4) = 204 from rfl), if_neg (show ¬ nI 4 = nI 2 by decide), if_neg (show ¬ nI 4 = nI 3 by decide), if_pos (show nI 4 = 4 from rfl), e1, e2]
    exact fin e5 e3 e4
  · obtain ⟨r, s1, I1, I1', J1', e1, e2, e3, e4, e5⟩ := pu_teach h (nI a) (nI b) (nI c)
    rw [r2 (by omega) (by omega), r3 rfl]
    rw [if_neg (show ¬ nI (200 + 5) = 202 by decide), if_neg (show ¬ nI (200 + 5) = 203 by decide), if_neg (show ¬ nI (200 + 5) = 204 by decide), if_pos (show nI (200 + 5) = 205 from rfl), if_neg (show ¬ nI 5 = nI 2 by decide), if_neg (show ¬ nI 5 = nI 3 by decide), if_neg (show ¬ nI 5 = 4 by decide), if_pos (show nI 5 = 5 from rfl), if_neg (show ¬ (5 = 4 ∨ 5 = 8) by omega), if_pos rfl, e1, pz_ck, e2, pz_bs, pz_bs, pz_u2, pz_u3, e3, pz_ck, pz_ck]
    obtain ⟨b', rfl⟩ := isbB e3
    exact ⟨b', s1, I1, J, I1', J1', rfl, rfl, e4, e5⟩
  · obtain ⟨r, s1, I1, I1', e1, e2, e3, e4, e5⟩ := pu_forget h (nI b) (nI a)
    rw [r2 (by omega) (by omega)]
    rw [if_neg (show ¬ nI (200 + 6) = 202 by decide), if_neg (show ¬ nI (200 + 6) = 203 by decide), if_neg (show ¬ nI (200 + 6) = 204 by decide), if_neg (show ¬ nI (200 + 6) = 205 by decide), if_pos (show nI (200 + 6) = 206 from rfl), if_neg (show ¬ nI 6 = nI 2 by decide), if_neg (show ¬ nI 6 = nI 3 by decide), if_neg (show ¬ nI 6 = 4 by decide), if_neg (show ¬ nI 6 = 5 by decide), if_pos (show nI 6 = 6 from rfl), if_neg (show ¬ (6 = 4 ∨ 6 = 8) by omega), e1, e2, pz_bs, pz_bs, pz_u2, pz_u2, e3, pz_ck, pz_ck]
    obtain ⟨b', rfl⟩ := isbB e3
    exact ⟨b', s1, I1, J, I1', J', rfl, rfl, e4, e5⟩
  · obtain ⟨r, s1, I1, J1, I1', J1', e1, e2, e3, e4, e5⟩ := pu_tell h J (nI b) (nI a)
    rw [r2 (by omega) (by omega)]
    rw [if_neg (show ¬ nI (200 + 7) = 202 by decide), if_neg (show ¬ nI (200 + 7) = 203 by decide), if_neg (show ¬ nI (200 + 7) = 204 by decide), if_neg (show ¬ nI (200 + 7) = 205 by decide), if_neg (show ¬ nI (200 + 7) = 206 by decide), if_pos (show nI (200 + 7) = 207 from rfl), if_neg (show ¬ nI 7 = nI 2 by decide), if_neg (show ¬ nI 7 = nI 3 by decide), if_neg (show ¬ nI 7 = 4 by decide), if_neg (show ¬ nI 7 = 5 by decide), if_neg (show ¬ nI 7 = 6 by decide), if_pos (show nI 7 = 7 from rfl), if_neg (show ¬ (7 = 4 ∨ 7 = 8) by omega), e1, e2]
    exact fin e5 e3 e4
  · rw [if_neg (show ¬ nI (200 + 8) = 202 by decide), if_neg (show ¬ nI (200 + 8) = 203 by decide), if_neg (show ¬ nI (200 + 8) = 204 by decide), if_neg (show ¬ nI (200 + 8) = 205 by decide), if_neg (show ¬ nI (200 + 8) = 206 by decide), if_neg (show ¬ nI (200 + 8) = 207 by decide), if_neg (show ¬ nI 8 = nI 2 by decide), if_neg (show ¬ nI 8 = nI 3 by decide), if_neg (show ¬ nI 8 = 4 by decide), if_neg (show ¬ nI 8 = 5 by decide), if_neg (show ¬ nI 8 = 6 by decide), if_neg (show ¬ nI 8 = 7 by decide), if_pos (show nI 8 = 8 from rfl)]
    obtain ⟨b', s1, I1, I1', J1', e1, e2, e3, e4⟩ := pe_passesL (N := a) (hv.2.2 rfl).2 a 0 fu fu s I (u2 I' 0 37 0) J' (by omega) (fu_gt (by have := (hv.2.2 rfl).2; omega)) (fu_gt (by have := (hv.2.2 rfl).2; omega)) h.z37
    have ex : x_passesAll I T X tN (nI a) = some (bI b', I1) := by
      unfold x_passesAll
      rw [show (0 : Int32) = nI 0 from rfl]
      exact e1
    have em' : m_arePassed I' J' (nI a) = some (bI b', I1', J1') := by
      unfold m_arePassed
      rw [pz_lt]
      rw [show nI 0 = (0 : Int32) from rfl] at e2
      exact e2
    rw [ex, em', pz_bs, pz_bs, pz_u2, pz_u3, pz_isb, pz_ck, pz_ck]
    exact ⟨b', s1, I1, J, I1', J1', rfl, rfl, e3, e4⟩
end PL
