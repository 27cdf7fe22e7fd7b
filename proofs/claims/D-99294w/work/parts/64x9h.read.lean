/-! both readers: a clause, all clauses -/
section RD
variable {b : Nat → Nat} {n kd k o t : Nat}
/-- both stop at a fault -/
def ClF (b : Nat → Nat) (n t k : Nat) (I' : PI) (J' : PJ) {α : Type} (r : TR α) (m : Option (Int32 × PI × PJ)) : Prop := ∃ (k2 e : Nat) (I2 : PI) (c s : Nat) (I2' : PI) (J2' : PJ), k ≤ k2 ∧ k2 ≤ n ∧ 1 ≤ e ∧ e ≤ 6 ∧ r = some (I2, (c, s), .inr (nI e, nI (tks b n k2).pl)) ∧ c ≤ 64 * (k2 - k) + 16 ∧ s ≤ 256 * (k2 - k) + 64 ∧ m = some (nI e, I2', J2') ∧ I2' 0 13 = nI (tks b n k2).pl ∧ FR t I' I2' ∧ JOff J' J2'
theorem Rw.of {tx tx1 : Nat → Int32} {x : Nat} {p : Cl} (h : Rw tx x p) (e : ∀ j, x ≤ j → j < x + 4 → tx1 j = tx j) : Rw tx1 x p := ⟨(e _ (by omega) (by omega)).trans h.1, (e _ (by omega) (by omega)).trans h.2.1, fun a1 a2 => (e _ (by omega) (by omega)).trans (h.2.2.1 a1 a2), fun a1 => (e _ (by omega) (by omega)).trans (h.2.2.2 a1)⟩
theorem ClM.snoc {tx tx1 : Nat → Int32} {KL : List Cl} {p : Cl} (h : ClM tx t KL) (h0 : tx1 (705 * t) = nI (KL.length + 1)) (e : ∀ j, 705 * t < j → j < 705 * t + 1 + 4 * KL.length → tx1 j = tx j) (hp : Rw tx1 (705 * t + 1 + 4 * KL.length) p) : ClM tx1 t (KL ++ [p]) := by
  refine ⟨by rw [List.length_append]; exact h0, fun q r hr => ?_⟩
  obtain ⟨hi, -⟩ := List.getElem?_eq_some_iff.mp hr
  rw [List.length_append, List.length_singleton] at hi
  by_cases c : q < KL.length
  · rw [List.getElem?_append_left c] at hr
    exact (h.2 q r hr).of fun j h1 h2 => e j (by omega) (by omega)
  · have e : q = KL.length := by omega
    subst e
    rw [List.getElem?_append_right (Nat.le_refl _), Nat.sub_self] at hr
    cases hr
    exact hp
theorem growS_le {n : Nat} (h : n < 25) : growS n ≤ 37 := by
  unfold growS
  split
  · exact Nat.zero_le _
  · have := cap_ok n
    omega
theorem KV.snoc {KL : List Cl} {p : Cl} (h : KV KL) (hp : p.1 < 9 ∧ p.2.1 < 10000 ∧ (p.1 = 8 → 1 ≤ p.2.1 ∧ p.2.1 ≤ 60)) : KV (KL ++ [p]) := by
  intro q hq
  rcases List.mem_append.mp hq with hq | hq
  · exact h q hq
  · rw [List.mem_singleton] at hq
    rw [hq]; exact hp
theorem clause_sim (hb : ∀ j, j < n → b j < 256) (ht : t < 4) (hn : n ≤ 300) {I I' : PI} {J' : PJ} {KL : List Cl} {C : List (Nat × Nat)} {F G : Option Sem} {L : List D5} (hI : XS b n kd k 0 I) (hR : RS b n t k KL C F G L I' J') (hk : k ≤ n) (hs : (tks b n k).sort ≠ 301) (K : Nat) :
    ClF b n t k I' J' (t_readL (t_sum 8) (K + 1) I KL.length F G L) (m_clause I' J') ∨
    ∃ (k2 kd2 c s : Nat) (I2 : PI) (KL2 : List Cl) (C2 : List (Nat × Nat)) (F2 G2 : Option Sem) (L2 : List D5) (I2' : PI) (J2' : PJ), k < k2 ∧ k2 ≤ n ∧ KL2.length = KL.length + 1 ∧ t_readL (t_sum 8) (K + 1) I KL.length F G L = tC c s (t_readL (t_sum 8) K I2 KL2.length F2 G2 L2) ∧ XS b n kd2 k2 0 I2 ∧ c ≤ 64 * (k2 - k) ∧ s ≤ 256 * (k2 - k) ∧ m_clause I' J' = some (0, I2', J2') ∧ RS b n t k2 KL2 C2 F2 G2 L2 I2' J2' ∧ FR t I' I2' ∧ JOff J' J2' := by
  obtain ⟨hM, h17, h18, h24, hCl, hIt, hF, hG, hL, hV, h24c, hCk⟩ := hR
  have hsr := tks_srt hb k
  have e4 : I 0 4 = nI (tks b n k).sort := hI.1.2.2.2.1
  have hpl : I 0 3 = nI (tks b n k).pl := hI.1.2.2.1
  have hthr : ∀ (e : Nat) (I9 : PI), I9 0 3 = I 0 3 → 1 ≤ e → e ≤ 6 → m_clause I' J' = some (nI e, I', J') → ClF b n t k I' J' (tThrow I9 (nI e) : TR TxA) (m_clause I' J') := by
    intro e I9 e9 e1 e2 hm
    refine ⟨k, e, I9, 1, 8, I', J', Nat.le_refl _, hk, e1, e2, ?_, by omega, by omega, hm, hM.2.2.1, FR.rf, JOff.rf⟩
    unfold tThrow
    rw [e9, hpl]
  have hms := mc_sort hb hM
  rw [t_readL, if_neg (show ¬ I 0 4 = 301 from by rw [e4]; exact fun q => hs ((nI_eq (b := 301) (by omega) (by omega)).mp q))]
  rcases srN_in (tks b n k).sort with ⟨s1, s2, s3⟩ | ⟨s1, s2⟩
  case inr =>
    have hm : m_clause I' J' = some (nI 1, I', J') := by
      unfold m_clause
      rw [hms, s2, pz_bs, show oN 99 = (-1 : Int32) from rfl, if_neg (by decide)]
      rfl
    by_cases c : (tks b n k).sort < 200
    · rw [if_pos (show I 0 4 < 200 from by rw [e4]; exact (nI_ltI (b := 200) (by omega) (by omega)).mpr c)]
      exact Or.inl (hthr 1 I rfl (by omega) (by omega) hm)
    · rw [if_neg (show ¬ I 0 4 < 200 from by rw [e4]; exact fun q => c ((nI_ltI (b := 200) (by omega) (by omega)).mp q)), if_pos (show 208 < I 0 4 from by rw [e4]; exact (nI_ltI (a := 208) (by omega) (by omega)).mpr (by omega))]
      exact Or.inl (hthr 1 I rfl (by omega) (by omega) hm)
  generalize hv : srN (tks b n k).sort = v at hms s3
  have hv8 : v ≤ 8 := by omega
  have hsv : (tks b n k).sort = 200 + v := by omega
  have oNv : oN v = nI v := by
    unfold oN
    rw [if_neg (by omega)]
  rw [if_neg (show ¬ I 0 4 < 200 from by rw [e4]; exact fun q => absurd ((nI_ltI (b := 200) (by omega) (by omega)).mp q) (by omega)), if_neg (show ¬ 208 < I 0 4 from by rw [e4]; exact fun q => absurd ((nI_ltI (a := 208) (by omega) (by omega)).mp q) (by omega))]
  have hk3 : t_kind I 0 3 = I 0 3 := pz_no _ _ (Or.inr (by decide))
  have hFG : (if I 0 4 = 200 then F else G) = if v = 0 then F else G := by
    rw [e4, hsv]
    by_cases c : v = 0
    · rw [if_pos c, if_pos (show nI (200 + v) = 200 from by rw [c]; rfl)]
    · rw [if_neg c, if_neg (show ¬ nI (200 + v) = 200 from fun q => c (by have := (nI_eq (b := 200) (by omega) (by omega)).mp q; omega))]
  have hle : I 0 4 ≤ 201 ↔ v < 2 := by
    rw [e4, hsv]
    exact (nI_leI (b := 201) (by omega) (by omega)).trans (by omega)
  have hhas : v < 2 → m_has (I' 0 24) (nI v) = some (bI (if v = 0 then F else G).isSome) := by
    intro q
    rw [h24]
    have : v = 0 ∨ v = 1 := by omega
    rcases this with rfl | rfl
    · exact (m_hasF F G).1
    · exact (m_hasF F G).2
  have hmc : m_clause I' J' = if v < 2 ∧ (if v = 0 then F else G).isSome = true then some (nI 4, I', J') else m_clause_j29 I' J' (nI v) := by
    unfold m_clause
    rw [hms, pz_bs, oNv, if_pos (nI_pos' (by omega)), show (1 : Int32) = nI 1 from rfl]
    by_cases c : v < 2
    · rw [if_neg (fun q => absurd ((nI_ltI (by omega) (by omega)).mp q) (by omega)), hhas c, pz_bs]
      cases hd : (if v = 0 then F else G).isSome
      · rw [if_pos (by decide), if_neg (fun q => absurd q.2 (by decide))]
      · rw [if_neg (by decide), if_pos ⟨c, rfl⟩]
        rfl
    · rw [if_pos ((nI_ltI (by omega) (by omega)).mpr (by omega)), if_neg (fun q => c q.1)]
  rw [hFG]
  by_cases c4 : v < 2 ∧ (if v = 0 then F else G).isSome = true
  · rw [if_pos c4] at hmc
    rw [if_pos ⟨hle.mpr c4.1, c4.2⟩]
    exact Or.inl (hthr 4 (t_kind I) hk3 (by omega) (by omega) hmc)
  rw [if_neg c4] at hmc
  rw [if_neg (fun q => c4 ⟨hle.mp q.1, q.2⟩)]
  have hj29 : m_clause_j29 I' J' (nI v) = if KL.length = 24 then some (nI 6, I', J') else m_clause_j65 J' (nI v) (nI KL.length) (if v < 2 then u2 I' 0 24 ((I' 0 24) ||| ((1 : Int32) <<< (nI v &&& 31))) else I') := by
    unfold m_clause_j29
    rw [h17, pz_inb (by omega) (by omega), pz_ck, pz_ix (by omega), pz_lt, hCl.1]
    by_cases c : KL.length = 24
    · rw [if_pos c, if_pos (show nI KL.length = 24 from by rw [c]; rfl)]
      rfl
    · rw [if_neg c, if_neg (show ¬ nI KL.length = 24 from fun q => c ((nI_eq (b := 24) (by omega) (by omega)).mp q))]
      by_cases d : v < 2
      · rw [if_neg (show ¬ (1 : Int32) < nI v from fun q => absurd ((nI_ltI (a := 1) (by omega) (by omega)).mp q) (by omega)), if_pos d, pz_lt]
      · rw [if_pos (show (1 : Int32) < nI v from (nI_ltI (a := 1) (by omega) (by omega)).mpr (by omega)), if_neg d]
  rw [hj29] at hmc
  by_cases c24 : KL.length = 24
  · rw [if_pos c24] at hmc
    rw [if_pos c24]
    exact Or.inl (hthr 6 (t_kind I) hk3 (by omega) (by omega) hmc)
  rw [if_neg c24] at hmc
  rw [if_neg c24]
  have hk1 : k + 1 ≤ n := tks_n hb hs
  have hIk : XS b n (200 + v) k 0 (t_kind I) := by
    unfold t_kind
    rw [e4, hsv]
    exact hI.kind7
  obtain ⟨I1, q1, q2⟩ := xs_next hb hIk
  rw [q1, pz_bs, q2.2.2]
  -- the reference: the sort kept, the next token, the clause's first number
  have hj65 : ∃ I8 J6, m_clause I' J' = ((m_body I8 J6 (nI v) (nI (705 * t + 1 + 4 * KL.length))).bind <| un3 fun v9 I10 J11 => if v9 = (0 : Int32) then (lt_ (I10 0 17) fun v12 => ck (inb v12 2820) <| ck (inb v12 2820) <| lt_ (u2 I10 3 (ix v12) ((I10 3 (ix v12)) + (1 : Int32))) fun I13 => if I13 0 14 = (59 : Int32) then ((m_nextToken I13 J11).bind <| un2 fun I14 J15 => some ((0 : Int32), I14, J15)) else (some ((1 : Int32), I13, J11))) else some (v9, I10, J11)) ∧ MT b n (k + 1) I8 J6 ∧ FR t I' I8 ∧ JOff J' J6 ∧ I8 0 17 = I' 0 17 ∧ I8 0 18 = I' 0 18 ∧ I8 0 19 = nI v ∧ I8 0 24 = (if v < 2 then (I' 0 24) ||| ((1 : Int32) <<< (nI v &&& 31)) else I' 0 24) ∧ (∀ j, j ≠ 705 * t + 1 + 4 * KL.length → I8 3 j = I' 3 j) ∧ I8 3 (705 * t + 1 + 4 * KL.length) = nI v := by
    rw [hmc]
    have key : ∀ I3 : PI, (∀ k, k ≠ 0 → I3 k = I' k) → (∀ j, j ≠ 24 → I3 0 j = I' 0 j) → ∃ I8 J6, m_clause_j65 J' (nI v) (nI KL.length) I3 = ((m_body I8 J6 (nI v) (nI (705 * t + 1 + 4 * KL.length))).bind <| un3 fun v9 I10 J11 => if v9 = (0 : Int32) then (lt_ (I10 0 17) fun v12 => ck (inb v12 2820) <| ck (inb v12 2820) <| lt_ (u2 I10 3 (ix v12) ((I10 3 (ix v12)) + (1 : Int32))) fun I13 => if I13 0 14 = (59 : Int32) then ((m_nextToken I13 J11).bind <| un2 fun I14 J15 => some ((0 : Int32), I14, J15)) else (some ((1 : Int32), I13, J11))) else some (v9, I10, J11)) ∧ MT b n (k + 1) I8 J6 ∧ FR t I' I8 ∧ JOff J' J6 ∧ I8 0 17 = I' 0 17 ∧ I8 0 18 = I' 0 18 ∧ I8 0 19 = nI v ∧ I8 0 24 = I3 0 24 ∧ (∀ j, j ≠ 705 * t + 1 + 4 * KL.length → I8 3 j = I' 3 j) ∧ I8 3 (705 * t + 1 + 4 * KL.length) = nI v := by
      intro I3 a1 a2
      unfold m_clause_j65
      have hM4 : MT b n k (u2 I3 0 19 (nI v)) J' := hM.off ((u2_row _ _ _ _ (by decide)).trans (a1 9 (by decide))) (fun j h1 h2 => (pz_no _ _ (Or.inr (by omega))).trans (a2 j (by omega)))
      obtain ⟨I5, J6, r1, r2, r3, r4⟩ := mt_next hb hM4
      have e17 : I5 0 17 = I' 0 17 := (r3.2 17 (by decide)).trans ((pz_no _ _ (Or.inr (by decide))).trans (a2 17 (by decide)))
      rw [pz_lt, r1, pz_bs, pz_u2, e17, h17, show (1 : Int32) = nI 1 from rfl, show (4 : Int32) = nI 4 from rfl, pz_add, pz_mul, pz_add, pz_lt, pz_inb (by omega) (by omega), pz_ck, pz_ix (by omega), pz_lt]
      have e3 : ∀ j, j ≠ 705 * t + 1 + 4 * KL.length → u2 I5 3 (705 * t + 1 + 4 * KL.length) (nI v) 3 j = I' 3 j := fun j hj => (pz_no _ _ (Or.inr hj)).trans ((congrFun (r3.1 3 (by decide)) j).trans ((congrFun (u2_row _ _ _ _ (by decide)) j).trans (congrFun (a1 3 (by decide)) j)))
      refine ⟨u2 I5 3 (705 * t + 1 + 4 * KL.length) (nI v), J6, rfl, r2.off (u2_row _ _ _ _ (by decide)) (fun j _ _ => pz_no _ _ (Or.inl (by decide))), ⟨fun k b1 b2 b3 => (u2_row _ _ _ _ b2).trans ((r3.1 k b1).trans ((u2_row _ _ _ _ b1).trans (a1 k b1))), fun j hj => ?_, fun j hj => e3 j (by omega)⟩, r4, (pz_no _ _ (Or.inl (by decide))).trans (e17.trans h17), (pz_no _ _ (Or.inl (by decide))).trans ((r3.2 18 (by decide)).trans ((pz_no _ _ (Or.inr (by decide))).trans (a2 18 (by decide)))), (pz_no _ _ (Or.inl (by decide))).trans ((r3.2 19 (by decide)).trans (pz_at _ _ rfl rfl)), (pz_no _ _ (Or.inl (by decide))).trans ((r3.2 24 (by decide)).trans (pz_no _ _ (Or.inr (by decide)))), e3, pz_at _ _ rfl rfl⟩
      have hj' : j ≠ 19 ∧ j ≠ 24 ∧ [12, 13, 14, 15].contains j = false := by
        simp at hj ⊢
        omega
      exact (pz_no _ _ (Or.inl (by decide))).trans ((r3.2 j hj'.2.2).trans ((pz_no _ _ (Or.inr hj'.1)).trans (a2 j hj'.2.1)))
    by_cases d : v < 2
    · rw [if_pos d, if_pos d]
      obtain ⟨I8, J6, z⟩ := key (u2 I' 0 24 ((I' 0 24) ||| ((1 : Int32) <<< (nI v &&& 31)))) (fun k hk => u2_row _ _ _ _ hk) (fun j hj => pz_no _ _ (Or.inr hj))
      rw [show u2 I' 0 24 ((I' 0 24) ||| ((1 : Int32) <<< (nI v &&& 31))) 0 24 = (I' 0 24) ||| ((1 : Int32) <<< (nI v &&& 31)) from pz_at _ _ rfl rfl] at z
      exact ⟨I8, J6, z⟩
    · rw [if_neg d, if_neg d]
      exact key I' (fun _ _ => rfl) (fun _ _ => rfl)
  obtain ⟨I8, J6, hm8, hM8, hf8, hJ8, g17, g18, g19, g24, g3, g3x⟩ := hj65
  rw [hm8]
  rw [h17] at g17
  rw [h18] at g18
  have hIt8 : ItM (I8 3) (705 * t + 97) C := hIt.of fun j h1 h2 => g3 j (by omega)
  by_cases d : v < 2
  · -- a law
    rw [if_pos (show nI (200 + v) ≤ 201 from (nI_leI (b := 201) (by omega) (by omega)).mpr (by omega)), decide_eq_true (show (200 : Int32) ≤ nI (200 + v) from (nI_leI (a := 200) (by omega) (by omega)).mpr (by omega)), pz_ck]
    have hbody : m_body I8 J6 (nI v) (nI (705 * t + 1 + 4 * KL.length)) = m_lawClause I8 J6 (nI (705 * t + 1 + 4 * KL.length)) := by
      unfold m_body
      have : v = 0 ∨ v = 1 := by omega
      rcases this with rfl | rfl <;> exact un3e
    rw [hbody]
    unfold m_lawClause
    rw [show (1 : Int32) = nI 1 from rfl, show (2 : Int32) = nI 2 from rfl, pz_add, pz_add, pz_inb (by omega) (by omega), pz_ck, pz_ix (by omega), pz_lt, g18, pz_inb (show 705 * t + 1 + 4 * KL.length + 2 < 2820 by omega) (by omega), pz_ix (by omega)]
    have hM9 : MT b n (k + 1) (u2 I8 3 (705 * t + 1 + 4 * KL.length + 1) (nI C.length)) J6 := hM8.off (u2_row _ _ _ _ (by decide)) (fun j _ _ => pz_no _ _ (Or.inl (by decide)))
    have z9 : ∀ j, u2 I8 3 (705 * t + 1 + 4 * KL.length + 1) (nI C.length) 0 j = I8 0 j := fun j => pz_no _ _ (Or.inl (by decide))
    have f9 : FR t I8 (u2 I8 3 (705 * t + 1 + 4 * KL.length + 1) (nI C.length)) := ⟨fun k h1 h2 h3 => u2_row _ _ _ _ h2, fun j hj => z9 j, fun j hj => pz_no _ _ (Or.inr (by omega))⟩
    have frm : ∀ {k1 : Nat} {P1 : List Nat} {C1 : List (Nat × Nat)} {w1 : Nat} {Ia : PI} {Ja : PJ}, MC b n t v (u2 I8 3 (705 * t + 1 + 4 * KL.length + 1) (nI C.length)) J6 k1 P1 C1 w1 Ia Ja → FR t I' Ia ∧ JOff J' Ja := by
      intro k1 P1 C1 w1 Ia Ja q
      obtain ⟨-, -, -, -, ⟨a1, a2, a3⟩, a4⟩ := q
      refine ⟨(hf8.tr f9).tr ⟨a1, fun j hj => a2 j ?_, fun j hj => a3 j (by omega)⟩, hJ8.tr a4⟩
      simp at hj ⊢
      omega
    rcases sum_top (t := t) (kc := v) (C := C) hb ht hn d q2 hM9 ((z9 17).trans g17) ((z9 18).trans g18) ((z9 19).trans g19) (hIt8.of fun j h1 h2 => pz_no _ _ (Or.inr (by omega))) (by omega) hk1 with ⟨k2, e, I2, c2, s2', I2', J2', P1, C1, w1, a1, a2, a3, a4, a5, a6, a7, a8, a9⟩ | ⟨k2, I2, c2, s2', S, its, I2', J2', a1, a2, a3, a4, a5, a6, a7, a8, a9, a10⟩
    · rw [a5, tB_th, a8, pz_bs, pz_u3, pz_ck, pz_lt, pz_bs, pz_u3, if_neg (show ¬ nI e = 0 from nI_ne0 (by omega) (by omega))]
      obtain ⟨b1, b2⟩ := frm a9
      refine Or.inl ⟨k2, e, I2, c2, s2', _, J2', by omega, a2, a3, by omega, rfl, by omega, by omega, rfl, (pz_no _ _ (Or.inl (by decide))).trans a9.1.2.2.1, b1.tr ⟨fun k h1 h2 h3 => u2_row _ _ _ _ h2, fun j hj => pz_no _ _ (Or.inl (by decide)), fun j hj => pz_no _ _ (Or.inr (by omega))⟩, b2⟩
    · rw [a3, tB_ok, a7, pz_bs, pz_u3, pz_ck, pz_lt, pz_bs, pz_u3, if_pos rfl]
      obtain ⟨b1, b2⟩ := frm a8
      obtain ⟨m1, ⟨m17, m18, m19, m21, m22, m23⟩, mP, mC, ⟨mf1, mf2, mf3⟩, mJ⟩ := a8
      rw [m18]
      have m24 : I2' 0 24 = I8 0 24 := (mf2 24 (by decide)).trans (z9 24)
      have x3 : ∀ j, j < 705 * t + 97 → I2' 3 j = if j = 705 * t + 1 + 4 * KL.length + 1 then nI C.length else I8 3 j := fun j hj => (mf3 j (Or.inl hj)).trans (by
        by_cases q : j = 705 * t + 1 + 4 * KL.length + 1
        · rw [if_pos q, pz_at _ _ rfl q]
        · rw [if_neg q, pz_no _ _ (Or.inr q)])
      have hM10 : MT b n k2 (u2 I2' 3 (705 * t + 1 + 4 * KL.length + 2) (nI (C ++ its).length)) J2' := m1.off (u2_row _ _ _ _ (by decide)) (fun j _ _ => pz_no _ _ (Or.inl (by decide)))
      have z10 : ∀ j, u2 I2' 3 (705 * t + 1 + 4 * KL.length + 2) (nI (C ++ its).length) 0 j = I2' 0 j := fun j => pz_no _ _ (Or.inl (by decide))
      have f10 : FR t I2' (u2 I2' 3 (705 * t + 1 + 4 * KL.length + 2) (nI (C ++ its).length)) := ⟨fun k h1 h2 h3 => u2_row _ _ _ _ h2, fun j hj => z10 j, fun j hj => pz_no _ _ (Or.inr (by omega))⟩
      have x10 : ∀ j, j < 705 * t + 97 → u2 I2' 3 (705 * t + 1 + 4 * KL.length + 2) (nI (C ++ its).length) 3 j = if j = 705 * t + 1 + 4 * KL.length + 2 then nI (C ++ its).length else if j = 705 * t + 1 + 4 * KL.length + 1 then nI C.length else I8 3 j := fun j hj => by
        by_cases q : j = 705 * t + 1 + 4 * KL.length + 2
        · rw [if_pos q, pz_at _ _ rfl q]
        · rw [if_neg q, pz_no _ _ (Or.inr q), x3 j hj]
      rcases cl_end hb ht (c := KL.length) (by omega) a4 hM10 ((z10 17).trans m17) (by rw [x10 _ (by omega), if_neg (by omega), if_neg (by omega), g3 _ (by omega)]; exact hCl.1) a2 with ⟨u1, I3', J3', u2', u3, u4, u5⟩ | ⟨I3, I3', J3', u1, u2', u3, u4, u5, u6, u7, u8, u9, u10, u11, u12⟩
      · rw [u1, tB_th, tC_s]
        exact Or.inl ⟨k2, 1, I2, _, _, I3', J3', by omega, a2, by omega, by omega, rfl, by omega, by omega, u2', u3, (b1.tr f10).tr u4, b2.tr u5⟩
      · rw [u1, tB_ok, tC_0]
        have hnew : Rw (I3' 3) (705 * t + 1 + 4 * KL.length) (v, C.length, (C ++ its).length, 0) := by
          refine ⟨?_, ?_, fun _ _ => ?_, fun q => absurd q (by dsimp only; omega)⟩
          · rw [u8 _ (by omega), x10 _ (by omega), if_neg (by omega), if_neg (by omega), g3x]
          · rw [u8 _ (by omega), x10 _ (by omega), if_neg (by omega), if_pos rfl]
          · rw [u8 _ (by omega), x10 _ (by omega), if_pos rfl]
        have hClN : ClM (I3' 3) t (KL ++ [(v, C.length, (C ++ its).length, 0)]) := hCl.snoc u9 (fun j h1 h2 => by rw [u8 _ (by omega), x10 _ (by omega), if_neg (by omega), if_neg (by omega), g3 _ (by omega)]) hnew
        have hItN : ItM (I3' 3) (705 * t + 97) (C ++ its) := mC.of fun j h1 h2 => (u8 _ (by omega)).trans (pz_no _ _ (Or.inr (by omega)))
        have hlen : (KL ++ [(v, C.length, (C ++ its).length, 0)]).length = KL.length + 1 := by rw [List.length_append]; rfl
        have hdg : L = dgL 0 (KL ++ [(v, C.length, (C ++ its).length, 0)]) := by
          rw [dgL_app, if_pos (show v < 2 from d)]
          exact hL
        have hKV : KV (KL ++ [(v, C.length, (C ++ its).length, 0)]) := hV.snoc ⟨by dsimp only; omega, by dsimp only; omega, fun q => absurd q (by dsimp only; omega)⟩
        have e24 : I3' 0 24 = (I' 0 24) ||| ((1 : Int32) <<< (nI v &&& 31)) := by
          rw [u12, z10, m24, g24, if_pos d]
        obtain ⟨F2, G2, w1, w2, w3, w4, w5⟩ : ∃ F2 G2, (if nI (200 + v) = 200 then some S else F) = F2 ∧ (if nI (200 + v) = 200 then G else some S) = G2 ∧ nI (onc F G) ||| ((1 : Int32) <<< (nI v &&& 31)) = nI (onc F2 G2) ∧ LwM 0 (KL ++ [(v, C.length, (C ++ its).length, 0)]) (C ++ its) F2 ∧ LwM 1 (KL ++ [(v, C.length, (C ++ its).length, 0)]) (C ++ its) G2 := by
          have : v = 0 ∨ v = 1 := by omega
          rcases this with rfl | rfl
          · have hFn : F = none := by
              cases F with
              | none => rfl
              | some S => exact absurd ⟨by omega, rfl⟩ c4
            subst hFn
            exact ⟨some S, G, if_pos rfl, if_pos rfl, (m_onc S none G).1 rfl, hF.new a9, hG.app (by dsimp only; omega) its⟩
          · have hGn : G = none := by
              cases G with
              | none => rfl
              | some S => exact absurd ⟨by omega, rfl⟩ c4
            subst hGn
            exact ⟨F, some S, if_neg (by decide), if_neg (by decide), (m_onc S F none).2 rfl, hF.app (by dsimp only; omega) its, hG.new a9⟩
        rw [w1, w2]
        exact Or.inr ⟨k2 + 1, 200 + v, c2, s2', I3, KL ++ [(v, C.length, (C ++ its).length, 0)], C ++ its, F2, G2, L, I3', J3', by omega, u2', hlen, by rw [hlen], u3, by omega, by omega, u4, ⟨u5, u10.trans ((z10 17).trans m17), u11.trans ((z10 18).trans m18), by rw [e24, h24, w3], hClN, hItN, w4, w5, hdg, hKV, by omega, by omega⟩, (b1.tr f10).tr u6, b2.tr u7⟩
  · -- a doing
    rw [if_neg (show ¬ nI (200 + v) ≤ 201 from fun q => absurd ((nI_leI (b := 201) (by omega) (by omega)).mp q) (by omega))]
    rw [if_neg d] at g24
    have hLl : ∀ i (M : List Cl), (dgL i M).length ≤ M.length := by
      intro i M
      induction M generalizing i with
      | nil => exact Nat.le_refl _
      | cons p M ih =>
        rw [dgL]
        have := ih (i + 1)
        split <;> simp only [List.length_cons] <;> omega
    have hLL : L.length ≤ KL.length := by rw [hL]; exact hLl 0 KL
    have hgC := growC_le L.length
    have hgS := growS_le (n := L.length) (by omega)
    have hfr : ∀ {Ia Ib : PI}, FD [705 * t + 1 + 4 * KL.length + 1, 705 * t + 1 + 4 * KL.length + 2, 705 * t + 1 + 4 * KL.length + 3] Ia Ib → FR t Ia Ib := by
      intro Ia Ib q
      refine ⟨fun k h1 h2 h3 => q.1 k h1 h2, fun j hj => q.2.1 j ?_, fun j hj => q.2.2 j ?_⟩
      · simp at hj ⊢
        omega
      · simp
        omega
    rcases do_all (cl := KL.length) hb q2 hM8 hk1 (x := 705 * t + 1 + 4 * KL.length) (by omega) ⟨by omega, hv8⟩ with ⟨k2, e, I2, c2, s2', I2', J2', a1, a2, a3, a4, a5, a6, a7, a8, a9, a10, a11⟩ | ⟨k2, I2, I2', J2', p, a1, a2, a3, a3', a3'', a5, a6, a8, a9, a10, a11, a12, a13, a14⟩
    · rw [a5, tB_th, a8, pz_bs, pz_u3, if_neg (show ¬ nI e = 0 from nI_ne0 (by omega) (by omega))]
      exact Or.inl ⟨k2, e, I2, c2, s2', I2', J2', by omega, a2, a3, by omega, rfl, by omega, by omega, rfl, a9.2.2.1, hf8.tr (hfr a10), hJ8.tr a11⟩
    · rw [a5, tB_ok, a8, pz_bs, pz_u3, if_pos rfl, tC_tC]
      have z17 : I2' 0 17 = nI (705 * t) := (a10.2.1 17 (by decide)).trans g17
      have x10 : ∀ j, j ≠ 705 * t + 1 + 4 * KL.length + 1 → j ≠ 705 * t + 1 + 4 * KL.length + 2 → j ≠ 705 * t + 1 + 4 * KL.length + 3 → I2' 3 j = I8 3 j := fun j h1 h2 h3 => a10.2.2 j (by simp; omega)
      rcases cl_end hb ht (c := KL.length) (by omega) a6 a9 z17 (by rw [x10 _ (by omega) (by omega) (by omega), g3 _ (by omega)]; exact hCl.1) a2 with ⟨u1, I3', J3', u2', u3, u4, u5⟩ | ⟨I3, I3', J3', u1, u2', u3, u4, u5, u6, u7, u8, u9, u10, u11, u12⟩
      · rw [u1, tB_th, tC_s]
        exact Or.inl ⟨k2, 1, I2, _, _, I3', J3', by omega, a2, by omega, by omega, rfl, by omega, by omega, u2', u3, (hf8.tr (hfr a10)).tr u4, (hJ8.tr a11).tr u5⟩
      · rw [u1, tB_ok, tC_0]
        have hnew : Rw (I3' 3) (705 * t + 1 + 4 * KL.length) p := by
          refine ⟨?_, ?_, fun b1 b2 => ?_, fun b1 => ?_⟩
          · rw [u8 _ (by omega), x10 _ (by omega) (by omega) (by omega), g3x, a3]
          · rw [u8 _ (by omega)]
            exact a12
          · rw [u8 _ (by omega)]
            exact a13 (by rw [← a3]; exact b1) (by rw [← a3]; exact b2)
          · rw [u8 _ (by omega)]
            exact a14 (by rw [← a3]; exact b1)
        have hClN : ClM (I3' 3) t (KL ++ [p]) := hCl.snoc u9 (fun j h1 h2 => by rw [u8 _ (by omega), x10 _ (by omega) (by omega) (by omega), g3 _ (by omega)]) hnew
        have hItN : ItM (I3' 3) (705 * t + 97) C := hIt8.of fun j h1 h2 => (u8 _ (by omega)).trans (x10 _ (by omega) (by omega) (by omega))
        have hlen : (KL ++ [p]).length = KL.length + 1 := by rw [List.length_append]; rfl
        have hdg : L ++ [d5 KL.length p] = dgL 0 (KL ++ [p]) := by
          rw [dgL_app, if_neg (by omega), ← hL, Nat.zero_add]
        have hKV : KV (KL ++ [p]) := hV.snoc ⟨by omega, a3', fun q => a3'' (by omega)⟩
        exact Or.inr ⟨k2 + 1, 200 + v, _, _, I3, KL ++ [p], C, F, G, L ++ [d5 KL.length p], I3', J3', by omega, u2', hlen, by rw [hlen], u3, by omega, by omega, u4, ⟨u5, u10.trans z17, u11.trans ((a10.2.1 18 (by decide)).trans g18), u12.trans ((a10.2.1 24 (by decide)).trans (g24.trans h24)), hClN, hItN, hF.dg (by omega), hG.dg (by omega), hdg, hKV, by omega, by omega⟩, (hf8.tr (hfr a10)).tr u6, (hJ8.tr a11).tr u7⟩
end RD
