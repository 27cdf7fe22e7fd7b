/-! both readers: a doing by its sort; a law -/
section BY
variable {b : Nat → Nat} {n kd k o : Nat}
theorem do_all (hb : ∀ j, j < n → b j < 256) {I I' : PI} {J' : PJ} {cl s x : Nat} (hI : XS b n (200 + s) k 0 I) (hM : MT b n k I' J') (hk : k ≤ n) (hx : x + 3 < 2820) (hs : 2 ≤ s ∧ s ≤ 8) : DoO b n (200 + s) k cl s x I' J' (t_doing (nI cl) I) (m_body I' J' (nI s) (nI x)) := by
  have h7 : I 0 7 = nI (200 + s) := hI.2.2
  obtain ⟨s1, s2⟩ := hs
  unfold t_doing m_body
  rw [h7]
  have hc : s = 2 ∨ s = 3 ∨ s = 4 ∨ s = 5 ∨ s = 6 ∨ s = 7 ∨ s = 8 := by omega
  rcases hc with rfl | rfl | rfl | rfl | rfl | rfl | rfl
  · rw [if_pos (show nI (200 + 2) = 202 from rfl), if_pos (show nI 2 = 2 from rfl), show m_w6 108 101 110 103 116 104 = some (lN (wkN 9)) from by decide +kernel, pz_bs, un3e]
    exact do_2 hb hI hM hk hx (hi := 4) (w := 9) (lo2 := 1) (hi2 := 9) (by omega) (by omega) (by omega) (by omega) (by omega) rfl
  · rw [if_neg (show ¬ nI (200 + 3) = 202 by decide), if_pos (show nI (200 + 3) = 203 from rfl), if_neg (show ¬ nI 3 = 2 by decide), if_pos (show nI 3 = 3 from rfl), show m_w5 107 110 111 119 115 = some (lN (wkN 10)) from by decide +kernel, pz_bs, un3e]
    exact do_2 hb hI hM hk hx (hi := 99) (w := 10) (lo2 := 0) (hi2 := 255) (by omega) (by omega) (by omega) (by omega) (by omega) rfl
  · rw [if_neg (show ¬ nI (200 + 4) = 202 by decide), if_neg (show ¬ nI (200 + 4) = 203 by decide), if_pos (show nI (200 + 4) = 204 from rfl), if_neg (show ¬ nI 4 = 2 by decide), if_neg (show ¬ nI 4 = 3 by decide), if_pos (show nI 4 = 4 from rfl), un3e]
    exact do_1 hb hI hM hk hx (lo := 0) (hi := 119) (by omega) (by omega) (Or.inl rfl) rfl
  · rw [if_neg (show ¬ nI (200 + 5) = 202 by decide), if_neg (show ¬ nI (200 + 5) = 203 by decide), if_neg (show ¬ nI (200 + 5) = 204 by decide), if_pos (show nI (200 + 5) = 205 from rfl), if_neg (show ¬ nI 5 = 2 by decide), if_neg (show ¬ nI 5 = 3 by decide), if_neg (show ¬ nI 5 = 4 by decide), if_pos (show nI 5 = 5 from rfl), show m_w2 98 121 = some (lN (wkN 11)) from by decide +kernel, pz_bs, show m_w2 116 111 = some (lN (wkN 12)) from by decide +kernel]
    exact do_3 hb hI hM hk hx rfl
  · rw [if_neg (show ¬ nI (200 + 6) = 202 by decide), if_neg (show ¬ nI (200 + 6) = 203 by decide), if_neg (show ¬ nI (200 + 6) = 204 by decide), if_neg (show ¬ nI (200 + 6) = 205 by decide), if_pos (show nI (200 + 6) = 206 from rfl), if_neg (show ¬ nI 6 = 2 by decide), if_neg (show ¬ nI 6 = 3 by decide), if_neg (show ¬ nI 6 = 4 by decide), if_neg (show ¬ nI 6 = 5 by decide), if_pos (show nI 6 = 6 from rfl), show m_w2 98 121 = some (lN (wkN 11)) from by decide +kernel, pz_bs, un3e]
    exact do_2 hb hI hM hk hx (hi := 7) (w := 11) (lo2 := 0) (hi2 := 5) (by omega) (by omega) (by omega) (by omega) (by omega) rfl
  · rw [if_neg (show ¬ nI (200 + 7) = 202 by decide), if_neg (show ¬ nI (200 + 7) = 203 by decide), if_neg (show ¬ nI (200 + 7) = 204 by decide), if_neg (show ¬ nI (200 + 7) = 205 by decide), if_neg (show ¬ nI (200 + 7) = 206 by decide), if_pos (show nI (200 + 7) = 207 from rfl), if_neg (show ¬ nI 7 = 2 by decide), if_neg (show ¬ nI 7 = 3 by decide), if_neg (show ¬ nI 7 = 4 by decide), if_neg (show ¬ nI 7 = 5 by decide), if_neg (show ¬ nI 7 = 6 by decide), if_pos (show nI 7 = 7 from rfl), show m_w2 98 121 = some (lN (wkN 11)) from by decide +kernel, pz_bs, un3e]
    exact do_2 hb hI hM hk hx (hi := 3) (w := 11) (lo2 := 0) (hi2 := 5) (by omega) (by omega) (by omega) (by omega) (by omega) rfl
  · rw [if_neg (show ¬ nI (200 + 8) = 202 by decide), if_neg (show ¬ nI (200 + 8) = 203 by decide), if_neg (show ¬ nI (200 + 8) = 204 by decide), if_neg (show ¬ nI (200 + 8) = 205 by decide), if_neg (show ¬ nI (200 + 8) = 206 by decide), if_neg (show ¬ nI (200 + 8) = 207 by decide), if_neg (show ¬ nI 8 = 2 by decide), if_neg (show ¬ nI 8 = 3 by decide), if_neg (show ¬ nI 8 = 4 by decide), if_neg (show ¬ nI 8 = 5 by decide), if_neg (show ¬ nI 8 = 6 by decide), if_neg (show ¬ nI 8 = 7 by decide), if_pos (show nI 8 = 8 from rfl), un3e]
    exact do_1 hb hI hM hk hx (lo := 1) (hi := 60) (by omega) (by omega) (Or.inr ⟨rfl, rfl, rfl⟩) rfl
/-- what of the reference a text's reading may change -/
def FR (t : Nat) (I I1 : PI) : Prop := (∀ k, k ≠ 0 → k ≠ 3 → k ≠ 10 → I1 k = I k) ∧ (∀ j, [12, 13, 14, 15, 17, 18, 19, 21, 22, 23, 24].contains j = false → I1 0 j = I 0 j) ∧ ∀ j, j < 705 * t ∨ 705 * t + 705 ≤ j → I1 3 j = I 3 j
theorem FR.rf {t : Nat} {I : PI} : FR t I I := ⟨fun _ _ _ _ => rfl, fun _ _ => rfl, fun _ _ => rfl⟩
theorem FR.tr {t : Nat} {I I1 I2 : PI} (h : FR t I I1) (g : FR t I1 I2) : FR t I I2 := ⟨fun k h1 h2 h3 => (g.1 k h1 h2 h3).trans (h.1 k h1 h2 h3), fun j hj => (g.2.1 j hj).trans (h.2.1 j hj), fun j hj => (g.2.2 j hj).trans (h.2.2 j hj)⟩
/-- the sum of a law's clause, read by both -/
theorem sum_top {t kc : Nat} {I I' : PI} {J' : PJ} {C : List (Nat × Nat)} (hb : ∀ j, j < n → b j < 256) (ht : t < 4) (hn : n ≤ 300) (hkc : kc < 2) (hI : XS b n (200 + kc) k 0 I) (hM : MT b n k I' J') (h17 : I' 0 17 = nI (705 * t)) (h18 : I' 0 18 = nI C.length) (h19 : I' 0 19 = nI kc) (hC : ItM (I' 3) (705 * t + 97) C) (hlk : C.length ≤ k) (hk : k ≤ n) :
    (∃ (k1 e : Nat) (I1 : PI) (c s : Nat) (I1' : PI) (J1' : PJ) (P1 : List Nat) (C1 : List (Nat × Nat)) (w1 : Nat), k ≤ k1 ∧ k1 ≤ n ∧ 1 ≤ e ∧ e ≤ 5 ∧ t_sum 8 I = some (I1, (c, s), .inr (nI e, nI (tks b n k1).pl)) ∧ c ≤ 32 * (k1 - k) + 11 ∧ s ≤ 128 * (k1 - k) + 36 ∧ m_summed I' J' = some (nI e, I1', J1') ∧ MC b n t kc I' J' k1 P1 C1 w1 I1' J1') ∨
    ∃ (k1 : Nat) (I1 : PI) (c s : Nat) (S : Sem) (its : List (Nat × Nat)) (I1' : PI) (J1' : PJ), k ≤ k1 ∧ k1 ≤ n ∧ t_sum 8 I = some (I1, (c, s), .inl S) ∧ XS b n (200 + kc) k1 0 I1 ∧ c ≤ 32 * (k1 - k) + 6 ∧ s ≤ 128 * (k1 - k) + 18 ∧ m_summed I' J' = some (0, I1', J1') ∧ MC b n t kc I' J' k1 [] (C ++ its) 1 I1' J1' ∧ MnS its S ∧ (C ++ its).length ≤ k1 := by
  have z : ∀ j, j ≠ 21 → j ≠ 22 → j ≠ 23 → u2 (u2 (u2 I' 0 21 0) 0 22 0) 0 23 0 0 j = I' 0 j := fun j a1 a2 a3 => (pz_no _ _ (Or.inr a3)).trans ((pz_no _ _ (Or.inr a2)).trans (pz_no _ _ (Or.inr a1)))
  have zk : ∀ k, k ≠ 0 → u2 (u2 (u2 I' 0 21 0) 0 22 0) 0 23 0 k = I' k := fun k a => (u2_row _ _ _ _ a).trans ((u2_row _ _ _ _ a).trans (u2_row _ _ _ _ a))
  have hM0 : MC b n t kc I' J' k [] C 0 (u2 (u2 (u2 I' 0 21 0) 0 22 0) 0 23 0) J' := by
    refine ⟨hM.off (zk 9 (by decide)) (fun j _ _ => z j (by omega) (by omega) (by omega)), ⟨(z 17 (by decide) (by decide) (by decide)).trans h17, (z 18 (by decide) (by decide) (by decide)).trans h18, (z 19 (by decide) (by decide) (by decide)).trans h19, (pz_no _ _ (Or.inr (by decide))).trans ((pz_no _ _ (Or.inr (by decide))).trans (pz_at _ _ rfl rfl)), (pz_no _ _ (Or.inr (by decide))).trans (pz_at _ _ rfl rfl), pz_at _ _ rfl rfl⟩, trivial, by rw [zk 3 (by decide)]; exact hC, ⟨fun k a1 _ _ => zk k a1, fun j hj => ?_, fun j _ => by rw [zk 3 (by decide)]⟩, JOff.rf⟩
    simp at hj
    exact z j (by omega) (by omega) (by omega)
  have hms : m_summed I' J' = mS fu (u2 (u2 (u2 I' 0 21 0) 0 22 0) 0 23 0) J' := rfl
  have hfu : 1099511627776 = fu := rfl
  rcases sim_sum (b := b) (n := n) (t := t) (kc := kc) (I0 := I') (J0 := J') hb ht hn hkc k I _ J' [] C hI hM0 rfl (Nat.zero_le _) (by simpa using hlk) hk ⟨trivial, fun _ => rfl⟩ with hF | hG
  · obtain ⟨k1, e, I1, c, s, I1', J1', P1, C1, w1, h1, h2, h3, h4, h5, h6, h7, h8, h9⟩ := hF
    refine Or.inl ⟨k1, e, I1, c, s, I1', J1', P1, C1, w1, h1, h2, h3, h4, h5, h6, h7, ?_, h9⟩
    rw [hms, ← h8 (fu - (k1 - k) - 1), show fu - (k1 - k) - 1 + (k1 - k) + 1 = fu by omega]
  · obtain ⟨k1, I1, c, s, S, its, P1, C1, I1', J1', h1, h2, h3, h4, h5, h6, h7, h8, ⟨Q, e1, e2, e3⟩, h10, h11, -, h13, h14⟩ := hG
    rw [List.append_nil] at e1
    subst e1
    have e2' : ∀ x ∈ P1, 1 ≤ rk x := fun x hx => by have := e2 x hx; omega
    have on : onow P1 = 99 := by
      have := onow_app P1 (P := []) e2'
      rw [List.append_nil] at this
      exact this
    have bt : btw (tks b n k1).sort P1 = 99 := btw_in40 h11 (by rw [on]; decide)
    have pr : prt (tks b n k1).sort P1 = 99 := by
      unfold prt
      rw [on, if_neg (by decide), if_neg (by decide), if_neg (by decide), if_neg (by decide)]
    obtain ⟨I2', r1, r2⟩ := mS_end ht h8 (by omega) (by omega) (mc_stop hb h8 (by omega) bt pr) on (fu - (k1 - k) - 1)
    have est : stl 1 P1 C1 = ([], C ++ its) := by
      have := stl_app P1 (P := []) (C := C1) e2'
      rw [List.append_nil] at this
      rw [this, e3]
      rfl
    rw [est] at r2
    have lenA : (C ++ its).length = C1.length + P1.length := by rw [← e3, List.length_append, em_len]
    refine Or.inr ⟨k1, I1, c, s, S, its, I2', J1', h1, h2, h3, h4, h5, h6, ?_, r2, h10, by omega⟩
    rw [hms, show (0 : Int32) = nI 0 from rfl, ← r1, ← h7, show fu - (k1 - k) - 1 + 1 + (k1 - k) = fu by omega]
    rfl
end BY
