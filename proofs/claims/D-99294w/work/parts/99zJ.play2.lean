/-! scripts played, of both: the loop -/
section PM
variable {s si : SN} {I : PI} {T : PT} {X : TS} {tN : XCo} {I' : PI} {J' : PJ}
theorem pe_playL {t y : Nat} {q : TxA} (hy : T 10 t = some y) (hq : X y = some q) (ht : t < 4) : ∀ (m k i fx fm : Nat) (s : SN) (I : PI) (J : PJ) (I' : PI) (J' : PJ), 24 ≤ k + m → k ≤ 24 → m < fx → m < fm → CC s si I T X tN I' J' → t < s 2 3 → Inv i k q.2.2 →
    ∃ (z : Int32) (s1 : SN) (I1 : PI) (J1 : PJ) (I1' : PI) (J1' : PJ), lbind (x_played_l26 T X tN q fx (nI i) I J i) some (un3 fun I9 J10 n11 => ck (decide (n11 ≤ 24)) <| some ((-1 : Int32), I9, J10)) = some (z, I1, J1) ∧ lbind (m_played_l21 (nI t) fm (nI k) I' J') some (un2 fun I5 J6 => some ((-1 : Int32), I5, J6)) = some (z, I1', J1') ∧ CC s1 si I1 T X tN I1' J1' := by
  intro m
  induction m with
  | zero =>
    intro k i fx fm s I J I' J' hk hk2 hfx hfm h hts hI
    obtain ⟨fx, rfl⟩ : ∃ q, fx = q + 1 := ⟨fx - 1, by omega⟩
    obtain ⟨fm, rfl⟩ : ∃ q, fm = q + 1 := ⟨fm - 1, by omega⟩
    obtain ⟨y', q', g1, g2, KL, C, ⟨b1, b1'⟩, b2, b3, b4, b5, b6, b7, b8⟩ := h.1.2.2.2.2.2.2.2.1 t hts
    rw [hy] at g1
    cases g1
    rw [hq] at g2
    cases g2
    have hl := dg_len 0 KL
    rw [← b5] at hl
    have hi : i = q.2.2.length := by
      have hA := dg_cl 0 KL (by omega)
      rw [← b5] at hA
      have := Inv.len (A := q.2.2) (B := []) (i := i) (k := k) (by rw [List.append_nil]; exact hI) (fun d hd => by have := hA d hd; omega) (fun d hd => absurd hd List.not_mem_nil)
      exact this.symm
    refine ⟨-1, s, I, J, I', J', ?_, ?_, h⟩
    · show lbind (x_played_b26 T X tN q _ (nI i) I J i) _ _ = _
      unfold x_played_b26
      rw [decide_eq_true (show i ≤ 24 by omega), pz_ck, if_pos (show Int32.ofNat q.2.2.length ≤ nI i from (nI_leI (a := q.2.2.length) (by omega) (by omega)).mpr (by omega)), pz_lbr, pz_u3, decide_eq_true (show i ≤ 24 by omega), pz_ck]
    · show lbind (m_played_b21 (nI t) _ (nI k) I' J') _ _ = _
      unfold m_played_b21
      rw [nI_705, pz_inb (by omega) (by omega), pz_ck, pz_ix (by omega), b1, if_pos ((nI_leI (by omega) (by omega)).mpr (by omega))]
      rfl
  | succ m ih =>
    intro k i fx fm s I J I' J' hk hk2 hfx hfm h hts hI
    obtain ⟨fx', rfl⟩ : ∃ q, fx = q + 1 := ⟨fx - 1, by omega⟩
    obtain ⟨fm', rfl⟩ : ∃ q, fm = q + 1 := ⟨fm - 1, by omega⟩
    obtain ⟨y', q', g1, g2, KL, C, ⟨b1, b1'⟩, b2, b3, b4, b5, b6, b7, b8⟩ := h.1.2.2.2.2.2.2.2.1 t hts
    rw [hy] at g1
    cases g1
    rw [hq] at g2
    cases g2
    have hl := dg_len 0 KL
    rw [← b5] at hl
    have sm : m_played_l21 (nI t) (fm' + 1) (nI k) I' J' = if KL.length ≤ k then some (.inr (I', J')) else ((m_isPlayed I' J' (nI (705 * t + 1 + 4 * k))).bind <| un3 fun v7 I8 J9 => if v7 = (0 : Int32) then some (.inl (nI k, I8, J9)) else m_played_l21 (nI t) fm' (nI (k + 1)) I8 J9) := by
      show m_played_b21 (nI t) _ (nI k) I' J' = _
      unfold m_played_b21
      rw [nI_705, pz_inb (by omega) (by omega), pz_ck, pz_ix (by omega), b1, show (1 : Int32) = nI 1 from rfl, show (4 : Int32) = nI 4 from rfl, pz_mul, pz_add, pz_add, pz_add]
      by_cases c : KL.length ≤ k
      · rw [if_pos c, if_pos ((nI_leI (by omega) (by omega)).mpr c)]
      · rw [if_neg c, if_neg (fun q => c ((nI_leI (by omega) (by omega)).mp q))]
        rfl
    by_cases c : KL.length ≤ k
    · have hi : i = q.2.2.length := by
        have hA := dg_cl 0 KL (by omega)
        rw [← b5] at hA
        have := Inv.len (A := q.2.2) (B := []) (i := i) (k := k) (by rw [List.append_nil]; exact hI) (fun d hd => by have := hA d hd; omega) (fun d hd => absurd hd List.not_mem_nil)
        exact this.symm
      rw [sm, if_pos c]
      refine ⟨-1, s, I, J, I', J', ?_, rfl, h⟩
      show lbind (x_played_b26 T X tN q _ (nI i) I J i) _ _ = _
      unfold x_played_b26
      rw [decide_eq_true (show i ≤ 24 by omega), pz_ck, if_pos (show Int32.ofNat q.2.2.length ≤ nI i from (nI_leI (a := q.2.2.length) (by omega) (by omega)).mpr (by omega)), pz_lbr, pz_u3, decide_eq_true (show i ≤ 24 by omega), pz_ck]
    have hkl : k < KL.length := by omega
    have hRw := b1' k KL[k] (List.getElem?_eq_getElem hkl)
    have hKV := b6 _ (List.getElem_mem hkl)
    have hdrop : KL.drop k = KL[k] :: KL.drop (k + 1) := List.drop_eq_getElem_cons hkl
    have hsp := dg_split 0 KL k
    rw [← b5, Nat.zero_add] at hsp
    have htk : (KL.take k).length = k := by rw [List.length_take]; omega
    have hAc := dg_cl 0 (KL.take k) (by omega)
    rw [htk] at hAc
    have hBc := dg_cl k (KL.drop k) (by rw [List.length_drop]; omega)
    have hlenA : (dgL 0 (KL.take k)).length = i := by
      rw [hsp] at hI
      exact hI.len (fun d hd => by have := hAc d hd; omega) (fun d hd => (hBc d hd).1)
    rw [sm, if_neg c]
    by_cases cl2 : KL[k].1 < 2
    · -- a law: the reference goes on
      have hm : m_isPlayed I' J' (nI (705 * t + 1 + 4 * k)) = some (1, I', J') := by
        unfold m_isPlayed
        rw [show (1 : Int32) = nI 1 from rfl, show (2 : Int32) = nI 2 from rfl, pz_add, pz_add, pz_inb (show 705 * t + 1 + 4 * k + 1 < 2820 by omega) (by omega), pz_ck, pz_lt, pz_inb (show 705 * t + 1 + 4 * k + 2 < 2820 by omega) (by omega), pz_ck, pz_lt, pz_inb (show 705 * t + 1 + 4 * k < 2820 by omega) (by omega), pz_ck, pz_ix (show 705 * t + 1 + 4 * k < 2 ^ 31 by omega), hRw.1, pz_lt]
        have : KL[k].1 = 0 ∨ KL[k].1 = 1 := by omega
        rcases this with e | e <;> rw [e] <;> rfl
      rw [hm, pz_bs, pz_u3, if_neg (by decide)]
      refine ih (k + 1) i (fx' + 1) fm' s I J I' J' (by omega) (by omega) (by omega) (by omega) h hts ?_
      have hd2 : dgL k (KL.drop k) = dgL (k + 1) (KL.drop (k + 1)) := by rw [hdrop, dgL, if_pos cl2]
      rw [hd2] at hsp
      rw [hsp, ← hlenA]
      have hBc2 := dg_cl (k + 1) (KL.drop (k + 1)) (by rw [List.length_drop]; omega)
      exact Inv.mk' (fun d hd => by have := hAc d hd; omega) (fun d hd => (hBc2 d hd).1)
    · have hd2 : dgL k (KL.drop k) = d5 k KL[k] :: dgL (k + 1) (KL.drop (k + 1)) := by rw [hdrop, dgL, if_neg cl2]
      rw [hd2] at hsp
      have hil : i < q.2.2.length := by
        rw [hsp, List.length_append, List.length_cons]
        omega
      have hat : q.2.2.getD i (0, 0, 0, 0, 0) = d5 k KL[k] := by
        rw [List.getD, hsp, List.getElem?_append_right (by omega), hlenA, Nat.sub_self]
        rfl
      obtain ⟨b, s1, I1, J1, I1', J1', e1, e2, e3, e4⟩ := pe_does h J (p := KL[k]) (x := 705 * t + 1 + 4 * k) (cl := k) (by omega) hKV hRw (by omega)
      have sx : x_played_l26 T X tN q (fx' + 1) (nI i) I J i = if b = true then x_played_l26 T X tN q fx' (nI (i + 1)) I1 J1 (i + 1) else some (.inl (nI k, I1, J1)) := by
        show x_played_b26 T X tN q _ (nI i) I J i = _
        unfold x_played_b26
        rw [decide_eq_true (show i ≤ 24 by omega), pz_ck, if_neg (show ¬ Int32.ofNat q.2.2.length ≤ nI i from fun z => absurd ((nI_leI (a := q.2.2.length) (by omega) (by omega)).mp z) (by omega)), pz_ck, pz_inb hil (by omega), pz_ck, pz_ix (by omega), hat, pz_lt, e1, pz_bs, pz_u3, decide_eq_true (show i + 1 ≤ 24 by omega), pz_ck, pz_lt]
        cases b
        · rw [if_pos (show bI false = 0 from rfl), if_neg (by decide), decide_eq_true (show i + 1 ≤ 24 by omega), pz_ck, pz_ck, pz_lt, pz_ck, pz_ck]
          rfl
        · rw [if_neg (by decide), if_pos rfl, show (1 : Int32) = nI 1 from rfl, pz_add, pz_lt]
      rw [sx, e2, pz_bs, pz_u3]
      cases b with
      | false => exact ⟨nI k, s1, I1, J1, I1', J1', rfl, rfl, e3⟩
      | true =>
        rw [if_pos rfl, if_neg (by decide)]
        refine ih (k + 1) (i + 1) fx' fm' s1 I1 J1 I1' J1' (by omega) (by omega) (by omega) (by omega) e3 (by rw [e4]; exact hts) ?_
        have hBc2 := dg_cl (k + 1) (KL.drop (k + 1)) (by rw [List.length_drop]; omega)
        have hL : q.2.2 = (dgL 0 (KL.take k) ++ [d5 k KL[k]]) ++ dgL (k + 1) (KL.drop (k + 1)) := by
          rw [hsp, List.append_assoc]
          rfl
        have hln : (dgL 0 (KL.take k) ++ [d5 k KL[k]]).length = i + 1 := by rw [List.length_append, hlenA]; rfl
        rw [hL, ← hln]
        refine Inv.mk' (fun d hd => ?_) (fun d hd => (hBc2 d hd).1)
        rcases List.mem_append.mp hd with hd | hd
        · have := hAc d hd
          omega
        · rw [List.mem_singleton] at hd
          rw [hd]
          have : ix (d5 k KL[k]).2.2.2.2 = k := pz_ix (by omega)
          omega
theorem pu_played (h : CC s si I T X tN I' J') (J : PJ) (a : Int32) : ∃ (z : Int32) (s1 : SN) (I1 : PI) (J1 : PJ) (I1' : PI) (J1' : PJ), x_played I J T X tN a = some (z, I1, J1) ∧ m_played I' J' a = some (z, I1', J1') ∧ CC s1 si I1 T X tN I1' J1' := by
  have hV := h.1.1
  have v3 := hV.1.2.2.2.1
  have hx3 : I 2 3 = nI (s 2 3) := h.1.2.2.1.1 2 3 (by omega) (by omega)
  have hm3 : I' 1 3 = nI (s 2 3) := h.1.2.2.2.2.1.1.2.2.2.1
  obtain ⟨b, e, q⟩ := pz_idx a (s 2 3) (by omega)
  have ex : x_isText I a = some (bI b) := by
    unfold x_isText
    rw [show ix (3 : Int32) = 3 from rfl, hx3, x_in_s]
    rw [show decide ((0 : Int32) ≤ a ∧ a ≤ nI (s 2 3) - 1) = b from e]
    cases b <;> rfl
  have em' : m_isIn a 0 (nI (s 2 3) - 1) = some (bI b) := by
    rw [m_isIn_s]
    exact congrArg (fun z => some (bI z)) e
  unfold x_played m_played
  rw [ex, show inb (3 : Int32) 1691 = true from rfl, pz_ck, show ix (3 : Int32) = 3 from rfl, hm3, em', pz_bs, pz_bs]
  cases b with
  | false => exact ⟨-2, s, I, J, I', J', rfl, rfl, h⟩
  | true =>
    obtain ⟨t, ht, rfl⟩ := q rfl
    obtain ⟨y, qq, g1, g2, g3⟩ := h.1.2.2.2.2.2.2.2.1 t ht
    rw [if_neg (by decide), if_neg (by decide), pz_inb (by omega) (by omega), pz_ck, pz_ix (by omega), g1, pz_bs, g2, pz_bs]
    have hI0 : Inv 0 0 qq.2.2 := ⟨Nat.zero_le _, fun j d _ => by omega⟩
    exact pe_playL g1 g2 (by omega) 24 0 0 fu fu s I J I' J' (by omega) (by omega) (fu_gt (by omega)) (fu_gt (by omega)) h ht hI0
end PM
