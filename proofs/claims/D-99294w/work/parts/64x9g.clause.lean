/-! both readers: a clause -/
abbrev Cl : Type := Nat × Nat × Nat × Nat
def ClM (tx : Nat → Int32) (t : Nat) (KL : List Cl) : Prop := tx (705 * t) = nI KL.length ∧ ∀ q p, KL[q]? = some p → Rw tx (705 * t + 1 + 4 * q) p
def LwM (s : Nat) (KL : List Cl) (C : List (Nat × Nat)) : Option Sem → Prop
  | none => ∀ p ∈ KL, p.1 ≠ s
  | some S => ∃ A a e B, KL = A ++ (s, a, e, 0) :: B ∧ (∀ p ∈ A, p.1 ≠ s) ∧ a ≤ e ∧ e ≤ C.length ∧ MnS ((C.drop a).take (e - a)) S
def dgL : Nat → List Cl → List D5
  | _, [] => []
  | i, p :: KL => if p.1 < 2 then dgL (i + 1) KL else d5 i p :: dgL (i + 1) KL
def KV (KL : List Cl) : Prop := ∀ p ∈ KL, p.1 < 9 ∧ p.2.1 < 10000 ∧ (p.1 = 8 → 1 ≤ p.2.1 ∧ p.2.1 ≤ 60)
theorem dgL_app : ∀ (i : Nat) (KL : List Cl) (p : Cl), dgL i (KL ++ [p]) = if p.1 < 2 then dgL i KL else dgL i KL ++ [d5 (i + KL.length) p]
  | i, [], p => by
    show (if p.1 < 2 then [] else [d5 i p]) = _
    rfl
  | i, q :: KL, p => by
    show (if q.1 < 2 then dgL (i + 1) (KL ++ [p]) else d5 i q :: dgL (i + 1) (KL ++ [p])) = if p.1 < 2 then (if q.1 < 2 then dgL (i + 1) KL else d5 i q :: dgL (i + 1) KL) else (if q.1 < 2 then dgL (i + 1) KL else d5 i q :: dgL (i + 1) KL) ++ [d5 (i + (KL.length + 1)) p]
    rw [dgL_app (i + 1) KL p, show i + (KL.length + 1) = i + 1 + KL.length by omega]
    by_cases c : q.1 < 2
    · rw [if_pos c, if_pos c]
    · rw [if_neg c, if_neg c]
      split <;> rfl
theorem LwM.app {s : Nat} {KL : List Cl} {C : List (Nat × Nat)} {F : Option Sem} (h : LwM s KL C F) {p : Cl} (hp : p.1 ≠ s) (its : List (Nat × Nat)) : LwM s (KL ++ [p]) (C ++ its) F := by
  cases F with
  | none =>
    intro q hq
    rcases List.mem_append.mp hq with hq | hq
    · exact h q hq
    · rw [List.mem_singleton] at hq
      rw [hq]; exact hp
  | some S =>
    obtain ⟨A, a, e, B, h1, h2, h3, h4, h5⟩ := h
    refine ⟨A, a, e, B ++ [p], by rw [h1, List.append_assoc]; rfl, h2, h3, by rw [List.length_append]; omega, ?_⟩
    rw [List.drop_append_of_le_length (by omega), List.take_append_of_le_length (by rw [List.length_drop]; omega)]
    exact h5
theorem LwM.new {s : Nat} {KL : List Cl} {C its : List (Nat × Nat)} {S : Sem} (h : LwM s KL C none) (hS : MnS its S) : LwM s (KL ++ [(s, C.length, (C ++ its).length, 0)]) (C ++ its) (some S) := by
  refine ⟨KL, C.length, (C ++ its).length, [], rfl, h, by rw [List.length_append]; omega, Nat.le_refl _, ?_⟩
  rw [List.drop_left, List.length_append, show C.length + its.length - C.length = its.length by omega, List.take_length]
  exact hS
theorem LwM.dg {s : Nat} {KL : List Cl} {C : List (Nat × Nat)} {F : Option Sem} (h : LwM s KL C F) {p : Cl} (hp : p.1 ≠ s) : LwM s (KL ++ [p]) C F := by
  have := h.app hp []
  rw [List.append_nil] at this
  exact this
def onc (F G : Option Sem) : Nat := (if F.isSome = true then 1 else 0) + (if G.isSome = true then 2 else 0)
theorem m_hasF (F G : Option Sem) : m_has (nI (onc F G)) (nI 0) = some (bI F.isSome) ∧ m_has (nI (onc F G)) (nI 1) = some (bI G.isSome) := by
  unfold onc
  cases F.isSome <;> cases G.isSome <;> decide +kernel
theorem m_onc (S : Sem) (F G : Option Sem) : (F = none → nI (onc F G) ||| ((1 : Int32) <<< (nI 0 &&& 31)) = nI (onc (some S) G)) ∧ (G = none → nI (onc F G) ||| ((1 : Int32) <<< (nI 1 &&& 31)) = nI (onc F (some S))) := by
  refine ⟨fun e => ?_, fun e => ?_⟩
  · rw [e]
    unfold onc
    rw [Option.isSome_none, Option.isSome_some]
    cases G.isSome <;> decide +kernel
  · rw [e]
    unfold onc
    rw [Option.isSome_none, Option.isSome_some]
    cases F.isSome <;> decide +kernel
def srN (s : Nat) : Nat := if s = 200 then 0 else if s = 201 then 1 else if s = 202 then 2 else if s = 203 then 3 else if s = 204 then 4 else if s = 205 then 5 else if s = 206 then 6 else if s = 207 then 7 else if s = 208 then 8 else 99
theorem srN_in (s : Nat) : (200 ≤ s ∧ s ≤ 208 ∧ srN s + 200 = s) ∨ ((s < 200 ∨ 208 < s) ∧ srN s = 99) := by
  unfold srN
  repeat' split
  all_goals omega
section CL
variable {b : Nat → Nat} {n kd k o t : Nat}
theorem mc_sort (hb : ∀ j, j < n → b j < 256) {I : PI} {J : PJ} (h : MT b n k I J) : m_sortOf I J = some (oN (srN (tks b n k).sort)) := by
  unfold m_sortOf
  rw [show m_w5 102 97 100 101 115 = some (lN (wkN 0)) from by decide +kernel, show m_w6 108 101 97 114 110 115 = some (lN (wkN 1)) from by decide +kernel, show m_w4 102 111 114 109 = some (lN (wkN 2)) from by decide +kernel, show m_w6 112 101 114 115 111 110 = some (lN (wkN 3)) from by decide +kernel, show m_w5 115 116 111 114 121 = some (lN (wkN 4)) from by decide +kernel, show m_w5 116 101 97 99 104 = some (lN (wkN 5)) from by decide +kernel, show m_w6 102 111 114 103 101 116 = some (lN (wkN 6)) from by decide +kernel, show m_w4 116 101 108 108 = some (lN (wkN 7)) from by decide +kernel, show m_w4 121 101 97 114 = some (lN (wkN 8)) from by decide +kernel]
  rw [pz_bs, mt_word hb h (w := 0) (by decide), pz_bs, pz_bs, mt_word hb h (w := 1) (by decide), pz_bs, pz_bs, mt_word hb h (w := 2) (by decide), pz_bs, pz_bs, mt_word hb h (w := 3) (by decide), pz_bs, pz_bs, mt_word hb h (w := 4) (by decide), pz_bs, pz_bs, mt_word hb h (w := 5) (by decide), pz_bs, pz_bs, mt_word hb h (w := 6) (by decide), pz_bs, pz_bs, mt_word hb h (w := 7) (by decide), pz_bs, pz_bs, mt_word hb h (w := 8) (by decide), pz_bs]
  generalize (tks b n k).sort = s
  have st : ∀ {w r : Nat} {x y : Option Int32} {z : Nat}, x = some (oN r) → y = some (oN z) → (if bI (decide (s = 200 + w)) = 0 then y else x) = some (oN (if s = 200 + w then r else z)) := by
    intro w r x y z h1 h2
    by_cases d : s = 200 + w
    · rw [if_pos d, decide_eq_true d, if_neg (by decide), h1]
    · rw [if_neg d, decide_eq_false d, if_pos (by decide), h2]
  unfold srN
  refine st (w := 0) (r := 0) rfl ?_
  refine st (w := 1) (r := 1) rfl ?_
  refine st (w := 2) (r := 2) rfl ?_
  refine st (w := 3) (r := 3) rfl ?_
  refine st (w := 4) (r := 4) rfl ?_
  refine st (w := 5) (r := 5) rfl ?_
  refine st (w := 6) (r := 6) rfl ?_
  refine st (w := 7) (r := 7) rfl ?_
  exact st (w := 8) (r := 8) (z := 99) rfl rfl
def RS (b : Nat → Nat) (n t k : Nat) (KL : List Cl) (C : List (Nat × Nat)) (F G : Option Sem) (L : List D5) (I : PI) (J : PJ) : Prop := MT b n k I J ∧ I 0 17 = nI (705 * t) ∧ I 0 18 = nI C.length ∧ I 0 24 = nI (onc F G) ∧ ClM (I 3) t KL ∧ ItM (I 3) (705 * t + 97) C ∧ LwM 0 KL C F ∧ LwM 1 KL C G ∧ L = dgL 0 KL ∧ KV KL ∧ KL.length ≤ 24 ∧ C.length ≤ k
/-- how a clause ends: so many there are now, a ; -/
theorem cl_end (hb : ∀ j, j < n → b j < 256) (ht : t < 4) {I I' : PI} {J' : PJ} {c : Nat} (hc : c < 24) (hI : XS b n kd k 0 I) (hM : MT b n k I' J') (h17 : I' 0 17 = nI (705 * t)) (h3 : I' 3 (705 * t) = nI c) (hk : k ≤ n) :
    (t_want 59 I = some (I, (1, 8), .inr (nI 1, nI (tks b n k).pl)) ∧ ∃ I1' J1', (lt_ (I' 0 17) fun v12 => ck (inb v12 2820) <| ck (inb v12 2820) <| lt_ (u2 I' 3 (ix v12) ((I' 3 (ix v12)) + (1 : Int32))) fun I13 => if I13 0 14 = (59 : Int32) then ((m_nextToken I13 J').bind <| un2 fun I14 J15 => some ((0 : Int32), I14, J15)) else (some ((1 : Int32), I13, J'))) = some (nI 1, I1', J1') ∧ I1' 0 13 = nI (tks b n k).pl ∧ FR t I' I1' ∧ JOff J' J1') ∨
    (∃ I1 I1' J1', t_want 59 I = some (I1, (0, 0), .inl ()) ∧ k + 1 ≤ n ∧ XS b n kd (k + 1) 0 I1 ∧ (lt_ (I' 0 17) fun v12 => ck (inb v12 2820) <| ck (inb v12 2820) <| lt_ (u2 I' 3 (ix v12) ((I' 3 (ix v12)) + (1 : Int32))) fun I13 => if I13 0 14 = (59 : Int32) then ((m_nextToken I13 J').bind <| un2 fun I14 J15 => some ((0 : Int32), I14, J15)) else (some ((1 : Int32), I13, J'))) = some (0, I1', J1') ∧ MT b n (k + 1) I1' J1' ∧ FR t I' I1' ∧ JOff J' J1' ∧ (∀ j, j ≠ 705 * t → I1' 3 j = I' 3 j) ∧ I1' 3 (705 * t) = nI (c + 1) ∧ I1' 0 17 = I' 0 17 ∧ I1' 0 18 = I' 0 18 ∧ I1' 0 24 = I' 0 24) := by
  have q59 := tok_sg hb hM (c := 59) (by decide)
  rw [h17, pz_lt, pz_inb (by omega) (by omega), pz_ck, pz_ck, pz_ix (by omega), pz_lt, h3, show (1 : Int32) = nI 1 from rfl, pz_add]
  have hM2 : MT b n k (u2 I' 3 (705 * t) (nI (c + 1))) J' := hM.off (u2_row _ _ _ _ (by decide)) (fun j _ _ => pz_no _ _ (Or.inl (by decide)))
  have e14 : u2 I' 3 (705 * t) (nI (c + 1)) 0 14 = I' 0 14 := pz_no _ _ (Or.inl (by decide))
  have f3 : FR t I' (u2 I' 3 (705 * t) (nI (c + 1))) := ⟨fun k h1 h2 h3 => u2_row _ _ _ _ h2, fun j hj => pz_no _ _ (Or.inl (by decide)), fun j hj => pz_no _ _ (Or.inr (by omega))⟩
  rw [e14]
  by_cases d : (tks b n k).sort = 59
  · obtain ⟨I1, r1, r2⟩ := xs_want hb hI d
    obtain ⟨I1', J1', s1, s2, s3, s4⟩ := mt_next hb hM2
    rw [if_pos (show I' 0 14 = 59 from q59.mpr d), s1]
    refine Or.inr ⟨I1, I1', J1', r1, tks_n hb (by omega), r2, rfl, s2, f3.tr ⟨fun k h1 h2 h3 => s3.1 k h1, fun j hj => s3.2 j ?_, fun j hj => congrFun (s3.1 3 (by decide)) j⟩, s4, fun j hj => (congrFun (s3.1 3 (by decide)) j).trans (pz_no _ _ (Or.inr hj)), (congrFun (s3.1 3 (by decide)) _).trans (pz_at _ _ rfl rfl), (s3.2 17 (by decide)).trans ((pz_no _ _ (Or.inl (by decide))).trans h17), (s3.2 18 (by decide)).trans (pz_no _ _ (Or.inl (by decide))), (s3.2 24 (by decide)).trans (pz_no _ _ (Or.inl (by decide)))⟩
    simp at hj ⊢
    omega
  · rw [if_neg (show ¬ I' 0 14 = 59 from fun q => d (q59.mp q))]
    exact Or.inl ⟨xs_want_no hb hI d (by decide), _, _, rfl, hM2.2.2.1, f3, JOff.rf⟩
end CL
