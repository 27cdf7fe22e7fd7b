/-! both readers side by side: what is open, goes on, is shut -/
theorem t_nn {I : PI} {s : Nat} (hs : s < 305) (h4 : I 0 4 = nI s) : t_nameNow I = some (oN (nm s)) := by
  unfold t_nameNow
  obtain ⟨q, hq⟩ : ∃ q, fu = q + 9 := ⟨fu - 9, by unfold fu; omega⟩
  have st : ∀ (j q : Nat) (y : Option (Int32 ⊕ Unit)), j < 8 → t_nameNow_l2 I q (nI (j + 1)) = y → t_nameNow_l2 I (q + 1) (nI j) = if pNmd.getD j 0 = nI s then some (.inl (nI j)) else y := by
    intro j q y hj hy
    show t_nameNow_b2 I (t_nameNow_l2 I q) (nI j) = _
    unfold t_nameNow_b2
    rw [if_neg (show ¬ (8 : Int32) ≤ nI j from fun u => absurd ((nI_leI (a := 8) (by omega) (by omega)).mp u) (by omega)), pz_inb hj (by omega), pz_ck, pz_ix (by omega), h4, pz_lt, show (1 : Int32) = nI 1 from rfl, pz_add, hy]
  have s8 : t_nameNow_l2 I (q + 1) (nI 8) = some (.inr ()) := by
    show t_nameNow_b2 I (t_nameNow_l2 I q) (nI 8) = _
    unfold t_nameNow_b2
    rw [if_pos (by decide)]
  have r := st 0 (q + 8) _ (by decide) (st 1 (q + 7) _ (by decide) (st 2 (q + 6) _ (by decide) (st 3 (q + 5) _ (by decide) (st 4 (q + 4) _ (by decide) (st 5 (q + 3) _ (by decide) (st 6 (q + 2) _ (by decide) (st 7 (q + 1) _ (by decide) s8)))))))
  rw [hq, show (0 : Int32) = nI 0 from rfl, r]
  have c : ∀ {w r : Nat} {x : Int32 ⊕ Unit} {y : Option (Int32 ⊕ Unit)} {z : Nat}, w < 305 → lbind (some x) some (fun _ => some (-1 : Int32)) = some (oN r) → lbind y some (fun _ => some (-1 : Int32)) = some (oN z) → lbind (if nI w = nI s then some x else y) some (fun _ => some (-1 : Int32)) = some (oN (if s = w then r else z)) := by
    intro w r x y z h1 h2 h3
    by_cases d : s = w
    · rw [if_pos (show nI w = nI s from by rw [d]), if_pos d, h2]
    · rw [if_neg (fun u => d ((nI_eq (by omega) (by omega)).mp u).symm), if_neg d, h3]
  unfold nm
  refine c (w := 208) (r := 0) (by decide) rfl ?_
  refine c (w := 202) (r := 1) (by decide) rfl ?_
  refine c (w := 222) (r := 2) (by decide) rfl ?_
  refine c (w := 209) (r := 3) (by decide) rfl ?_
  refine c (w := 223) (r := 4) (by decide) rfl ?_
  refine c (w := 224) (r := 5) (by decide) rfl ?_
  refine c (w := 210) (r := 6) (by decide) rfl ?_
  exact c (w := 225) (r := 7) (z := 99) (by decide) rfl rfl
section SO
variable {b : Nat → Nat} {n t kc : Nat} {I0 : PI} {J0 : PJ}
theorem em_len (Q : List Nat) : (em Q).length = Q.length := List.length_map _
theorem stl_op {x : Nat} (hx : 40 ≤ x) (Q P : List Nat) (C2 D : List (Nat × Nat)) (hQ : ∀ y ∈ Q, 1 ≤ rk y) (hD : C2 ++ em Q = D) : stl 1 (Q ++ x :: P) C2 = (x :: P, D) := by
  rw [stl_app Q hQ, hD, stl, if_neg]
  unfold rk
  rw [if_pos hx]
  omega
theorem want_no {k o x w : Nat} {I I' : PI} {J' : PJ} {P : List Nat} {C : List (Nat × Nat)} (hb : ∀ j, j < n → b j < 256) (hI : XS b n (200 + kc) k o I) (hM : MC b n t kc I0 J0 k P C 1 I' J') (hl : P.length ≤ 60) (hbt : btw (tks b n k).sort P = 99) (hx : onow P = x) (hx9 : x ≠ 99) (hw : w < 301) (hs : (tks b n k).sort ≠ w) (hpr : prt (tks b n k).sort P = 99) : t_want (nI w) I = some (I, (1, 8), .inr (nI 1, nI (tks b n k).pl)) ∧ ∀ F, mS (F + 1) I' J' = some (nI 1, I', J') :=
  ⟨xs_want_no hb hI hs (by omega), mS_st hM (by omega) (mc_stop hb hM (by omega) hbt hpr) (by rw [hx]; exact hx9)⟩
theorem want_part {k o x w v : Nat} {I I' : PI} {J' : PJ} {Q P : List Nat} {C D : List (Nat × Nat)} (hb : ∀ j, j < n → b j < 256) (ht : t < 4) (hn : n ≤ 300) (hI : XS b n (200 + kc) k o I) (hM : MC b n t kc I0 J0 k (Q ++ x :: P) C 1 I' J') (hl : (Q ++ x :: P).length ≤ 60) (hlk : C.length + (Q ++ x :: P).length ≤ k) (hk : k ≤ n) (hbt : btw (tks b n k).sort (Q ++ x :: P) = 99) (hx : 40 ≤ x) (hQ : ∀ y ∈ Q, 1 ≤ rk y) (hD : C ++ em Q = D) (hw : w < 301) (hs : (tks b n k).sort = w) (hpr : prt (tks b n k).sort (Q ++ x :: P) = v) (hv : 40 ≤ v ∧ v < 44) : k + 1 ≤ n ∧ ∃ I1 I1' J1', t_want (nI w) I = some (I1, (0, 0), .inl ()) ∧ XS b n (200 + kc) (k + 1) o I1 ∧ (∀ F, mS (F + 1) I' J' = mS F I1' J1') ∧ MC b n t kc I0 J0 (k + 1) (v :: P) D 0 I1' J1' := by
  obtain ⟨I1, q1, q2⟩ := xs_want hb hI hs
  obtain ⟨I1', J1', r1, r2⟩ := mc_part hb ht hM (by omega) (by omega) hbt hpr hv (stl_op hx Q P C D hQ hD) hx
  exact ⟨tks_n hb (by omega), I1, I1', J1', q1, q2, mS_c hM r1, r2⟩
theorem want_shut {k o x w : Nat} {I I' : PI} {J' : PJ} {Q P : List Nat} {C D : List (Nat × Nat)} (hb : ∀ j, j < n → b j < 256) (ht : t < 4) (hn : n ≤ 300) (hI : XS b n (200 + kc) k o I) (hM : MC b n t kc I0 J0 k (Q ++ x :: P) C 1 I' J') (hl : (Q ++ x :: P).length ≤ 60) (hlk : C.length + (Q ++ x :: P).length ≤ k) (hk : k ≤ n) (hbt : btw (tks b n k).sort (Q ++ x :: P) = 99) (hx : 40 ≤ x) (hQ : ∀ y ∈ Q, 1 ≤ rk y) (hD : C ++ em Q = D) (hw : w < 301) (hs : (tks b n k).sort = w) (hpr : prt (tks b n k).sort (Q ++ x :: P) = 0) : k + 1 ≤ n ∧ ∃ I1 I1' J1', t_want (nI w) I = some (I1, (0, 0), .inl ()) ∧ XS b n (200 + kc) (k + 1) o I1 ∧ (∀ F, mS (F + 1) I' J' = mS F I1' J1') ∧ MC b n t kc I0 J0 (k + 1) (stl 7 P (if x = 43 then D ++ [(3, 0)] else D)).1 (stl 7 P (if x = 43 then D ++ [(3, 0)] else D)).2 1 I1' J1' := by
  obtain ⟨I1, q1, q2⟩ := xs_want hb hI hs
  obtain ⟨I1', J1', r1, r2⟩ := mc_shut hb ht hM (by omega) (by omega) hbt hpr (stl_op hx Q P C D hQ hD) hx (by rw [onow_app Q hQ, onow, if_pos hx])
  exact ⟨tks_n hb (by omega), I1, I1', J1', q1, q2, mS_c hM r1, r2⟩
theorem stl_le7 (P : List Nat) (D : List (Nat × Nat)) : (stl 7 P D).1.length ≤ P.length := (stl_len 7 P D).2
/-- a sum within ( or behind then, else: what the token behind it means -/
theorem btw_in40 {s : Nat} {P : List Nat} (h : NXs s) (ho : onow P ≠ 41) : btw s P = 99 := by
  unfold btw
  rw [if_neg h.2.2.1, if_neg h.2.2.2, if_neg h.1, if_neg h.2.1, if_neg ho]
theorem MnS.sel {A B D : List (Nat × Nat)} {H F G : Sem} (a : MnA A H) (h : MnS B F) (g : MnS D G) : MnS (A ++ B ++ D ++ [(3, 0)]) (fun v => if H v = 0 then G v else F v) := by
  refine ⟨((a.1.app h.1).app g.1).app (ItV.one ⟨by omega, by omega, fun q => by omega⟩), fun v vs ts => ?_, fun v => ?_⟩
  · rw [rnI_app, rnI_app, rnI_app, a.2.1]
    show (((rnI v B (vs, decide (H v = 1) :: ts)).bind (rnI v D)).bind (rnI v [(3, 0)])) = _
    rw [h.2.1]
    show ((rnI v D (F v :: vs, decide (H v = 1) :: ts)).bind (rnI v [(3, 0)])) = _
    rw [g.2.1]
    show some ((if decide (H v = 1) = true then F v else G v) :: vs, ts) = some ((if H v = 0 then G v else F v) :: vs, ts)
    rcases a.2.2 v with e | e <;> rw [e] <;> rfl
  · dsimp only
    split
    · exact g.2.2 v
    · exact h.2.2 v
theorem sim_choice (hb : ∀ j, j < n → b j < 256) (ht : t < 4) (hn : n ≤ 300) {sum either : PI → TR Sem} {o : Nat} (ho8 : o ≤ 8)
    (Heither : o < 8 → HS b n t kc I0 J0 either (o + 1) 0 18 80 6 32 (fun _ P => tlt 1 P ∧ onow P = 41) (RlQ 1) (fun s => (NXs s ∧ s ≠ 220) ∧ s ≠ 219) (fun P => icm P = true) MnA)
    (Hsum : o < 8 → HS b n t kc I0 J0 sum (o + 1) 3 11 36 6 18 (fun s P => tlt 5 P ∧ (s = 221 → aah P = false)) (RlQ 5) NXs (fun _ => True) MnS)
    {k : Nat} {I I' : PI} {J' : PJ} {P : List Nat} {C : List (Nat × Nat)} (hI : XS b n (200 + kc) k o I) (hM : MC b n t kc I0 J0 k P C 0 I' J') (hcn : cnt P = o) (hl : P.length ≤ 6 * o + 5) (hlk : C.length + P.length ≤ k) (hk : k ≤ n) (hs : (tks b n k).sort = 215) :
    Flt b n t kc I0 J0 2 0 9 k I' J' (t_choice either sum I) ∨ Gd b n t kc I0 J0 Rl7 (fun _ => True) (fun _ => True) MnS 0 0 0 k o P C I' J' (t_choice either sum I) := by
  have hbeg := mc_op hb hM (by omega) (by omega) (by rw [hs]; rfl)
  rw [hs] at hbeg
  rw [if_neg (show ¬ (opC 215 = 99 ∨ 215 = 221 ∧ aah P = false) from fun q => q.elim (by decide) (fun q => absurd q.1 (by decide))), show opC 215 = 41 from rfl] at hbeg
  have hop := mc_opened hb hM (by omega) (by omega) (o := 41) (by decide) (by decide)
  have hxo := xs_opens hb hI ho8
  rw [hcn] at hop
  unfold t_choice
  by_cases c8 : o = 8
  · rw [if_pos c8] at hop hxo
    rw [hxo, tB_th]
    exact Or.inl (Flt.here (e := 3) hk (by decide) rfl (by omega) (by omega) (mS_bf hM (by decide) (hbeg.trans hop)) hM)
  rw [if_neg c8] at hop hxo
  obtain ⟨I1, q1, q2⟩ := hxo
  obtain ⟨I1', J1', r1, r2⟩ := hop
  have hk1 : k + 1 ≤ n := tks_n hb (by omega)
  have run1 : ∀ F, mS (F + (k + 1 - k)) I' J' = mS F I1' J1' := fun F => by
    rw [show k + 1 - k = 1 by omega]
    exact mS_b hM (hbeg.trans r1) F
  rw [q1, tB_ok, tC_0]
  have cn4 : ∀ x, 40 ≤ x → cnt (x :: P) = o + 1 := fun x hx => by
    rw [cnt, hcn]
    unfold cn
    rw [if_pos (Or.inl hx)]
    omega
  have onx : ∀ x, 40 ≤ x → onow (x :: P) = x := fun x hx => by rw [onow, if_pos hx]
  have rk0 : ∀ x, 40 ≤ x → rk x = 0 := fun x hx => by
    unfold rk
    rw [if_pos hx]
  have aa0 : ∀ x, 42 ≤ x → aah (x :: P) = false := fun x hx => by
    unfold aah
    rw [onx x (by omega), decide_eq_false (by omega)]
    rfl
  rcases Heither (by omega) (k + 1) I1 I1' J1' (41 :: P) C q2 r2 (cn4 41 (by omega)) (by rw [List.length_cons]; omega) (by rw [List.length_cons]; omega) hk1 ⟨by show rk 41 < 1; decide, onx 41 (by omega)⟩ with hF | hG
  · exact Or.inl ((hF.go (by omega) run1 (by omega) (by omega)).bB _)
  obtain ⟨k2, I2, c2, s2, G, itsA, P1, C2, I2', J2', h1, h2, h3, h4, h5, h6, h7, h8, ⟨Q2, e1, e2, e3⟩, h10, ⟨⟨h11, h11a⟩, h11b⟩, h12, h13, h14⟩ := hG
  subst e1
  have run2 : ∀ F, mS (F + (k2 - k)) I' J' = mS F I2' J2' := fun F => by
    rw [← h7 F, ← run1, show F + (k2 - k) = F + (k2 - (k + 1)) + (k + 1 - k) by omega]
  have on2 : onow (Q2 ++ 41 :: P) = 41 := (onow_app Q2 e2).trans (onx 41 (by omega))
  have bt2 : btw (tks b n k2).sort (Q2 ++ 41 :: P) = 99 := by
    unfold btw
    rw [if_neg h11.2.2.1, if_neg h11.2.2.2, if_neg h11.1, if_neg h11.2.1, if_pos on2, if_pos h12, if_neg h11a, if_neg h11b]
  rw [h3, tB_ok]
  by_cases d1 : (tks b n k2).sort = 216
  case neg =>
    have pr2 : prt (tks b n k2).sort (Q2 ++ 41 :: P) = 99 := by
      unfold prt
      rw [on2, if_neg (by decide), if_pos rfl, if_neg (fun q => d1 q.1)]
    obtain ⟨w1, w2⟩ := want_no hb h4 h8 (by omega) bt2 on2 (by decide) (w := 216) (by decide) d1 pr2
    rw [show (216 : Int32) = nI 216 from rfl, w1, tB_th, tC_s]
    exact Or.inl ⟨k2, 1, I2, _, _, I2', J2', _, C2, 1, by omega, h2, by omega, by omega, rfl, by omega, by omega, fun F => by
      rw [← w2 F, ← run2, show F + 1 + (k2 - k) = F + (k2 - k) + 1 by omega], h8⟩
  have pr2 : prt (tks b n k2).sort (Q2 ++ 41 :: P) = 42 := by
    unfold prt
    rw [on2, if_neg (by decide), if_pos rfl, if_pos ⟨d1, h12⟩]
  obtain ⟨hk3, I3, I3', J3', w1, w2, w3, w4⟩ := want_part hb ht hn h4 h8 h13 h14 h2 bt2 (by omega) e2 e3 (w := 216) (by decide) d1 pr2 ⟨by decide, by decide⟩
  rw [show (216 : Int32) = nI 216 from rfl, w1, tB_ok, tC_0]
  have lenA : (C ++ itsA).length = C2.length + Q2.length := by rw [← e3, List.length_append, em_len]
  have lQ2 : (Q2 ++ 41 :: P).length = Q2.length + (P.length + 1) := by rw [List.length_append, List.length_cons]
  have run3 : ∀ F, mS (F + (k2 + 1 - k)) I' J' = mS F I3' J3' := fun F => by
    rw [← w3 F, ← run2, show F + 1 + (k2 - k) = F + (k2 + 1 - k) by omega]
  rcases Hsum (by omega) (k2 + 1) I3 I3' J3' (42 :: P) (C ++ itsA) w2 w4 (cn4 42 (by omega)) (by rw [List.length_cons]; omega) (by rw [List.length_cons]; omega) hk3 ⟨by show rk 42 < 5; decide, fun _ => aa0 42 (by omega)⟩ with hF | hG
  · exact Or.inl ((hF.bB _).goC (by omega) run3 _ _ (by omega) (by omega))
  obtain ⟨k4, I4, c4, s4, G2, itsB, P1, C4, I4', J4', g1, g2, g3, g4, g5, g6, g7, g8, ⟨Q4, f1, f2, f3⟩, g10, g11, -, g13, g14⟩ := hG
  subst f1
  have run4 : ∀ F, mS (F + (k4 - k)) I' J' = mS F I4' J4' := fun F => by
    rw [← g7 F, ← run3, show F + (k4 - k) = F + (k4 - (k2 + 1)) + (k2 + 1 - k) by omega]
  have f2' : ∀ y ∈ Q4, 1 ≤ rk y := fun y hy => by have := f2 y hy; omega
  have on4 : onow (Q4 ++ 42 :: P) = 42 := (onow_app Q4 f2').trans (onx 42 (by omega))
  have bt4 : btw (tks b n k4).sort (Q4 ++ 42 :: P) = 99 := btw_in40 g11 (by rw [on4]; decide)
  rw [g3, tB_ok, tC_tC]
  by_cases d2 : (tks b n k4).sort = 217
  case neg =>
    have pr4 : prt (tks b n k4).sort (Q4 ++ 42 :: P) = 99 := by
      unfold prt
      rw [on4, if_neg (by decide), if_neg (by decide), if_pos rfl, if_neg d2]
    obtain ⟨w1, w2⟩ := want_no hb g4 g8 (by omega) bt4 on4 (by decide) (w := 217) (by decide) d2 pr4
    rw [show (217 : Int32) = nI 217 from rfl, w1, tB_th, tC_s]
    exact Or.inl ⟨k4, 1, I4, _, _, I4', J4', _, C4, 1, by omega, g2, by omega, by omega, rfl, by omega, by omega, fun F => by
      rw [← w2 F, ← run4, show F + 1 + (k4 - k) = F + (k4 - k) + 1 by omega], g8⟩
  have pr4 : prt (tks b n k4).sort (Q4 ++ 42 :: P) = 43 := by
    unfold prt
    rw [on4, if_neg (by decide), if_neg (by decide), if_pos rfl, if_pos d2]
  obtain ⟨hk5, I5, I5', J5', v1, v2, v3, v4⟩ := want_part hb ht hn g4 g8 g13 g14 g2 bt4 (by omega) f2' f3 (w := 217) (by decide) d2 pr4 ⟨by decide, by decide⟩
  rw [show (217 : Int32) = nI 217 from rfl, v1, tB_ok, tC_0]
  have lenB : (C ++ itsA ++ itsB).length = C4.length + Q4.length := by rw [← f3, List.length_append, em_len]
  have lQ4 : (Q4 ++ 42 :: P).length = Q4.length + (P.length + 1) := by rw [List.length_append, List.length_cons]
  have run5 : ∀ F, mS (F + (k4 + 1 - k)) I' J' = mS F I5' J5' := fun F => by
    rw [← v3 F, ← run4, show F + 1 + (k4 - k) = F + (k4 + 1 - k) by omega]
  rcases Hsum (by omega) (k4 + 1) I5 I5' J5' (43 :: P) (C ++ itsA ++ itsB) v2 v4 (cn4 43 (by omega)) (by rw [List.length_cons]; omega) (by rw [List.length_cons]; omega) hk5 ⟨by show rk 43 < 5; decide, fun _ => aa0 43 (by omega)⟩ with hF | hG
  · exact Or.inl ((hF.bB _).goC (by omega) run5 _ _ (by omega) (by omega))
  obtain ⟨k6, I6, c6, s6, G3, itsD, P1, C6, I6', J6', u1, u2', u3, u4, u5, u6, u7, u8, ⟨Q6, x1, x2, x3⟩, u10, u11, -, u13, u14⟩ := hG
  subst x1
  have run6 : ∀ F, mS (F + (k6 - k)) I' J' = mS F I6' J6' := fun F => by
    rw [← u7 F, ← run5, show F + (k6 - k) = F + (k6 - (k4 + 1)) + (k4 + 1 - k) by omega]
  have x2' : ∀ y ∈ Q6, 1 ≤ rk y := fun y hy => by have := x2 y hy; omega
  have on6 : onow (Q6 ++ 43 :: P) = 43 := (onow_app Q6 x2').trans (onx 43 (by omega))
  have bt6 : btw (tks b n k6).sort (Q6 ++ 43 :: P) = 99 := btw_in40 u11 (by rw [on6]; decide)
  rw [u3, tB_ok, tC_tC]
  by_cases d3 : (tks b n k6).sort = 218
  case neg =>
    have pr6 : prt (tks b n k6).sort (Q6 ++ 43 :: P) = 99 := by
      unfold prt
      rw [on6, if_neg (by decide), if_neg (by decide), if_neg (by decide), if_pos rfl, if_neg d3]
    obtain ⟨w1, w2⟩ := want_no hb u4 u8 (by omega) bt6 on6 (by decide) (w := 218) (by decide) d3 pr6
    rw [show (218 : Int32) = nI 218 from rfl, w1, tB_th, tC_s]
    exact Or.inl ⟨k6, 1, I6, _, _, I6', J6', _, C6, 1, by omega, u2', by omega, by omega, rfl, by omega, by omega, fun F => by
      rw [← w2 F, ← run6, show F + 1 + (k6 - k) = F + (k6 - k) + 1 by omega], u8⟩
  have pr6 : prt (tks b n k6).sort (Q6 ++ 43 :: P) = 0 := by
    unfold prt
    rw [on6, if_neg (by decide), if_neg (by decide), if_neg (by decide), if_pos rfl, if_pos d3]
  obtain ⟨hk7, I7, I7', J7', y1, y2, y3, y4⟩ := want_shut hb ht hn u4 u8 u13 u14 u2' bt6 (by omega) x2' x3 (w := 218) (by decide) d3 pr6
  rw [show (218 : Int32) = nI 218 from rfl, y1, tB_ok, tC_tC, tC_tC, tC_ok]
  rw [if_pos rfl] at y4
  have lenD : (C ++ itsA ++ itsB ++ itsD).length = C6.length + Q6.length := by rw [← x3, List.length_append, em_len]
  have lQ6 : (Q6 ++ 43 :: P).length = Q6.length + (P.length + 1) := by rw [List.length_append, List.length_cons]
  have hsl := stl_len 7 P (C ++ itsA ++ itsB ++ itsD ++ [(3, 0)])
  have hL : (C ++ itsA ++ itsB ++ itsD ++ [(3, 0)]).length = C6.length + Q6.length + 1 := by rw [List.length_append, lenD]; rfl
  refine Or.inr ⟨k6 + 1, t_shut I7, _, _, _, itsA ++ itsB ++ itsD ++ [(3, 0)], _, _, I7', J7', by omega, hk7, rfl, xs_shut y2, by omega, by omega, fun F => ?_, y4, ⟨?_, ?_⟩, MnS.sel h10 g10 u10, trivial, trivial, by omega, by omega⟩
  · rw [← y3 F, ← run6, show F + 1 + (k6 - k) = F + (k6 + 1 - k) by omega]
  · simp only [List.append_assoc]
  · simp only [List.append_assoc]
end SO
