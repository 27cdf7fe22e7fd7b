/-! both readers side by side: an asking -/
section SA
variable {b : Nat → Nat} {n t kc : Nat} {I0 : PI} {J0 : PJ}
def NXs (s : Nat) : Prop := s ≠ 42 ∧ s ≠ 47 ∧ s ≠ 43 ∧ s ≠ 45
theorem HS.mono {f : PI → TR Sem} {o pc fa fb ga gb fa' fb' ga' gb' : Nat} {Pre Pre' : Nat → List Nat → Prop} {Rl Rl' : List Nat → List (Nat × Nat) → List Nat → List (Nat × Nat) → Prop} {NX NX' : Nat → Prop} {PP : List Nat → Prop} {Mn : List (Nat × Nat) → Sem → Prop} (h : HS b n t kc I0 J0 f o pc fa fb ga gb Pre Rl NX PP Mn) (h1 : ∀ s P, Pre' s P → Pre s P) (h2 : ∀ s P D P1 C1, Pre' s P → Rl P D P1 C1 → Rl' P D P1 C1) (h3 : ∀ s, NX s → NX' s) (e1 : fa ≤ fa') (e2 : fb ≤ fb') (e3 : ga ≤ ga') (e4 : gb ≤ gb') : HS b n t kc I0 J0 f o pc fa' fb' ga' gb' Pre' Rl' NX' PP Mn := by
  intro k I I' J' P C hI hM hcn hl hlk hk hpre
  rcases h k I I' J' P C hI hM hcn hl hlk hk (h1 _ _ hpre) with hF | hG
  · exact Or.inl (hF.le e1 (by omega))
  · obtain ⟨k1, I1, c, s, S, its, P1, C1, I1', J1', q1, q2, q3, q4, q5, q6, q7, q8, q9, q10, q11, q12⟩ := hG
    exact Or.inr ⟨k1, I1, c, s, S, its, P1, C1, I1', J1', q1, q2, q3, q4, by omega, by omega, q7, q8, h2 _ _ _ _ _ hpre q9, q10, h3 _ q11, q12⟩
theorem Flt.here {α : Type} {fa q k e c s : Nat} {I I' I1' : PI} {J' J1' : PJ} {P : List Nat} {C : List (Nat × Nat)} {w : Nat} {r : TR α} (hk : k ≤ n) (he : 1 ≤ e ∧ e ≤ 5) (hr : r = some (I, (c, s), .inr (nI e, nI (tks b n k).pl))) (hc : c ≤ fa) (hs : s ≤ q) (hm : ∀ F, mS (F + 1) I' J' = some (nI e, I1', J1')) (hM : MC b n t kc I0 J0 k P C w I1' J1') : Flt b n t kc I0 J0 fa 0 q k I' J' r :=
  ⟨k, e, I, c, s, I1', J1', P, C, w, Nat.le_refl _, hk, he.1, he.2, hr, by omega, by omega, fun F => by rw [Nat.sub_self]; exact hm F, hM⟩
theorem tC_ok {α : Type} (a b : Nat) (I : PI) (v : α) : tC a b (tOk I v) = some (I, (a, b), .inl v) := rfl
theorem icm_app : ∀ (Q : List Nat) {P : List Nat}, (∀ x ∈ Q, 5 ≤ rk x) → icm (Q ++ P) = icm P
  | [], _, _ => rfl
  | x :: Q, P, h => by
    show icm (x :: (Q ++ P)) = _
    have := h x List.mem_cons_self
    rw [icm, if_pos (by omega)]
    exact icm_app Q fun y hy => h y (List.mem_cons_of_mem _ hy)
theorem isCmp_cm : ∀ s, s < 305 → isCmp (nI s) = decide (cmN s ≠ 99) := by decide +kernel
theorem cmN_rk : ∀ s, s < 305 → cmN s ≠ 99 → rk (cmN s) = 4 ∧ 10 ≤ cmN s ∧ cmN s < 16 := by decide +kernel
theorem MnA.not {A : List (Nat × Nat)} {G : Sem} (h : MnA A G) : MnA (A ++ [(20, 0)]) (fun v => b2l (decide (G v = 0))) := by
  refine ⟨h.1.app (ItV.one ⟨by omega, by omega, fun q => by omega⟩), fun v vs ts => ?_, fun v => b2l_01 _⟩
  rw [rnI_app, h.2.1]
  show some (vs, (!decide (G v = 1)) :: ts) = some (vs, decide (b2l (decide (G v = 0)) = 1) :: ts)
  rw [b2l_1]
  congr 3
  rcases h.2.2 v with e | e <;> rw [e] <;> decide
theorem MnA.cmp {A B : List (Nat × Nat)} {F G : Sem} {s : Nat} (h : MnS A F) (g : MnS B G) (hs : s < 305) (hc : cmN s ≠ 99) : MnA (A ++ B ++ [(cmN s, 0)]) (fun v => cmpV (nI s) (F v) (G v)) := by
  obtain ⟨-, c1, c2⟩ := cmN_rk s hs hc
  have e : ∀ v, cmpV (nI s) (F v) (G v) = b2l (isA (cmN s) (F v) (G v)) := fun v => cmp_isA (h.2.2 v) (g.2.2 v) s hc
  refine ⟨(h.1.app g.1).app (ItV.one ⟨by omega, by omega, fun q => by omega⟩), fun v vs ts => ?_, fun v => ?_⟩
  · rw [rnI_app, rnI_app, h.2.1]
    show ((rnI v B (F v :: vs, ts)).bind (rnI v [(cmN s, 0)])) = _
    rw [g.2.1]
    show (stI v (cmN s, 0) (G v :: F v :: vs, ts)).bind (rnI v []) = some (vs, decide (cmpV (nI s) (F v) (G v) = 1) :: ts)
    rw [e, b2l_1]
    show (stI v (cmN s, 0) (G v :: F v :: vs, ts)).bind (rnI v []) = _
    unfold stI
    rw [if_neg (show ¬ cmN s = 0 by omega), if_neg (show ¬ cmN s = 1 by omega), if_neg (show ¬ cmN s = 3 by omega), if_neg (show ¬ cmN s ≤ 5 by omega), if_neg (show ¬ cmN s < 10 by omega), if_pos (show cmN s < 20 by omega)]
    rfl
  · dsimp only
    rw [e]
    exact b2l_01 _
theorem sim_ask (hb : ∀ j, j < n → b j < 256) (ht : t < 4) (hn : n ≤ 300) {ask sum : PI → TR Sem} {o : Nat} (ho8 : o ≤ 8)
    (Hask : o < 8 → HS b n t kc I0 J0 ask (o + 1) 2 11 36 0 0 (fun _ P => tlt 4 P ∧ onow P = 41) (RlQ 3) NXs (fun P => icm P = true) MnA)
    (Hsum : HS b n t kc I0 J0 sum o 3 11 36 6 18 (fun s P => tlt 5 P ∧ (s = 221 → aah P = false)) (RlQ 5) NXs (fun _ => True) MnS) :
    HS b n t kc I0 J0 (t_askB ask sum) o 2 11 36 0 0 (fun _ P => tlt 4 P ∧ onow P = 41) (RlQ 3) NXs (fun P => icm P = true) MnA := by
  intro k I I' J' P C hI hM hcn hl hlk hk ⟨hp4, hoN⟩
  have hsr := tks_srt hb k
  have hat : atop P = true := by
    cases P with
    | nil => exact absurd hoN (by decide)
    | cons x P => exact decide_eq_true hp4
  have haa : aah P = true := by
    unfold aah
    rw [hat, hoN]
    rfl
  have hic : icm P = false := by
    cases P with
    | nil => rfl
    | cons x P =>
      have hx : rk x < 4 := hp4
      rw [icm, if_neg (by omega), decide_eq_false (by omega)]
  have hp5 : tlt 5 P := by
    cases P with
    | nil => trivial
    | cons x P => exact Nat.lt_succ_of_lt hp4
  unfold t_askB
  by_cases c : (tks b n k).sort = 221
  · rw [if_pos (show I 0 4 = 221 from by rw [hI.1.2.2.2.1, c]; rfl)]
    have hbeg := mc_op hb hM (by omega) (by omega) (by rw [c]; rfl)
    rw [c, haa] at hbeg
    rw [if_neg (show ¬ (opC 221 = 99 ∨ 221 = 221 ∧ true = false) by decide), show opC 221 = 20 from rfl] at hbeg
    have hop := mc_opened hb hM (by omega) (by omega) (o := 20) (by decide) (by decide)
    have hxo := xs_opens hb hI ho8
    rw [hcn] at hop
    by_cases c8 : o = 8
    · rw [if_pos c8] at hop hxo
      rw [hxo, tB_th]
      exact Or.inl (Flt.here (e := 3) hk (by decide) rfl (by omega) (by omega) (mS_bf hM (by decide) (hbeg.trans hop)) hM)
    · rw [if_neg c8] at hop hxo
      obtain ⟨I1, q1, q2⟩ := hxo
      obtain ⟨I1', J1', r1, r2⟩ := hop
      have hk1 : k + 1 ≤ n := tks_n hb (by omega)
      have run1 : ∀ F, mS (F + (k + 1 - k)) I' J' = mS F I1' J1' := fun F => by
        rw [show k + 1 - k = 1 by omega]
        exact mS_b hM (hbeg.trans r1) F
      rw [q1, tB_ok, tC_tC]
      rcases Hask (by omega) (k + 1) I1 I1' J1' (20 :: P) C q2 r2 (by rw [cnt, hcn, show cn 20 = 1 from rfl, Nat.add_comm]) (by rw [List.length_cons]; omega) (by rw [List.length_cons]; omega) hk1 ⟨by show rk 20 < 4; decide, by rw [onow, if_neg (by omega)]; exact hoN⟩ with hF | hG
      · exact Or.inl ((hF.bB _).goC (by omega) run1 _ _ (by omega) (by omega))
      · obtain ⟨k2, I2, c2, s2, G, its2, P1, C2, I2', J2', h1, h2, h3, h4, h5, h6, h7, h8, ⟨Q2, e1, e2, e3⟩, h10, h11, h12, h13, h14⟩ := hG
        subst e1
        rw [h3, tB_ok, tC_tC, tC_ok]
        have eQ : Q2 ++ 20 :: P = Q2 ++ [20] ++ P := by rw [List.append_assoc]; rfl
        rw [eQ] at h8 h12 h13 h14
        refine Or.inr ⟨k2, t_shut I2, _, _, _, its2 ++ [(20, 0)], _, C2, I2', J2', by omega, h2, rfl, xs_shut h4, by omega, by omega, fun F => ?_, h8, ⟨Q2 ++ [20], rfl, fun x hx => ?_, ?_⟩, h10.not, h11, h12, h13, h14⟩
        · rw [← h7 F, ← run1, show F + (k2 - k) = F + (k2 - (k + 1)) + (k + 1 - k) by omega]
        · rcases List.mem_append.mp hx with hx | hx
          · exact e2 x hx
          · rw [List.mem_singleton] at hx
            rw [hx]
            decide
        · rw [em_app, ← List.append_assoc, e3]
          simp only [List.append_assoc]
          rfl
  · rw [if_neg (show ¬ I 0 4 = 221 from by rw [hI.1.2.2.2.1]; exact fun q => c ((nI_eq (b := 221) (by omega) (by omega)).mp q))]
    rcases Hsum k I I' J' P C hI hM hcn (by omega) hlk hk ⟨hp5, fun q => absurd q c⟩ with hF | hG
    · exact Or.inl (hF.bB _)
    · obtain ⟨k2, I2, c2, s2, G, its, P1, C2, I2', J2', h1, h2, h3, h4, h5, h6, h7, h8, ⟨Q2, e1, e2, e3⟩, h10, h11, -, h13, h14⟩ := hG
      subst e1
      have hsr2 := tks_srt hb k2
      have e4 : I2 0 4 = nI (tks b n k2).sort := h4.1.2.2.2.1
      have hoN2 : onow (Q2 ++ P) = 41 := (onow_app Q2 fun x hx => by have := e2 x hx; omega).trans hoN
      have hic2 : icm (Q2 ++ P) = false := (icm_app Q2 e2).trans hic
      have hQP : (Q2 ++ P).length = Q2.length + P.length := List.length_append
      have hbt : btw (tks b n k2).sort (Q2 ++ P) = cmN (tks b n k2).sort := by
        unfold btw
        rw [if_neg h11.2.2.1, if_neg h11.2.2.2, if_neg h11.1, if_neg h11.2.1, if_pos hoN2, hic2, if_neg (by decide)]
      rw [h3, tB_ok, e4, isCmp_cm _ hsr2]
      by_cases d : cmN (tks b n k2).sort = 99
      · rw [decide_eq_false (fun q => q d), if_neg (by decide)]
        have hpr : prt (tks b n k2).sort (Q2 ++ P) = 99 := by
          unfold prt
          rw [hoN2, if_neg (by decide), if_pos rfl, if_neg (fun q => absurd q.2 (by rw [hic2]; decide))]
        have hstop := mc_stop hb h8 (by omega) (hbt.trans d) hpr
        have : tC c2 s2 (tThrow I2 1 : TR Sem) = some (I2, (c2 + 1, s2 + 8), .inr (nI 1, nI (tks b n k2).pl)) := by
          unfold tThrow
          rw [h4.1.2.2.1]
          rfl
        rw [this]
        exact Or.inl ⟨k2, 1, I2, _, _, I2', J2', _, C2, 1, h1, h2, by omega, by omega, rfl, by omega, by omega, fun F => by
          rw [← mS_st h8 (by omega) hstop (by rw [hoN2]; decide) F, ← h7, show F + 1 + (k2 - k) = F + (k2 - k) + 1 by omega], h8⟩
      · rw [decide_eq_true d, if_pos rfl]
        obtain ⟨hrk, ho1, ho2⟩ := cmN_rk _ hsr2 d
        have hk1 : k2 + 1 ≤ n := tks_n hb (fun q => by rw [q] at d; exact d rfl)
        obtain ⟨I3, q1, q2⟩ := xs_next hb h4
        obtain ⟨I3', J3', r1, r2⟩ := mc_between hb ht h8 (by omega) (by omega) hbt d (r := 5) (by rw [hrk, if_pos rfl])
        rw [stl_app Q2 e2, e3, stl_tlt hp5] at r2
        have hlen : (C ++ its).length = C2.length + Q2.length := by
          rw [← e3, List.length_append]
          unfold em
          rw [List.length_map]
        have run1 : ∀ F, mS (F + (k2 + 1 - k)) I' J' = mS F I3' J3' := fun F => by
          rw [← mS_c h8 r1 F, ← h7, show F + (k2 + 1 - k) = F + 1 + (k2 - k) by omega]
        have cn0 : cn (cmN (tks b n k2).sort) = 0 := by
          unfold cn
          rw [if_neg (by omega)]
        have hb' : ∀ g : PI → TR Sem, (t_next I2).bind g = g I3 := fun g => by rw [q1]; rfl
        rw [hb']
        rcases Hsum (k2 + 1) I3 I3' J3' (cmN (tks b n k2).sort :: P) (C ++ its) q2 r2 (by rw [cnt, cn0, hcn, Nat.zero_add]) (by rw [List.length_cons]; omega) (by rw [List.length_cons]; omega) hk1 ⟨by show rk _ < 5; omega, fun _ => by unfold aah; rw [show atop (cmN (tks b n k2).sort :: P) = false from decide_eq_false (by omega), Bool.and_false]⟩ with hF | hG
        · rw [tC_tC]
          exact Or.inl ((hF.bB _).goC (by omega) run1 _ _ (by omega) (by omega))
        · obtain ⟨k3, I4, c3, s3, G2, its2, P1, C3, I4', J4', g1, g2, g3, g4, g5, g6, g7, g8, ⟨Q3, f1, f2, f3⟩, g10, g11, -, g13, g14⟩ := hG
          subst f1
          rw [g3, tB_ok, tC_tC, tC_tC, tC_ok]
          have hic3 : icm (Q3 ++ cmN (tks b n k2).sort :: P) = true := by
            rw [icm_app Q3 f2, icm, hrk]
            rfl
          have eQ : Q3 ++ cmN (tks b n k2).sort :: P = Q3 ++ [cmN (tks b n k2).sort] ++ P := by rw [List.append_assoc]; rfl
          rw [eQ] at g8 g13 g14 hic3
          refine Or.inr ⟨k3, I4, _, _, _, its ++ its2 ++ [(cmN (tks b n k2).sort, 0)], _, C3, I4', J4', by omega, g2, rfl, g4, by omega, by omega, fun F => ?_, g8, ⟨Q3 ++ [cmN (tks b n k2).sort], rfl, fun x hx => ?_, ?_⟩, MnA.cmp h10 g10 hsr2 d, g11, hic3, g13, g14⟩
          · rw [← g7 F, ← run1, show F + (k3 - k) = F + (k3 - (k2 + 1)) + (k2 + 1 - k) by omega]
          · rcases List.mem_append.mp hx with hx | hx
            · have := f2 x hx
              omega
            · rw [List.mem_singleton] at hx
              rw [hx, hrk]
              decide
          · rw [em_app, ← List.append_assoc, f3]
            simp only [List.append_assoc]
            rfl
end SA
