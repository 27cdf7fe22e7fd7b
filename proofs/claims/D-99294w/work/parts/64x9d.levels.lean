/-! both readers side by side: a part of a sum; all levels -/
section SL
variable {b : Nat → Nat} {n t kc : Nat} {I0 : PI} {J0 : PJ}
theorem MnS.un {A : List (Nat × Nat)} {G : Sem} {o : Nat} (h : MnS A G) (ho : o = 5 ∨ o = 4 ∨ o = 2) : MnS (A ++ [(o, 0)]) (fun v => unL v o (G v)) := by
  refine ⟨h.1.app (ItV.one ⟨by omega, by omega, fun q => by omega⟩), fun v vs ts => ?_, fun v => unL_in (h.2.2 v)⟩
  rw [rnI_app, h.2.1]
  rcases ho with rfl | rfl | rfl <;> rfl
theorem sim_one (hb : ∀ j, j < n → b j < 256) (ht : t < 4) (hn : n ≤ 300) (hkc : kc < 2) {one sum either : PI → TR Sem} {o : Nat} (ho8 : o ≤ 8)
    (Hone : o < 8 → HS b n t kc I0 J0 one (o + 1) 5 2 9 0 0 (fun s P => s = 221 → aah P = false) Rl7 (fun _ => True) (fun _ => True) MnS)
    (Heither : o < 8 → HS b n t kc I0 J0 either (o + 1) 0 18 80 6 32 (fun _ P => tlt 1 P ∧ onow P = 41) (RlQ 1) (fun s => (NXs s ∧ s ≠ 220) ∧ s ≠ 219) (fun P => icm P = true) MnA)
    (Hsum : o < 8 → HS b n t kc I0 J0 sum (o + 1) 3 11 36 6 18 (fun s P => tlt 5 P ∧ (s = 221 → aah P = false)) (RlQ 5) NXs (fun _ => True) MnS) :
    HS b n t kc I0 J0 (t_oneB one sum either) o 5 2 9 0 0 (fun s P => s = 221 → aah P = false) Rl7 (fun _ => True) (fun _ => True) MnS := by
  intro k I I' J' P C hI hM hcn hl hlk hk hpre
  have hsr := tks_srt hb k
  have e4 : I 0 4 = nI (tks b n k).sort := hI.1.2.2.2.1
  have hpl : I 0 3 = nI (tks b n k).pl := hI.1.2.2.1
  have hnm := tks_num b n k
  have fin : ∀ (S : Sem) (it : Nat × Nat) (I1 : PI) (I1' : PI) (J1' : PJ), XS b n (200 + kc) (k + 1) o I1 → (tks b n k).sort ≠ 301 → m_beginOne I' J' = some (0, I1', J1') → MC b n t kc I0 J0 (k + 1) (stl 7 P (C ++ [it])).1 (stl 7 P (C ++ [it])).2 1 I1' J1' → MnS [it] S → Gd b n t kc I0 J0 Rl7 (fun _ => True) (fun _ => True) MnS 0 0 0 k o P C I' J' (tC 1 1 (tOk I1 S)) := by
    intro S it I1 I1' J1' h1 h2 h3 h4 h5
    have hk1 := tks_n hb h2
    have hsl := stl_len 7 P (C ++ [it])
    have hL : (C ++ [it]).length = C.length + 1 := by rw [List.length_append]; rfl
    refine ⟨k + 1, I1, 1, 1, S, [it], _, _, I1', J1', by omega, hk1, tC_ok 1 1 I1 S, h1, by omega, by omega, fun F => ?_, h4, ⟨rfl, rfl⟩, h5, trivial, trivial, by omega, by omega⟩
    rw [show k + 1 - k = 1 by omega]
    exact mS_b hM h3 F
  unfold t_oneB
  by_cases c3 : (tks b n k).sort = 300
  · rw [if_pos (show I 0 4 = 300 from by rw [e4, c3]; rfl)]
    have hx := xs_number hb hI c3 (lo := 0) (hi := 9999) (by omega) (by omega)
    have hm := mc_num hb ht hM (by omega) (by omega) c3
    by_cases d : 9999 < (tks b n k).num
    · rw [if_neg (fun q => by omega)] at hx
      rw [if_pos d] at hm
      rw [show (0 : Int32) = nI 0 from rfl, show (9999 : Int32) = nI 9999 from rfl, hx, tB_th, tC_s]
      exact Or.inl ⟨k, 2, I, _, _, I', J', P, C, 0, Nat.le_refl _, hk, by omega, by omega, rfl, by omega, by omega, fun F => by rw [Nat.sub_self]; exact mS_bf hM (by decide) hm F, hM⟩
    · rw [if_pos ⟨Nat.zero_le _, by omega⟩] at hx
      rw [if_neg d] at hm
      obtain ⟨I1, q1, q2⟩ := hx
      obtain ⟨I1', J1', r1, r2⟩ := hm
      rw [show (0 : Int32) = nI 0 from rfl, show (9999 : Int32) = nI 9999 from rfl, q1, tB_ok, tC_0]
      exact Or.inr (fin _ _ I1 I1' J1' q2 (by omega) r1 r2 ⟨ItV.one ⟨by decide, by omega, fun q => absurd q (by decide)⟩, fun v vs ts => rfl, fun v => i32_in _⟩)
  rw [if_neg (show ¬ I 0 4 = 300 from by rw [e4]; exact fun q => c3 ((nI_eq (b := 300) (by omega) (by omega)).mp q))]
  by_cases c5 : (tks b n k).sort = 215
  · rw [if_pos (show I 0 4 = 215 from by rw [e4, c5]; rfl)]
    exact sim_choice hb ht hn ho8 Heither Hsum hI hM hcn hl hlk hk c5
  rw [if_neg (show ¬ I 0 4 = 215 from by rw [e4]; exact fun q => c5 ((nI_eq (b := 215) (by omega) (by omega)).mp q)), t_nn hsr e4, pz_bs]
  rcases nm_le (tks b n k).sort with hnm8 | hn9
  · have e0 : oN (nm (tks b n k).sort) = nI (nm (tks b n k).sort) := by
      unfold oN
      rw [if_neg (by omega)]
    have h301 : (tks b n k).sort ≠ 301 := fun q => by rw [q] at hnm8; exact absurd hnm8 (by decide)
    rw [e0, if_neg (show ¬ nI (nm (tks b n k).sort) = -1 from pz_ne1 (by omega))]
    have hm := mc_nm hb ht (by omega) hM (by omega) (by omega) hnm8
    have hmay : t_mayName I (nI (nm (tks b n k).sort)) = some (if nm (tks b n k).sort = 7 ∧ kc ≠ 1 then 0 else 1) := by
      unfold t_mayName
      rw [hI.2.2]
      by_cases d : nm (tks b n k).sort < 7
      · rw [if_pos (show nI (nm (tks b n k).sort) < 7 from (nI_ltI (b := 7) (by omega) (by omega)).mpr d), if_neg (fun q => by omega)]
      · rw [if_neg (show ¬ nI (nm (tks b n k).sort) < 7 from fun q => d ((nI_ltI (b := 7) (by omega) (by omega)).mp q))]
        by_cases f : kc = 1
        · rw [if_pos (show nI (200 + kc) = 201 from by rw [f]; rfl), if_neg (fun q => q.2 f)]
        · rw [if_neg (show ¬ nI (200 + kc) = 201 from fun q => f (by have := (nI_eq (b := 201) (by omega) (by omega)).mp q; omega)), if_pos ⟨by omega, f⟩]
    rw [hmay, pz_bs]
    by_cases d : nm (tks b n k).sort = 7 ∧ kc ≠ 1
    · rw [if_pos d] at hm
      rw [if_pos d, if_pos rfl]
      exact Or.inl (Flt.here (e := 5) hk (by decide) (by unfold tThrow; rw [hpl]; rfl) (by omega) (by omega) (mS_bf hM (by decide) hm) hM)
    · rw [if_neg d] at hm
      obtain ⟨I1', J1', r1, r2⟩ := hm
      obtain ⟨I1, q1, q2⟩ := xs_next hb hI
      rw [if_neg d, if_neg (by decide), q1, pz_bs, pz_inb (by omega) (by omega), pz_ck, pz_ix (by omega)]
      exact Or.inr (fin _ _ I1 I1' J1' q2 h301 r1 r2 ⟨ItV.one ⟨by decide, by omega, fun _ => hnm8⟩, fun v vs ts => rfl, fun v => i32_in _⟩)
  rw [hn9, show oN 99 = (-1 : Int32) from rfl, if_pos rfl]
  have hbeg := mc_op hb hM (by omega) c3 hn9
  by_cases c0 : (tks b n k).sort = 40
  · rw [if_pos (show I 0 4 = 40 from by rw [e4, c0]; rfl)]
    rw [c0, if_neg (show ¬ (opC 40 = 99 ∨ 40 = 221 ∧ aah P = false) from fun q => q.elim (by decide) (fun q => absurd q.1 (by decide))), show opC 40 = 40 from rfl] at hbeg
    have hop := mc_opened hb hM (by omega) (by omega) (o := 40) (by decide) (by decide)
    have hxo := xs_opens hb hI ho8
    rw [hcn] at hop
    by_cases c8 : o = 8
    · rw [if_pos c8] at hop hxo
      rw [hxo, tB_th]
      exact Or.inl (Flt.here (e := 3) hk (by decide) rfl (by omega) (by omega) (mS_bf hM (by decide) (hbeg.trans hop)) hM)
    rw [if_neg c8] at hop hxo
    obtain ⟨I1, q1, q2⟩ := hxo
    obtain ⟨I1', J1', r1, r2⟩ := hop
    have hk1 : k + 1 ≤ n := tks_n hb (by omega)
    have run1 : ∀ F, mS (F + (k + 1 - k)) I' J' = mS F I1' J1' := fun F => by
      rw [show k + 1 - k = 1 by omega]
      exact mS_b hM (hbeg.trans r1) F
    rw [q1, tB_ok, tC_0]
    have onx : onow (40 :: P) = 40 := rfl
    rcases Hsum (by omega) (k + 1) I1 I1' J1' (40 :: P) C q2 r2 (by rw [cnt, hcn]; show 1 + o = o + 1; omega) (by rw [List.length_cons]; omega) (by rw [List.length_cons]; omega) hk1 ⟨by show rk 40 < 5; decide, fun _ => rfl⟩ with hF | hG
    · exact Or.inl ((hF.go (by omega) run1 (by omega) (by omega)).bB _)
    obtain ⟨k2, I2, c2, s2, G, its, P1, C2, I2', J2', h1, h2, h3, h4, h5, h6, h7, h8, ⟨Q2, e1, e2, e3⟩, h10, h11, -, h13, h14⟩ := hG
    subst e1
    have run2 : ∀ F, mS (F + (k2 - k)) I' J' = mS F I2' J2' := fun F => by
      rw [← h7 F, ← run1, show F + (k2 - k) = F + (k2 - (k + 1)) + (k + 1 - k) by omega]
    have e2' : ∀ y ∈ Q2, 1 ≤ rk y := fun y hy => by have := e2 y hy; omega
    have on2 : onow (Q2 ++ 40 :: P) = 40 := (onow_app Q2 e2').trans onx
    have bt2 : btw (tks b n k2).sort (Q2 ++ 40 :: P) = 99 := btw_in40 h11 (by rw [on2]; decide)
    rw [h3, tB_ok]
    by_cases d1 : (tks b n k2).sort = 41
    case neg =>
      have pr2 : prt (tks b n k2).sort (Q2 ++ 40 :: P) = 99 := by
        unfold prt
        rw [on2, if_pos rfl, if_neg d1]
      obtain ⟨w1, w2⟩ := want_no hb h4 h8 (by omega) bt2 on2 (by decide) (w := 41) (by decide) d1 pr2
      rw [show (41 : Int32) = nI 41 from rfl, w1, tB_th, tC_s]
      exact Or.inl ⟨k2, 1, I2, _, _, I2', J2', _, C2, 1, by omega, h2, by omega, by omega, rfl, by omega, by omega, fun F => by
        rw [← w2 F, ← run2, show F + 1 + (k2 - k) = F + (k2 - k) + 1 by omega], h8⟩
    have pr2 : prt (tks b n k2).sort (Q2 ++ 40 :: P) = 0 := by
      unfold prt
      rw [on2, if_pos rfl, if_pos d1]
    obtain ⟨hk7, I7, I7', J7', y1, y2, y3, y4⟩ := want_shut hb ht hn h4 h8 h13 h14 h2 bt2 (by omega) e2' e3 (w := 41) (by decide) d1 pr2
    rw [show (41 : Int32) = nI 41 from rfl, y1, tB_ok, tC_0, tC_ok]
    rw [if_neg (by decide)] at y4
    have lenA : (C ++ its).length = C2.length + Q2.length := by rw [← e3, List.length_append, em_len]
    have lQ2 : (Q2 ++ 40 :: P).length = Q2.length + (P.length + 1) := by rw [List.length_append, List.length_cons]
    have hsl := stl_len 7 P (C ++ its)
    refine Or.inr ⟨k2 + 1, t_shut I7, _, _, _, its, _, _, I7', J7', by omega, hk7, rfl, xs_shut y2, by omega, by omega, fun F => ?_, y4, ⟨rfl, rfl⟩, h10, trivial, trivial, by omega, by omega⟩
    rw [← y3 F, ← run2, show F + 1 + (k2 - k) = F + (k2 + 1 - k) by omega]
  rw [if_neg (show ¬ I 0 4 = 40 from by rw [e4]; exact fun q => c0 ((nI_eq (b := 40) (by omega) (by omega)).mp q))]
  have hun : ∀ x, (x = 5 ∧ (tks b n k).sort = 45) ∨ (x = 4 ∧ (tks b n k).sort = 213) ∨ (x = 2 ∧ (tks b n k).sort = 214) → ∀ g : Sem → Sem, (∀ G, g G = fun v => unL v x (G v)) → Flt b n t kc I0 J0 2 0 9 k I' J' (tB (t_opens I) fun I1 _ => tB (one I1) fun I2 G => tC 1 1 (tOk (t_shut I2) (g G))) ∨ Gd b n t kc I0 J0 Rl7 (fun _ => True) (fun _ => True) MnS 0 0 0 k o P C I' J' (tB (t_opens I) fun I1 _ => tB (one I1) fun I2 G => tC 1 1 (tOk (t_shut I2) (g G))) := by
    intro x hx g hg
    have hx' : opC (tks b n k).sort = x ∧ x < 44 ∧ cn x = 1 ∧ rk x = 7 ∧ (tks b n k).sort ≠ 221 ∧ x ≠ 99 ∧ x < 6 := by
      rcases hx with ⟨rfl, e⟩ | ⟨rfl, e⟩ | ⟨rfl, e⟩ <;> rw [e] <;> decide
    rw [hx'.1, if_neg (fun q => q.elim hx'.2.2.2.2.2.1 (fun q => hx'.2.2.2.2.1 q.1))] at hbeg
    have hop := mc_opened hb hM (by omega) (by omega) (o := x) hx'.2.1 hx'.2.2.1
    have hxo := xs_opens hb hI ho8
    rw [hcn] at hop
    by_cases c8 : o = 8
    · rw [if_pos c8] at hop hxo
      rw [hxo, tB_th]
      exact Or.inl (Flt.here (e := 3) hk (by decide) rfl (by omega) (by omega) (mS_bf hM (by decide) (hbeg.trans hop)) hM)
    rw [if_neg c8] at hop hxo
    obtain ⟨I1, q1, q2⟩ := hxo
    obtain ⟨I1', J1', r1, r2⟩ := hop
    have hk1 : k + 1 ≤ n := tks_n hb (by omega)
    have run1 : ∀ F, mS (F + (k + 1 - k)) I' J' = mS F I1' J1' := fun F => by
      rw [show k + 1 - k = 1 by omega]
      exact mS_b hM (hbeg.trans r1) F
    rw [q1, tB_ok, tC_0]
    rcases Hone (by omega) (k + 1) I1 I1' J1' (x :: P) C q2 r2 (by rw [cnt, hcn, hx'.2.2.1]; omega) (by rw [List.length_cons]; omega) (by rw [List.length_cons]; omega) hk1 (fun _ => by unfold aah; rw [show atop (x :: P) = false from decide_eq_false (by omega), Bool.and_false]) with hF | hG
    · exact Or.inl ((hF.go (by omega) run1 (by omega) (by omega)).bB _)
    obtain ⟨k2, I2, c2, s2, G, its, P1, C2, I2', J2', h1, h2, h3, h4, h5, h6, h7, h8, ⟨e1, e2⟩, h10, -, -, h13, h14⟩ := hG
    rw [stl, if_pos (by omega), List.append_assoc] at e1 e2
    rw [h3, tB_ok, tC_tC, tC_ok]
    refine Or.inr ⟨k2, t_shut I2, _, _, _, its ++ [(x, 0)], P1, C2, I2', J2', by omega, h2, rfl, xs_shut h4, by omega, by omega, fun F => ?_, h8, ⟨e1, e2⟩, ?_, trivial, trivial, h13, h14⟩
    · rw [← h7 F, ← run1, show F + (k2 - k) = F + (k2 - (k + 1)) + (k + 1 - k) by omega]
    · rw [hg]
      exact h10.un (by omega)
  by_cases cu : (tks b n k).sort = 45 ∨ (tks b n k).sort = 213 ∨ (tks b n k).sort = 214
  · rcases cu with e | e | e
    · have e' : I 0 4 = 45 := by rw [e4, e]; rfl
      rw [if_pos (Or.inl e')]
      exact hun 5 (Or.inl ⟨rfl, e⟩) (fun G => if I 0 4 = 213 then fun v => halfL (G v) else if I 0 4 = 214 then fun v => knownL v (G v) else fun v => -(G v)) (fun G => by
        rw [e', if_neg (by decide), if_neg (by decide)]
        rfl)
    · have e' : I 0 4 = 213 := by rw [e4, e]; rfl
      rw [if_pos (Or.inr (Or.inl e'))]
      exact hun 4 (Or.inr (Or.inl ⟨rfl, e⟩)) (fun G => if I 0 4 = 213 then fun v => halfL (G v) else if I 0 4 = 214 then fun v => knownL v (G v) else fun v => -(G v)) (fun G => by
        rw [e', if_pos rfl]
        rfl)
    · have e' : I 0 4 = 214 := by rw [e4, e]; rfl
      rw [if_pos (Or.inr (Or.inr e'))]
      exact hun 2 (Or.inr (Or.inr ⟨rfl, e⟩)) (fun G => if I 0 4 = 213 then fun v => halfL (G v) else if I 0 4 = 214 then fun v => knownL v (G v) else fun v => -(G v)) (fun G => by
        rw [e', if_neg (by decide), if_pos rfl]
        rfl)
  · rw [if_neg (show ¬ (I 0 4 = 45 ∨ I 0 4 = 213 ∨ I 0 4 = 214) from fun q => cu (by
      rw [e4] at q
      exact q.imp (fun q => (nI_eq (b := 45) (by omega) (by omega)).mp q) (fun q => q.imp (fun q => (nI_eq (b := 213) (by omega) (by omega)).mp q) (fun q => (nI_eq (b := 214) (by omega) (by omega)).mp q))))]
    rw [if_pos] at hbeg
    · exact Or.inl (Flt.here (e := 1) hk (by decide) (by unfold tThrow; rw [hpl]; rfl) (by omega) (by omega) (mS_bf hM (by decide) hbeg) hM)
    · by_cases c1 : (tks b n k).sort = 221
      · exact Or.inr ⟨c1, hpre c1⟩
      · refine Or.inl ?_
        unfold opC
        rw [if_neg c0, if_neg (fun q => cu (Or.inl q)), if_neg (fun q => cu (Or.inr (Or.inl q))), if_neg (fun q => cu (Or.inr (Or.inr q))), if_neg c5, if_neg c1]
/-- all levels -/
def HOne (b : Nat → Nat) (n t kc : Nat) (I0 : PI) (J0 : PJ) (f : PI → TR Sem) (o : Nat) : Prop := HS b n t kc I0 J0 f o 5 2 9 0 0 (fun s P => s = 221 → aah P = false) Rl7 (fun _ => True) (fun _ => True) MnS
def HSum (b : Nat → Nat) (n t kc : Nat) (I0 : PI) (J0 : PJ) (f : PI → TR Sem) (o : Nat) : Prop := HS b n t kc I0 J0 f o 3 11 36 6 18 (fun s P => tlt 5 P ∧ (s = 221 → aah P = false)) (RlQ 5) NXs (fun _ => True) MnS
def HAsk (b : Nat → Nat) (n t kc : Nat) (I0 : PI) (J0 : PJ) (f : PI → TR Sem) (o : Nat) : Prop := HS b n t kc I0 J0 f o 2 11 36 0 0 (fun _ P => tlt 4 P ∧ onow P = 41) (RlQ 3) NXs (fun P => icm P = true) MnA
def HEither (b : Nat → Nat) (n t kc : Nat) (I0 : PI) (J0 : PJ) (f : PI → TR Sem) (o : Nat) : Prop := HS b n t kc I0 J0 f o 0 18 80 6 32 (fun _ P => tlt 1 P ∧ onow P = 41) (RlQ 1) (fun s => (NXs s ∧ s ≠ 220) ∧ s ≠ 219) (fun P => icm P = true) MnA
theorem HOne.sum (hb : ∀ j, j < n → b j < 256) (ht : t < 4) (hn : n ≤ 300) {f : PI → TR Sem} {o : Nat} (ho : o ≤ 8) (h : HOne b n t kc I0 J0 f o) : HSum b n t kc I0 J0 (t_chain (t_chain f 42 47) 43 45) o := by
  have h1 : HS b n t kc I0 J0 f o (4 + 1) 2 9 0 0 (fun s P => tlt (6 + 1) P ∧ (s = 221 → aah P = false)) (RlQ (6 + 1)) (fun _ => True) (fun _ => True) MnS := HS.mono h (fun s P q => q.2) (fun s P D P1 C1 q r => by
    rw [Rl7, stl_tlt (r := 7) q.1] at r
    refine ⟨[], r.1, fun x hx => absurd hx List.not_mem_nil, ?_⟩
    rw [r.2]
    exact List.append_nil _) (fun _ _ => trivial) (Nat.le_refl _) (Nat.le_refl _) (Nat.le_refl _) (Nat.le_refl _)
  have h2 := sim_chain (s1 := 42) (s2 := 47) (r := 6) (o1 := 8) (o2 := 9) hb ht hn (Or.inr rfl) ⟨by decide, by decide⟩ (fun P => rfl) (fun P => rfl) ⟨rfl, by decide, by decide⟩ ⟨rfl, by decide, by decide⟩ (fun x y => (chainS_tw x y).2.2.1) (fun x y => (chainS_tw x y).2.2.2) (by omega) (by omega) (by omega) ho h1
  have h3 := sim_chain (s1 := 43) (s2 := 45) (r := 5) (o1 := 6) (o2 := 7) (pc := 3) hb ht hn (Or.inl rfl) ⟨by decide, by decide⟩ (fun P => rfl) (fun P => rfl) ⟨rfl, by decide, by decide⟩ ⟨rfl, by decide, by decide⟩ (fun x y => (chainS_tw x y).1) (fun x y => (chainS_tw x y).2.1) (by omega) (by omega) (by omega) ho h2
  exact HS.mono h3 (fun s P q => q) (fun s P D P1 C1 q r => r) (fun s q => ⟨q.1.2.1, q.1.2.2, q.2.1, q.2.2⟩) (by omega) (by omega) (by omega) (by omega)
theorem HAsk.either (hb : ∀ j, j < n → b j < 256) (ht : t < 4) (hn : n ≤ 300) {f : PI → TR Sem} {o : Nat} (ho : o ≤ 8) (h : HAsk b n t kc I0 J0 f o) : HEither b n t kc I0 J0 (t_junc (t_junc f 220 1) 219 0) o := by
  have h1 : HS b n t kc I0 J0 f o (1 + 1) 11 36 0 0 (fun _ P => tlt (2 + 1) P ∧ onow P = 41) (RlQ (2 + 1)) NXs (fun P => icm P = true) MnA := HS.mono h (fun s P q => ⟨by
    cases P with
    | nil => trivial
    | cons x P => exact Nat.lt_succ_of_lt q.1, q.2⟩) (fun s P D P1 C1 q r => r) (fun _ q => q) (Nat.le_refl _) (Nat.le_refl _) (Nat.le_refl _) (Nat.le_refl _)
  have h2 := sim_junc (w := 220) (a := 1) (r := 2) (op := 21) hb ht hn (by decide) (Or.inr ⟨rfl, rfl⟩) (fun P h1 h2 => by
    unfold btw
    rw [if_pos h1, if_pos h2]
    rfl) rfl (by omega) (by omega) (by omega) ho h1
  have h3 := sim_junc (w := 219) (a := 0) (r := 1) (op := 22) (pc := 0) hb ht hn (by decide) (Or.inl ⟨rfl, rfl⟩) (fun P h1 h2 => by
    unfold btw
    rw [if_pos h1, if_pos h2]
    rfl) rfl (by omega) (by omega) (by omega) ho h2
  exact HS.mono h3 (fun s P q => q) (fun s P D P1 C1 q r => r) (fun s q => q) (by omega) (by omega) (by omega) (by omega)
theorem sim_lv (hb : ∀ j, j < n → b j < 256) (ht : t < 4) (hn : n ≤ 300) (hkc : kc < 2) : ∀ lv o, o ≤ 8 → 8 ≤ o + lv → HOne b n t kc I0 J0 (t_lv lv).1 o ∧ HAsk b n t kc I0 J0 (t_lv lv).2 o := by
  intro lv
  induction lv with
  | zero =>
    intro o ho hl
    have h1 : HOne b n t kc I0 J0 (t_lv 0).1 o := sim_one hb ht hn hkc ho (fun q => by omega) (fun q => by omega) (fun q => by omega)
    exact ⟨h1, sim_ask hb ht hn ho (fun q => by omega) (h1.sum hb ht hn ho)⟩
  | succ lv ih =>
    intro o ho hl
    have h1 : HOne b n t kc I0 J0 (t_lv (lv + 1)).1 o := sim_one hb ht hn hkc ho (fun q => (ih (o + 1) (by omega) (by omega)).1) (fun q => (ih (o + 1) (by omega) (by omega)).2.either hb ht hn (by omega)) (fun q => (ih (o + 1) (by omega) (by omega)).1.sum hb ht hn (by omega))
    exact ⟨h1, sim_ask hb ht hn ho (fun q => (ih (o + 1) (by omega) (by omega)).2) (h1.sum hb ht hn ho)⟩
theorem sim_sum (hb : ∀ j, j < n → b j < 256) (ht : t < 4) (hn : n ≤ 300) (hkc : kc < 2) : HSum b n t kc I0 J0 (t_sum 8) 0 := (sim_lv hb ht hn hkc 8 0 (by omega) (by omega)).1.sum hb ht hn (by omega)
end SL
