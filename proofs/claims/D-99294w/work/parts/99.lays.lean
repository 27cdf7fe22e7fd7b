/-! the least group, 2: the class's sayings laid -/
def outX (t i : Nat) : Bool := !soB (plcT i) (t / 25) (t / 5 % 5) (t % 5)
/-- a mask of no more than v places -/
def mskV (w : Int64) (v : Nat) (f : Nat → Bool) : Prop := ∀ i, i < 64 → bitL w i = (decide (i < 60) && (decide (i < v) && f i))
theorem mskV_full {w : Int64} {v : Nat} {f : Nat → Bool} (h : mskV w v f) (hv : 60 ≤ v) : msk w f := fun i hi => by
  rw [h i hi]
  by_cases c : i < 60
  · rw [decide_eq_true (p := i < v) (by omega), Bool.true_and]
  · rw [decide_eq_false c, Bool.false_and, Bool.false_and]
theorem mskV_0 {f : Nat → Bool} : mskV 0 0 f := fun i hi => by
  rw [bitL_0, decide_eq_false (p := i < 0) (by omega), Bool.false_and, Bool.and_false]
theorem mskV_no {w : Int64} {v : Nat} {f : Nat → Bool} (h : mskV w v f) (hf : f v = false ∨ 60 ≤ v) : mskV w (v + 1) f := fun i hi => by
  rw [h i hi]
  by_cases c : i = v
  · subst c
    rcases hf with e | e
    · rw [e, Bool.and_false, Bool.and_false, Bool.and_false, Bool.and_false]
    · rw [decide_eq_false (p := i < 60) (by omega), Bool.false_and, Bool.false_and]
  · have : decide (i < v) = decide (i < v + 1) := decide_eq_decide.mpr ⟨fun q => by omega, fun q => by omega⟩
    rw [this]
theorem mskV_yes {w : Int64} {v : Nat} {f : Nat → Bool} (h : mskV w v f) (hf : f v = true) (hv : v < 60) : mskV (w ||| ((1 : Int64) <<< (Int32.toInt64 (nI v) &&& (63 : Int64)))) (v + 1) f := fun i hi => by
  rw [bitL_or, bitL_one v hv i hi, h i hi]
  by_cases c : i = v
  · subst c
    rw [decide_eq_true (p := i = i) rfl, Bool.or_true, decide_eq_true (p := i < 60) hv, decide_eq_true (p := i < i + 1) (by omega), hf]
    rfl
  · have : decide (i < v) = decide (i < v + 1) := decide_eq_decide.mpr ⟨fun q => by omega, fun q => by omega⟩
    rw [this, decide_eq_false c, Bool.or_false]
theorem mskV_congr {w : Int64} {v v' : Nat} {f : Nat → Bool} (h : mskV w v f) (e : v = v') : mskV w v' f := e ▸ h
section LAY
variable {s si : SN} {I : PI} {T : PT} {X : TS} {tN : XCo} {I' : PI} {J' : PJ}
theorem px_addsSaying (ht : CTab I I') (J : PJ) {o k a b n c : Nat} (ho : o < 120) (hk : k < 5) (ha : a < 5) (hb : b < 5) (hn : n < 125) (h12 : I 0 12 = nI n) :
    ∃ J1, x_addsSaying I J (nI o) (nI k) (nI a) (nI b) (nI c) = some (u2 (u2 I 119 n (nI c)) 0 12 (nI (n + 1)), J1) ∧ msk (J1 117 n) (fun i => !soB (plcT i) k a b) ∧ msk (J1 118 n) (fun i => !soB (plcT (60 + i)) k a b) ∧ ∀ q j, (q ≠ 117 ∧ q ≠ 118) ∨ j ≠ n → J1 q j = J q j := by
  obtain ⟨J1, ⟨h1, h2, h3⟩, h4⟩ := pz_loop (fun f v (A : PJ) => x_addsSaying_l23 I (nI k) (nI a) (nI b) f (nI v) A) 120 (fun A => some A) (fun v A => mskV (A 117 n) v (fun i => !soB (plcT i) k a b) ∧ mskV (A 118 n) (v - 60) (fun i => !soB (plcT (60 + i)) k a b) ∧ ∀ q j, (q ≠ 117 ∧ q ≠ 118) ∨ j ≠ n → A q j = J q j) (fun f A _ => by
      show x_addsSaying_b23 I (nI k) (nI a) (nI b) (x_addsSaying_l23 I (nI k) (nI a) (nI b) f) (nI 120) A = _
      unfold x_addsSaying_b23
      simp (disch := omega) only [pz_0, pz_1, pz_2, pz_3, pz_4, pz_5, pz_6, pz_7, pz_8, pz_9, pz_10, pz_11, pz_12, pz_13, pz_14, pz_15, pz_16, pz_20, pz_21, pz_22, pz_24, pz_25, pz_30, pz_31, pz_32, pz_35, pz_40, pz_41, pz_42, pz_43, pz_45, pz_47, pz_48, pz_52, pz_57, pz_58, pz_59, pz_60, pz_61, pz_62, pz_63, pz_65, pz_85, pz_90, pz_97, pz_98, pz_99, pz_100, pz_101, pz_102, pz_103, pz_104, pz_105, pz_107, pz_108, pz_109, pz_110, pz_111, pz_112, pz_114, pz_115, pz_116, pz_119, pz_120, pz_121, pz_122, pz_125, pz_127, pz_153, pz_200, pz_201, pz_202, pz_203, pz_204, pz_205, pz_206, pz_207, pz_208, pz_209, pz_210, pz_211, pz_212, pz_213, pz_214, pz_215, pz_216, pz_217, pz_218, pz_219, pz_220, pz_221, pz_222, pz_223, pz_224, pz_225, pz_255, pz_256, pz_271, pz_300, pz_301, pz_302, pz_303, pz_304, pz_400, pz_401, pz_521, pz_705, pz_1000, pz_1508, pz_1661, pz_1691, pz_2400, pz_3125, pz_9999, pz_10000, pz_30703, pz_65536, pz_99999, pz_1000000, pz_lt, pz_ck, pz_u2, pz_u3, pz_u4, pz_bs, pz_ix, pz_inb, pz_add, pz_mul, pz_sub, nI_leI, nI_ltI, nI_eq, pz_bIt, pz_bIf, pz_isb, pz_isb0, pz_isb1, pz_bI0, pz_bI1, Nat.zero_le, true_and, and_true, decide_true, decide_false, Bool.true_eq_false, Bool.false_eq_true, if_true, if_false, Nat.reduceAdd, Nat.reduceMul, Nat.reduceSub, Nat.reduceEqDiff, Nat.reduceLeDiff, Nat.reduceLT, Nat.one_ne_zero, Nat.zero_ne_one, Nat.le_refl]) (fun f v A hv hP => by
      obtain ⟨p1, p2, p3⟩ := hP
      obtain ⟨q, -⟩ := pe_isSo ht (i := v) (k := k) (a := a) (b := b) hv ha hb hk
      have st : x_addsSaying_b23 I (nI k) (nI a) (nI b) (x_addsSaying_l23 I (nI k) (nI a) (nI b) f) (nI v) A = if soB (plcT v) k a b = false then (if 60 ≤ v then x_addsSaying_l23 I (nI k) (nI a) (nI b) f (nI (v + 1)) (u2 A 118 n ((A 118 n) ||| ((1 : Int64) <<< (Int32.toInt64 (nI v - nI 60) &&& 63)))) else x_addsSaying_l23 I (nI k) (nI a) (nI b) f (nI (v + 1)) (u2 A 117 n ((A 117 n) ||| ((1 : Int64) <<< (Int32.toInt64 (nI v) &&& 63))))) else x_addsSaying_l23 I (nI k) (nI a) (nI b) f (nI (v + 1)) A := by
        unfold x_addsSaying_b23 x_addsSaying_j91
        simp (disch := omega) only [pz_120, pz_60, pz_1, pz_0, pz_12, pz_125, pz_lt, pz_ck, pz_bs, pz_ix, pz_inb, pz_add, nI_leI, pz_bI0, if_false, if_true, Nat.not_le.mpr hv, q, h12]
      cases hs : soB (plcT v) k a b with
      | true =>
        refine ⟨A, by show x_addsSaying_b23 _ _ _ _ _ _ _ = _; rw [st, if_neg (by rw [hs]; decide)], mskV_no p1 (Or.inl (by show (!soB (plcT v) k a b) = false; rw [hs]; rfl)), ?_, p3⟩
        by_cases c6 : 60 ≤ v
        · refine mskV_congr (mskV_no p2 (Or.inl ?_)) (by omega)
          show (!soB (plcT (60 + (v - 60))) k a b) = false
          rw [show 60 + (v - 60) = v by omega, hs]
          rfl
        · exact mskV_congr p2 (by omega)
      | false =>
        by_cases c6 : 60 ≤ v
        · refine ⟨_, by show x_addsSaying_b23 _ _ _ _ _ _ _ = _; rw [st, if_pos hs, if_pos c6], ?_, ?_, fun q j hq => ?_⟩
          · simp (disch := omega) only [pz_row, pz_at, pz_no]
            exact mskV_no p1 (Or.inr c6)
          · simp (disch := omega) only [pz_row, pz_at, pz_no]
            rw [pz_sub c6]
            refine mskV_congr (mskV_yes p2 ?_ (by omega)) (by omega)
            show (!soB (plcT (60 + (v - 60))) k a b) = true
            rw [show 60 + (v - 60) = v by omega, hs]
            rfl
          · rw [u2_ne _ _ (by omega)]
            exact p3 q j hq
        · refine ⟨_, by show x_addsSaying_b23 _ _ _ _ _ _ _ = _; rw [st, if_pos hs, if_neg c6], ?_, ?_, fun q j hq => ?_⟩
          · simp (disch := omega) only [pz_row, pz_at, pz_no]
            exact mskV_yes p1 (by show (!soB (plcT v) k a b) = true; rw [hs]; rfl) (by omega)
          · simp (disch := omega) only [pz_row, pz_at, pz_no]
            exact mskV_congr p2 (by omega)
          · rw [u2_ne _ _ (by omega)]
            exact p3 q j hq) 120 fu 0 (u2 (u2 J 117 n 0) 118 n 0) (by omega) (fu_gt (by omega)) ⟨by simp (disch := omega) only [pz_row, pz_at, pz_no]; exact mskV_0, by simp (disch := omega) only [pz_row, pz_at, pz_no]; exact mskV_0, fun q j hq => by rw [u2_ne _ _ (by omega), u2_ne _ _ (by omega)]⟩
  refine ⟨J1, ?_, mskV_full h1 (by omega), mskV_full h2 (by omega), h3⟩
  unfold x_addsSaying
  have h4 : x_addsSaying_l23 I (nI k) (nI a) (nI b) fu (nI 0) (u2 (u2 J 117 n 0) 118 n 0) = some J1 := h4
  simp (disch := omega) only [pz_0, pz_1, pz_2, pz_3, pz_4, pz_5, pz_6, pz_7, pz_8, pz_9, pz_10, pz_11, pz_12, pz_13, pz_14, pz_15, pz_16, pz_20, pz_21, pz_22, pz_24, pz_25, pz_30, pz_31, pz_32, pz_35, pz_40, pz_41, pz_42, pz_43, pz_45, pz_47, pz_48, pz_52, pz_57, pz_58, pz_59, pz_60, pz_61, pz_62, pz_63, pz_65, pz_85, pz_90, pz_97, pz_98, pz_99, pz_100, pz_101, pz_102, pz_103, pz_104, pz_105, pz_107, pz_108, pz_109, pz_110, pz_111, pz_112, pz_114, pz_115, pz_116, pz_119, pz_120, pz_121, pz_122, pz_125, pz_127, pz_153, pz_200, pz_201, pz_202, pz_203, pz_204, pz_205, pz_206, pz_207, pz_208, pz_209, pz_210, pz_211, pz_212, pz_213, pz_214, pz_215, pz_216, pz_217, pz_218, pz_219, pz_220, pz_221, pz_222, pz_223, pz_224, pz_225, pz_255, pz_256, pz_271, pz_300, pz_301, pz_302, pz_303, pz_304, pz_400, pz_401, pz_521, pz_705, pz_1000, pz_1508, pz_1661, pz_1691, pz_2400, pz_3125, pz_9999, pz_10000, pz_30703, pz_65536, pz_99999, pz_1000000, pz_lt, pz_ck, pz_u2, pz_u3, pz_u4, pz_bs, pz_ix, pz_inb, pz_add, pz_mul, pz_sub, nI_leI, nI_ltI, nI_eq, pz_bIt, pz_bIf, pz_isb, pz_isb0, pz_isb1, pz_bI0, pz_bI1, Nat.zero_le, true_and, and_true, decide_true, decide_false, Bool.true_eq_false, Bool.false_eq_true, if_true, if_false, Nat.reduceAdd, Nat.reduceMul, Nat.reduceSub, Nat.reduceEqDiff, Nat.reduceLeDiff, Nat.reduceLT, Nat.one_ne_zero, Nat.zero_ne_one, pz_125, h12, h4, pz_row, pz_at, pz_no]
theorem px_saying : ∀ k, k < 5 → ∀ a, a < 5 → ∀ b, b < 5 → x_isSaying (nI k) (nI a) (nI b) = some (bI (sayV k a b)) := by decide +kernel
/-- what the class lays of its codes -/
def xa (s : SN) (forms o t : Nat) : Bool := decide (cst s forms (t / 25) ≠ 0) && sayV (t / 25) (t / 5 % 5) (t % 5) && soB (plcT o) (t / 25) (t / 5 % 5) (t % 5)
def xl (s : SN) (forms o n : Nat) : List Nat := (List.range n).filter (xa s forms o)
theorem xl_succ (s : SN) (forms o n : Nat) : xl s forms o (n + 1) = xl s forms o n ++ (if xa s forms o n then [n] else []) := by
  unfold xl
  rw [List.range_succ, List.filter_append]
  congr 1
  by_cases c : xa s forms o n = true
  · rw [if_pos c, List.filter_cons_of_pos c]; rfl
  · rw [if_neg c, List.filter_cons_of_neg c]; rfl
theorem xl_len (s : SN) (forms o n : Nat) : (xl s forms o n).length ≤ n := by
  unfold xl
  have := List.length_filter_le (xa s forms o) (List.range n)
  rwa [List.length_range] at this
/-- the class's planes with the sayings laid so far -/
def CSY (s : SN) (forms o n : Nat) (I : PI) (J : PJ) (I1 : PI) (J1 : PJ) : Prop := I1 0 12 = nI (xl s forms o n).length ∧ (∀ j, j < (xl s forms o n).length → I1 119 j = nI (cst s forms ((xl s forms o n).getD j 0 / 25)) ∧ msk (J1 117 j) (outX ((xl s forms o n).getD j 0)) ∧ msk (J1 118 j) (fun i => outX ((xl s forms o n).getD j 0) (60 + i))) ∧ (∀ k, k ≠ 0 → k ≠ 119 → I1 k = I k) ∧ ∀ i, i ≠ 12 → I1 0 i = I 0 i
theorem CSY.no {forms o n : Nat} {I1 : PI} {J J1 : PJ} (h : CSY s forms o n I J I1 J1) (hf : xa s forms o n = false) : CSY s forms o (n + 1) I J I1 J1 := by
  have e : xl s forms o (n + 1) = xl s forms o n := by rw [xl_succ, if_neg (by rw [hf]; decide), List.append_nil]
  unfold CSY
  rw [e]
  exact h
theorem CSY.nos {forms o n : Nat} {I1 : PI} {J J1 : PJ} (h : CSY s forms o n I J I1 J1) : ∀ m, (∀ t, n ≤ t → t < n + m → xa s forms o t = false) → CSY s forms o (n + m) I J I1 J1
  | 0, _ => h
  | m + 1, hf => (CSY.nos h m fun t h1 h2 => hf t h1 (by omega)).no (hf (n + m) (by omega) (by omega))
theorem XR.keepY {I1 : PI} (hX : XR s I) (h : ∀ k, k ≠ 0 → k ≠ 119 → I1 k = I k) : XR s I1 := ⟨fun k j hk hj => by rw [h k (by omega) (by omega)]; exact hX.1 k j hk hj, by rw [h 2 (by omega) (by omega)]; exact hX.2⟩
theorem CTab.keepY {I1 : PI} (ht : CTab I I') (h : ∀ k, k ≠ 0 → k ≠ 119 → I1 k = I k) : CTab I1 I' := fun i d hi hd => by
  rw [h (122 + i) (by omega) (by omega), h (242 + i) (by omega) (by omega)]
  exact ht i d hi hd
theorem px_lays1 (ht : CTab I I') (J : PJ) {forms o k a : Nat} (ho : o < 120) (hk : k < 5) (ha : a < 5) (hc0 : cst s forms k ≠ 0) {A : PI} {B : PJ} (h : CSY s forms o (25 * k + 5 * a) I J A B) :
    ∃ A1 B1, x_laysSayings_l39 (nI o) (nI k) (nI (cst s forms k)) (nI a) fu (nI 0) A B = some (A1, B1) ∧ CSY s forms o (25 * k + 5 * a + 5) I J A1 B1 := by
  obtain ⟨⟨A1, B1⟩, h1, h2⟩ := pz_loop (fun f v (x : PI × PJ) => x_laysSayings_l39 (nI o) (nI k) (nI (cst s forms k)) (nI a) f (nI v) x.1 x.2) 5 (fun x => some (x.1, x.2)) (fun v x => CSY s forms o (25 * k + 5 * a + v) I J x.1 x.2) (fun f x _ => by
      show x_laysSayings_b39 (nI o) (nI k) (nI (cst s forms k)) (nI a) (x_laysSayings_l39 (nI o) (nI k) (nI (cst s forms k)) (nI a) f) (nI 5) x.1 x.2 = _
      unfold x_laysSayings_b39
      simp (disch := omega) only [pz_0, pz_1, pz_2, pz_3, pz_4, pz_5, pz_6, pz_7, pz_8, pz_9, pz_10, pz_11, pz_12, pz_13, pz_14, pz_15, pz_16, pz_20, pz_21, pz_22, pz_24, pz_25, pz_30, pz_31, pz_32, pz_35, pz_40, pz_41, pz_42, pz_43, pz_45, pz_47, pz_48, pz_52, pz_57, pz_58, pz_59, pz_60, pz_61, pz_62, pz_63, pz_65, pz_85, pz_90, pz_97, pz_98, pz_99, pz_100, pz_101, pz_102, pz_103, pz_104, pz_105, pz_107, pz_108, pz_109, pz_110, pz_111, pz_112, pz_114, pz_115, pz_116, pz_119, pz_120, pz_121, pz_122, pz_125, pz_127, pz_153, pz_200, pz_201, pz_202, pz_203, pz_204, pz_205, pz_206, pz_207, pz_208, pz_209, pz_210, pz_211, pz_212, pz_213, pz_214, pz_215, pz_216, pz_217, pz_218, pz_219, pz_220, pz_221, pz_222, pz_223, pz_224, pz_225, pz_255, pz_256, pz_271, pz_300, pz_301, pz_302, pz_303, pz_304, pz_400, pz_401, pz_521, pz_705, pz_1000, pz_1508, pz_1661, pz_1691, pz_2400, pz_3125, pz_9999, pz_10000, pz_30703, pz_65536, pz_99999, pz_1000000, pz_lt, pz_ck, pz_u2, pz_u3, pz_u4, pz_bs, pz_ix, pz_inb, pz_add, pz_mul, pz_sub, nI_leI, nI_ltI, nI_eq, pz_bIt, pz_bIf, pz_isb, pz_isb0, pz_isb1, pz_bI0, pz_bI1, Nat.zero_le, true_and, and_true, decide_true, decide_false, Bool.true_eq_false, Bool.false_eq_true, if_true, if_false, Nat.reduceAdd, Nat.reduceMul, Nat.reduceSub, Nat.reduceEqDiff, Nat.reduceLeDiff, Nat.reduceLT, Nat.one_ne_zero, Nat.zero_ne_one, Nat.le_refl]) (fun f v x hv hP => by
      obtain ⟨A, B⟩ := x
      have hP : CSY s forms o (25 * k + 5 * a + v) I J A B := hP
      have hq := px_saying k hk a ha v hv
      have hl := xl_len s forms o (25 * k + 5 * a + v)
      have ht1 := ht.keepY hP.2.2.1
      obtain ⟨q2, -⟩ := pe_isSo ht1 (i := o) (k := k) (a := a) (b := v) ho ha hv hk
      have d1 : (25 * k + 5 * a + v) / 25 = k := by omega
      have d2 : (25 * k + 5 * a + v) / 5 % 5 = a := by omega
      have d3 : (25 * k + 5 * a + v) % 5 = v := by omega
      have hxa : xa s forms o (25 * k + 5 * a + v) = (sayV k a v && soB (plcT o) k a v) := by
        unfold xa
        rw [d1, d2, d3, decide_eq_true hc0, Bool.true_and]
      obtain ⟨B1, e1, e2, e3, e4⟩ := px_addsSaying ht1 B (c := cst s forms k) ho hk ha hv (n := (xl s forms o (25 * k + 5 * a + v)).length) (by omega) hP.1
      have st : x_laysSayings_b39 (nI o) (nI k) (nI (cst s forms k)) (nI a) (x_laysSayings_l39 (nI o) (nI k) (nI (cst s forms k)) (nI a) f) (nI v) A B = if xa s forms o (25 * k + 5 * a + v) = true then x_laysSayings_l39 (nI o) (nI k) (nI (cst s forms k)) (nI a) f (nI (v + 1)) (u2 (u2 A 119 (xl s forms o (25 * k + 5 * a + v)).length (nI (cst s forms k))) 0 12 (nI ((xl s forms o (25 * k + 5 * a + v)).length + 1))) B1 else x_laysSayings_l39 (nI o) (nI k) (nI (cst s forms k)) (nI a) f (nI (v + 1)) A B := by
        unfold x_laysSayings_b39 x_laysSayings_j81
        simp (disch := omega) only [pz_0, pz_1, pz_2, pz_3, pz_4, pz_5, pz_6, pz_7, pz_8, pz_9, pz_10, pz_11, pz_12, pz_13, pz_14, pz_15, pz_16, pz_20, pz_21, pz_22, pz_24, pz_25, pz_30, pz_31, pz_32, pz_35, pz_40, pz_41, pz_42, pz_43, pz_45, pz_47, pz_48, pz_52, pz_57, pz_58, pz_59, pz_60, pz_61, pz_62, pz_63, pz_65, pz_85, pz_90, pz_97, pz_98, pz_99, pz_100, pz_101, pz_102, pz_103, pz_104, pz_105, pz_107, pz_108, pz_109, pz_110, pz_111, pz_112, pz_114, pz_115, pz_116, pz_119, pz_120, pz_121, pz_122, pz_125, pz_127, pz_153, pz_200, pz_201, pz_202, pz_203, pz_204, pz_205, pz_206, pz_207, pz_208, pz_209, pz_210, pz_211, pz_212, pz_213, pz_214, pz_215, pz_216, pz_217, pz_218, pz_219, pz_220, pz_221, pz_222, pz_223, pz_224, pz_225, pz_255, pz_256, pz_271, pz_300, pz_301, pz_302, pz_303, pz_304, pz_400, pz_401, pz_521, pz_705, pz_1000, pz_1508, pz_1661, pz_1691, pz_2400, pz_3125, pz_9999, pz_10000, pz_30703, pz_65536, pz_99999, pz_1000000, pz_lt, pz_ck, pz_u2, pz_u3, pz_u4, pz_bs, pz_ix, pz_inb, pz_add, pz_mul, pz_sub, nI_leI, nI_ltI, nI_eq, pz_bIt, pz_bIf, pz_isb, pz_isb0, pz_isb1, pz_bI0, pz_bI1, Nat.zero_le, true_and, and_true, decide_true, decide_false, Bool.true_eq_false, Bool.false_eq_true, if_true, if_false, Nat.reduceAdd, Nat.reduceMul, Nat.reduceSub, Nat.reduceEqDiff, Nat.reduceLeDiff, Nat.reduceLT, Nat.one_ne_zero, Nat.zero_ne_one, Nat.not_le.mpr hv, hq, q2, e1]
        rw [hxa]
        cases sayV k a v <;> cases soB (plcT o) k a v <;> rfl
      by_cases c : xa s forms o (25 * k + 5 * a + v) = true
      · refine ⟨(u2 (u2 A 119 (xl s forms o (25 * k + 5 * a + v)).length (nI (cst s forms k))) 0 12 (nI ((xl s forms o (25 * k + 5 * a + v)).length + 1)), B1), st.trans (if_pos c), ?_⟩
        obtain ⟨p1, p2, p3, p4⟩ := hP
        have el : xl s forms o (25 * k + 5 * a + v + 1) = xl s forms o (25 * k + 5 * a + v) ++ [25 * k + 5 * a + v] := by rw [xl_succ, if_pos c]
        show CSY s forms o (25 * k + 5 * a + v + 1) I J (u2 (u2 A 119 (xl s forms o (25 * k + 5 * a + v)).length (nI (cst s forms k))) 0 12 (nI ((xl s forms o (25 * k + 5 * a + v)).length + 1))) B1
        unfold CSY
        rw [el, List.length_append, List.length_singleton]
        refine ⟨(by simp (disch := omega) only [pz_row, pz_at, pz_no]), fun j hj => ?_, fun q h1 h2 => by simp (disch := omega) only [pz_row, pz_at, pz_no]; exact p3 q h1 h2, fun i hi => by simp (disch := omega) only [pz_row, pz_at, pz_no]; exact p4 i hi⟩
        by_cases q : j = (xl s forms o (25 * k + 5 * a + v)).length
        · have eg : (xl s forms o (25 * k + 5 * a + v) ++ [25 * k + 5 * a + v]).getD j 0 = 25 * k + 5 * a + v := by
            subst q
            rw [List.getD_eq_getElem?_getD, List.getElem?_append_right (Nat.le_refl _), Nat.sub_self]
            rfl
          have eo : outX (25 * k + 5 * a + v) = fun i => !soB (plcT i) k a v := by
            funext i
            unfold outX
            rw [d1, d2, d3]
          rw [eg, d1, eo, q]
          exact ⟨(by simp (disch := omega) only [pz_row, pz_at, pz_no]), e2, e3⟩
        · have eg : (xl s forms o (25 * k + 5 * a + v) ++ [25 * k + 5 * a + v]).getD j 0 = (xl s forms o (25 * k + 5 * a + v)).getD j 0 := by
            rw [List.getD_eq_getElem?_getD, List.getElem?_append_left (by omega), ← List.getD_eq_getElem?_getD]
          obtain ⟨r1, r2, r3⟩ := p2 j (by omega)
          rw [eg, e4 117 j (Or.inr q), e4 118 j (Or.inr q)]
          exact ⟨by simp (disch := omega) only [pz_row, pz_at, pz_no]; exact r1, r2, r3⟩
      · exact ⟨(A, B), st.trans (if_neg c), hP.no (by simpa using c)⟩) 5 fu 0 (A, B) (by omega) (fu_gt (by omega)) h
  exact ⟨A1, B1, h2, h1⟩
theorem px_lays2 (ht : CTab I I') (J : PJ) {forms o k : Nat} (ho : o < 120) (hk : k < 5) (hc0 : cst s forms k ≠ 0) (hc9 : cst s forms k ≤ 9) {A : PI} {B : PJ} (h : CSY s forms o (25 * k) I J A B) :
    ∃ A1 B1, x_laysSayings_l23 (nI o) (nI k) (nI (cst s forms k)) fu (nI 0) A B = some (A1, B1) ∧ CSY s forms o (25 * k + 25) I J A1 B1 := by
  obtain ⟨⟨A1, B1⟩, h1, h2⟩ := pz_loop (fun f v (x : PI × PJ) => x_laysSayings_l23 (nI o) (nI k) (nI (cst s forms k)) f (nI v) x.1 x.2) 5 (fun x => some (x.1, x.2)) (fun v x => CSY s forms o (25 * k + 5 * v) I J x.1 x.2) (fun f x _ => by
      show x_laysSayings_b23 (nI o) (nI k) (nI (cst s forms k)) (x_laysSayings_l23 (nI o) (nI k) (nI (cst s forms k)) f) (nI 5) x.1 x.2 = _
      unfold x_laysSayings_b23
      simp (disch := omega) only [pz_0, pz_1, pz_2, pz_3, pz_4, pz_5, pz_6, pz_7, pz_8, pz_9, pz_10, pz_11, pz_12, pz_13, pz_14, pz_15, pz_16, pz_20, pz_21, pz_22, pz_24, pz_25, pz_30, pz_31, pz_32, pz_35, pz_40, pz_41, pz_42, pz_43, pz_45, pz_47, pz_48, pz_52, pz_57, pz_58, pz_59, pz_60, pz_61, pz_62, pz_63, pz_65, pz_85, pz_90, pz_97, pz_98, pz_99, pz_100, pz_101, pz_102, pz_103, pz_104, pz_105, pz_107, pz_108, pz_109, pz_110, pz_111, pz_112, pz_114, pz_115, pz_116, pz_119, pz_120, pz_121, pz_122, pz_125, pz_127, pz_153, pz_200, pz_201, pz_202, pz_203, pz_204, pz_205, pz_206, pz_207, pz_208, pz_209, pz_210, pz_211, pz_212, pz_213, pz_214, pz_215, pz_216, pz_217, pz_218, pz_219, pz_220, pz_221, pz_222, pz_223, pz_224, pz_225, pz_255, pz_256, pz_271, pz_300, pz_301, pz_302, pz_303, pz_304, pz_400, pz_401, pz_521, pz_705, pz_1000, pz_1508, pz_1661, pz_1691, pz_2400, pz_3125, pz_9999, pz_10000, pz_30703, pz_65536, pz_99999, pz_1000000, pz_lt, pz_ck, pz_u2, pz_u3, pz_u4, pz_bs, pz_ix, pz_inb, pz_add, pz_mul, pz_sub, nI_leI, nI_ltI, nI_eq, pz_bIt, pz_bIf, pz_isb, pz_isb0, pz_isb1, pz_bI0, pz_bI1, Nat.zero_le, true_and, and_true, decide_true, decide_false, Bool.true_eq_false, Bool.false_eq_true, if_true, if_false, Nat.reduceAdd, Nat.reduceMul, Nat.reduceSub, Nat.reduceEqDiff, Nat.reduceLeDiff, Nat.reduceLT, Nat.one_ne_zero, Nat.zero_ne_one, Nat.le_refl]) (fun f v x hv hP => by
      obtain ⟨A, B⟩ := x
      obtain ⟨A1, B1, e1, e2⟩ := px_lays1 ht J ho hk hv hc0 hP
      have c9 : ¬ 99999 ≤ cst s forms k := by omega
      rw [show 25 * k + 5 * v + 5 = 25 * k + 5 * (v + 1) by omega] at e2
      refine ⟨(A1, B1), ?_, e2⟩
      show x_laysSayings_b23 (nI o) (nI k) (nI (cst s forms k)) (x_laysSayings_l23 (nI o) (nI k) (nI (cst s forms k)) f) (nI v) A B = _
      unfold x_laysSayings_b23
      simp (disch := omega) only [pz_0, pz_1, pz_2, pz_3, pz_4, pz_5, pz_6, pz_7, pz_8, pz_9, pz_10, pz_11, pz_12, pz_13, pz_14, pz_15, pz_16, pz_20, pz_21, pz_22, pz_24, pz_25, pz_30, pz_31, pz_32, pz_35, pz_40, pz_41, pz_42, pz_43, pz_45, pz_47, pz_48, pz_52, pz_57, pz_58, pz_59, pz_60, pz_61, pz_62, pz_63, pz_65, pz_85, pz_90, pz_97, pz_98, pz_99, pz_100, pz_101, pz_102, pz_103, pz_104, pz_105, pz_107, pz_108, pz_109, pz_110, pz_111, pz_112, pz_114, pz_115, pz_116, pz_119, pz_120, pz_121, pz_122, pz_125, pz_127, pz_153, pz_200, pz_201, pz_202, pz_203, pz_204, pz_205, pz_206, pz_207, pz_208, pz_209, pz_210, pz_211, pz_212, pz_213, pz_214, pz_215, pz_216, pz_217, pz_218, pz_219, pz_220, pz_221, pz_222, pz_223, pz_224, pz_225, pz_255, pz_256, pz_271, pz_300, pz_301, pz_302, pz_303, pz_304, pz_400, pz_401, pz_521, pz_705, pz_1000, pz_1508, pz_1661, pz_1691, pz_2400, pz_3125, pz_9999, pz_10000, pz_30703, pz_65536, pz_99999, pz_1000000, pz_lt, pz_ck, pz_u2, pz_u3, pz_u4, pz_bs, pz_ix, pz_inb, pz_add, pz_mul, pz_sub, nI_leI, nI_ltI, nI_eq, pz_bIt, pz_bIf, pz_isb, pz_isb0, pz_isb1, pz_bI0, pz_bI1, Nat.zero_le, true_and, and_true, decide_true, decide_false, Bool.true_eq_false, Bool.false_eq_true, if_true, if_false, Nat.reduceAdd, Nat.reduceMul, Nat.reduceSub, Nat.reduceEqDiff, Nat.reduceLeDiff, Nat.reduceLT, Nat.one_ne_zero, Nat.zero_ne_one, Nat.not_le.mpr hv, c9, e1]) 5 fu 0 (A, B) (by omega) (fu_gt (by omega)) h
  exact ⟨A1, B1, h2, h1⟩
theorem px_laysSayings (hV : VSt s) (hX : XR s I) (ht : CTab I I') (J : PJ) {forms o : Nat} (hf : forms < 256) (ho : o < 120) : ∃ I1 J1, x_laysSayings I J (nI forms) (nI o) = some (I1, J1) ∧ CSY s forms o 125 I J I1 J1 := by
  obtain ⟨⟨A1, B1⟩, h1, h2⟩ := pz_loop (fun f v (x : PI × PJ) => x_laysSayings_l7 (nI forms) (nI o) f (nI v) x.1 x.2) 5 (fun x => some (x.1, x.2)) (fun v x => CSY s forms o (25 * v) I J x.1 x.2) (fun f x _ => by
      show x_laysSayings_b7 (nI forms) (nI o) (x_laysSayings_l7 (nI forms) (nI o) f) (nI 5) x.1 x.2 = _
      unfold x_laysSayings_b7
      simp (disch := omega) only [pz_0, pz_1, pz_2, pz_3, pz_4, pz_5, pz_6, pz_7, pz_8, pz_9, pz_10, pz_11, pz_12, pz_13, pz_14, pz_15, pz_16, pz_20, pz_21, pz_22, pz_24, pz_25, pz_30, pz_31, pz_32, pz_35, pz_40, pz_41, pz_42, pz_43, pz_45, pz_47, pz_48, pz_52, pz_57, pz_58, pz_59, pz_60, pz_61, pz_62, pz_63, pz_65, pz_85, pz_90, pz_97, pz_98, pz_99, pz_100, pz_101, pz_102, pz_103, pz_104, pz_105, pz_107, pz_108, pz_109, pz_110, pz_111, pz_112, pz_114, pz_115, pz_116, pz_119, pz_120, pz_121, pz_122, pz_125, pz_127, pz_153, pz_200, pz_201, pz_202, pz_203, pz_204, pz_205, pz_206, pz_207, pz_208, pz_209, pz_210, pz_211, pz_212, pz_213, pz_214, pz_215, pz_216, pz_217, pz_218, pz_219, pz_220, pz_221, pz_222, pz_223, pz_224, pz_225, pz_255, pz_256, pz_271, pz_300, pz_301, pz_302, pz_303, pz_304, pz_400, pz_401, pz_521, pz_705, pz_1000, pz_1508, pz_1661, pz_1691, pz_2400, pz_3125, pz_9999, pz_10000, pz_30703, pz_65536, pz_99999, pz_1000000, pz_lt, pz_ck, pz_u2, pz_u3, pz_u4, pz_bs, pz_ix, pz_inb, pz_add, pz_mul, pz_sub, nI_leI, nI_ltI, nI_eq, pz_bIt, pz_bIf, pz_isb, pz_isb0, pz_isb1, pz_bI0, pz_bI1, Nat.zero_le, true_and, and_true, decide_true, decide_false, Bool.true_eq_false, Bool.false_eq_true, if_true, if_false, Nat.reduceAdd, Nat.reduceMul, Nat.reduceSub, Nat.reduceEqDiff, Nat.reduceLeDiff, Nat.reduceLT, Nat.one_ne_zero, Nat.zero_ne_one, Nat.le_refl]) (fun f v x hv hP => by
      obtain ⟨A, B⟩ := x
      have hP : CSY s forms o (25 * v) I J A B := hP
      have hs := px_shortest hV (hX.keepY hP.2.2.1) hf hv
      have c9 := cst_le hV forms v
      by_cases c0 : cst s forms v = 0
      · refine ⟨(A, B), ?_, ?_⟩
        · rw [show shV (cst s forms v) = 99999 by rw [c0]; rfl] at hs
          have hL : x_laysSayings_l23 (nI o) (nI v) (nI 99999) fu (nI 0) A B = some (A, B) := by
            show x_laysSayings_b23 (nI o) (nI v) (nI 99999) (x_laysSayings_l23 (nI o) (nI v) (nI 99999) 1099511627775) (nI 0) A B = _
            unfold x_laysSayings_b23
            simp (disch := omega) only [pz_0, pz_1, pz_2, pz_3, pz_4, pz_5, pz_6, pz_7, pz_8, pz_9, pz_10, pz_11, pz_12, pz_13, pz_14, pz_15, pz_16, pz_20, pz_21, pz_22, pz_24, pz_25, pz_30, pz_31, pz_32, pz_35, pz_40, pz_41, pz_42, pz_43, pz_45, pz_47, pz_48, pz_52, pz_57, pz_58, pz_59, pz_60, pz_61, pz_62, pz_63, pz_65, pz_85, pz_90, pz_97, pz_98, pz_99, pz_100, pz_101, pz_102, pz_103, pz_104, pz_105, pz_107, pz_108, pz_109, pz_110, pz_111, pz_112, pz_114, pz_115, pz_116, pz_119, pz_120, pz_121, pz_122, pz_125, pz_127, pz_153, pz_200, pz_201, pz_202, pz_203, pz_204, pz_205, pz_206, pz_207, pz_208, pz_209, pz_210, pz_211, pz_212, pz_213, pz_214, pz_215, pz_216, pz_217, pz_218, pz_219, pz_220, pz_221, pz_222, pz_223, pz_224, pz_225, pz_255, pz_256, pz_271, pz_300, pz_301, pz_302, pz_303, pz_304, pz_400, pz_401, pz_521, pz_705, pz_1000, pz_1508, pz_1661, pz_1691, pz_2400, pz_3125, pz_9999, pz_10000, pz_30703, pz_65536, pz_99999, pz_1000000, pz_lt, pz_ck, pz_u2, pz_u3, pz_u4, pz_bs, pz_ix, pz_inb, pz_add, pz_mul, pz_sub, nI_leI, nI_ltI, nI_eq, pz_bIt, pz_bIf, pz_isb, pz_isb0, pz_isb1, pz_bI0, pz_bI1, Nat.zero_le, true_and, and_true, decide_true, decide_false, Bool.true_eq_false, Bool.false_eq_true, if_true, if_false, Nat.reduceAdd, Nat.reduceMul, Nat.reduceSub, Nat.reduceEqDiff, Nat.reduceLeDiff, Nat.reduceLT, Nat.one_ne_zero, Nat.zero_ne_one, Nat.le_refl]
          show x_laysSayings_b7 (nI forms) (nI o) (x_laysSayings_l7 (nI forms) (nI o) f) (nI v) A B = _
          unfold x_laysSayings_b7
          simp (disch := omega) only [pz_0, pz_1, pz_2, pz_3, pz_4, pz_5, pz_6, pz_7, pz_8, pz_9, pz_10, pz_11, pz_12, pz_13, pz_14, pz_15, pz_16, pz_20, pz_21, pz_22, pz_24, pz_25, pz_30, pz_31, pz_32, pz_35, pz_40, pz_41, pz_42, pz_43, pz_45, pz_47, pz_48, pz_52, pz_57, pz_58, pz_59, pz_60, pz_61, pz_62, pz_63, pz_65, pz_85, pz_90, pz_97, pz_98, pz_99, pz_100, pz_101, pz_102, pz_103, pz_104, pz_105, pz_107, pz_108, pz_109, pz_110, pz_111, pz_112, pz_114, pz_115, pz_116, pz_119, pz_120, pz_121, pz_122, pz_125, pz_127, pz_153, pz_200, pz_201, pz_202, pz_203, pz_204, pz_205, pz_206, pz_207, pz_208, pz_209, pz_210, pz_211, pz_212, pz_213, pz_214, pz_215, pz_216, pz_217, pz_218, pz_219, pz_220, pz_221, pz_222, pz_223, pz_224, pz_225, pz_255, pz_256, pz_271, pz_300, pz_301, pz_302, pz_303, pz_304, pz_400, pz_401, pz_521, pz_705, pz_1000, pz_1508, pz_1661, pz_1691, pz_2400, pz_3125, pz_9999, pz_10000, pz_30703, pz_65536, pz_99999, pz_1000000, pz_lt, pz_ck, pz_u2, pz_u3, pz_u4, pz_bs, pz_ix, pz_inb, pz_add, pz_mul, pz_sub, nI_leI, nI_ltI, nI_eq, pz_bIt, pz_bIf, pz_isb, pz_isb0, pz_isb1, pz_bI0, pz_bI1, Nat.zero_le, true_and, and_true, decide_true, decide_false, Bool.true_eq_false, Bool.false_eq_true, if_true, if_false, Nat.reduceAdd, Nat.reduceMul, Nat.reduceSub, Nat.reduceEqDiff, Nat.reduceLeDiff, Nat.reduceLT, Nat.one_ne_zero, Nat.zero_ne_one, Nat.not_le.mpr hv, hs, hL]
        · have := CSY.nos hP 25 (fun t t1 t2 => by
            unfold xa
            rw [show t / 25 = v by omega, c0]
            rfl)
          exact this
      · obtain ⟨A1, B1, e1, e2⟩ := px_lays2 ht J ho hv c0 c9 hP
        rw [show shV (cst s forms v) = cst s forms v from if_neg c0] at hs
        refine ⟨(A1, B1), ?_, e2⟩
        show x_laysSayings_b7 (nI forms) (nI o) (x_laysSayings_l7 (nI forms) (nI o) f) (nI v) A B = _
        unfold x_laysSayings_b7
        simp (disch := omega) only [pz_0, pz_1, pz_2, pz_3, pz_4, pz_5, pz_6, pz_7, pz_8, pz_9, pz_10, pz_11, pz_12, pz_13, pz_14, pz_15, pz_16, pz_20, pz_21, pz_22, pz_24, pz_25, pz_30, pz_31, pz_32, pz_35, pz_40, pz_41, pz_42, pz_43, pz_45, pz_47, pz_48, pz_52, pz_57, pz_58, pz_59, pz_60, pz_61, pz_62, pz_63, pz_65, pz_85, pz_90, pz_97, pz_98, pz_99, pz_100, pz_101, pz_102, pz_103, pz_104, pz_105, pz_107, pz_108, pz_109, pz_110, pz_111, pz_112, pz_114, pz_115, pz_116, pz_119, pz_120, pz_121, pz_122, pz_125, pz_127, pz_153, pz_200, pz_201, pz_202, pz_203, pz_204, pz_205, pz_206, pz_207, pz_208, pz_209, pz_210, pz_211, pz_212, pz_213, pz_214, pz_215, pz_216, pz_217, pz_218, pz_219, pz_220, pz_221, pz_222, pz_223, pz_224, pz_225, pz_255, pz_256, pz_271, pz_300, pz_301, pz_302, pz_303, pz_304, pz_400, pz_401, pz_521, pz_705, pz_1000, pz_1508, pz_1661, pz_1691, pz_2400, pz_3125, pz_9999, pz_10000, pz_30703, pz_65536, pz_99999, pz_1000000, pz_lt, pz_ck, pz_u2, pz_u3, pz_u4, pz_bs, pz_ix, pz_inb, pz_add, pz_mul, pz_sub, nI_leI, nI_ltI, nI_eq, pz_bIt, pz_bIf, pz_isb, pz_isb0, pz_isb1, pz_bI0, pz_bI1, Nat.zero_le, true_and, and_true, decide_true, decide_false, Bool.true_eq_false, Bool.false_eq_true, if_true, if_false, Nat.reduceAdd, Nat.reduceMul, Nat.reduceSub, Nat.reduceEqDiff, Nat.reduceLeDiff, Nat.reduceLT, Nat.one_ne_zero, Nat.zero_ne_one, Nat.not_le.mpr hv, hs, e1]) 5 fu 0 (u2 I 0 12 (nI 0), J) (by omega) (fu_gt (by omega)) ⟨u2_eq I 0 12 (nI 0), fun j hj => absurd hj (Nat.not_lt_zero j), fun k h1 h2 => u2_row I 0 12 (nI 0) h1, fun i hi => by show u2 I 0 12 (nI 0) 0 i = I 0 i; exact u2_ne I (nI 0) (Or.inr hi)⟩
  refine ⟨A1, B1, ?_, h1⟩
  unfold x_laysSayings
  have h2 : x_laysSayings_l7 (nI forms) (nI o) fu 0 (u2 I 0 12 0) J = some (A1, B1) := h2
  rw [pz_lt, h2]
  rfl
end LAY
