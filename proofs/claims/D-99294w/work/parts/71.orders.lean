/-! orders of five: the lists, and what is so of them (printed by gen_orders.py, then hand) -/
def ordL : List (List Nat) := [[0, 1, 2, 3, 4], [0, 1, 2, 4, 3], [0, 1, 3, 2, 4], [0, 1, 3, 4, 2], [0, 1, 4, 2, 3], [0, 1, 4, 3, 2], [0, 2, 1, 3, 4], [0, 2, 1, 4, 3], [0, 2, 3, 1, 4], [0, 2, 3, 4, 1], [0, 2, 4, 1, 3], [0, 2, 4, 3, 1], [0, 3, 1, 2, 4], [0, 3, 1, 4, 2], [0, 3, 2, 1, 4], [0, 3, 2, 4, 1], [0, 3, 4, 1, 2], [0, 3, 4, 2, 1], [0, 4, 1, 2, 3], [0, 4, 1, 3, 2], [0, 4, 2, 1, 3], [0, 4, 2, 3, 1], [0, 4, 3, 1, 2], [0, 4, 3, 2, 1], [1, 0, 2, 3, 4], [1, 0, 2, 4, 3], [1, 0, 3, 2, 4], [1, 0, 3, 4, 2], [1, 0, 4, 2, 3], [1, 0, 4, 3, 2], [1, 2, 0, 3, 4], [1, 2, 0, 4, 3], [1, 2, 3, 0, 4], [1, 2, 3, 4, 0], [1, 2, 4, 0, 3], [1, 2, 4, 3, 0], [1, 3, 0, 2, 4], [1, 3, 0, 4, 2], [1, 3, 2, 0, 4], [1, 3, 2, 4, 0], [1, 3, 4, 0, 2], [1, 3, 4, 2, 0], [1, 4, 0, 2, 3], [1, 4, 0, 3, 2], [1, 4, 2, 0, 3], [1, 4, 2, 3, 0], [1, 4, 3, 0, 2], [1, 4, 3, 2, 0], [2, 0, 1, 3, 4], [2, 0, 1, 4, 3], [2, 0, 3, 1, 4], [2, 0, 3, 4, 1], [2, 0, 4, 1, 3], [2, 0, 4, 3, 1], [2, 1, 0, 3, 4], [2, 1, 0, 4, 3], [2, 1, 3, 0, 4], [2, 1, 3, 4, 0], [2, 1, 4, 0, 3], [2, 1, 4, 3, 0], [2, 3, 0, 1, 4], [2, 3, 0, 4, 1], [2, 3, 1, 0, 4], [2, 3, 1, 4, 0], [2, 3, 4, 0, 1], [2, 3, 4, 1, 0], [2, 4, 0, 1, 3], [2, 4, 0, 3, 1], [2, 4, 1, 0, 3], [2, 4, 1, 3, 0], [2, 4, 3, 0, 1], [2, 4, 3, 1, 0], [3, 0, 1, 2, 4], [3, 0, 1, 4, 2], [3, 0, 2, 1, 4], [3, 0, 2, 4, 1], [3, 0, 4, 1, 2], [3, 0, 4, 2, 1], [3, 1, 0, 2, 4], [3, 1, 0, 4, 2], [3, 1, 2, 0, 4], [3, 1, 2, 4, 0], [3, 1, 4, 0, 2], [3, 1, 4, 2, 0], [3, 2, 0, 1, 4], [3, 2, 0, 4, 1], [3, 2, 1, 0, 4], [3, 2, 1, 4, 0], [3, 2, 4, 0, 1], [3, 2, 4, 1, 0], [3, 4, 0, 1, 2], [3, 4, 0, 2, 1], [3, 4, 1, 0, 2], [3, 4, 1, 2, 0], [3, 4, 2, 0, 1], [3, 4, 2, 1, 0], [4, 0, 1, 2, 3], [4, 0, 1, 3, 2], [4, 0, 2, 1, 3], [4, 0, 2, 3, 1], [4, 0, 3, 1, 2], [4, 0, 3, 2, 1], [4, 1, 0, 2, 3], [4, 1, 0, 3, 2], [4, 1, 2, 0, 3], [4, 1, 2, 3, 0], [4, 1, 3, 0, 2], [4, 1, 3, 2, 0], [4, 2, 0, 1, 3], [4, 2, 0, 3, 1], [4, 2, 1, 0, 3], [4, 2, 1, 3, 0], [4, 2, 3, 0, 1], [4, 2, 3, 1, 0], [4, 3, 0, 1, 2], [4, 3, 0, 2, 1], [4, 3, 1, 0, 2], [4, 3, 1, 2, 0], [4, 3, 2, 0, 1], [4, 3, 2, 1, 0]]
def plcL : List (List Nat) := [[0, 1, 2, 3, 4], [0, 1, 2, 4, 3], [0, 1, 3, 2, 4], [0, 1, 4, 2, 3], [0, 1, 3, 4, 2], [0, 1, 4, 3, 2], [0, 2, 1, 3, 4], [0, 2, 1, 4, 3], [0, 3, 1, 2, 4], [0, 4, 1, 2, 3], [0, 3, 1, 4, 2], [0, 4, 1, 3, 2], [0, 2, 3, 1, 4], [0, 2, 4, 1, 3], [0, 3, 2, 1, 4], [0, 4, 2, 1, 3], [0, 3, 4, 1, 2], [0, 4, 3, 1, 2], [0, 2, 3, 4, 1], [0, 2, 4, 3, 1], [0, 3, 2, 4, 1], [0, 4, 2, 3, 1], [0, 3, 4, 2, 1], [0, 4, 3, 2, 1], [1, 0, 2, 3, 4], [1, 0, 2, 4, 3], [1, 0, 3, 2, 4], [1, 0, 4, 2, 3], [1, 0, 3, 4, 2], [1, 0, 4, 3, 2], [2, 0, 1, 3, 4], [2, 0, 1, 4, 3], [3, 0, 1, 2, 4], [4, 0, 1, 2, 3], [3, 0, 1, 4, 2], [4, 0, 1, 3, 2], [2, 0, 3, 1, 4], [2, 0, 4, 1, 3], [3, 0, 2, 1, 4], [4, 0, 2, 1, 3], [3, 0, 4, 1, 2], [4, 0, 3, 1, 2], [2, 0, 3, 4, 1], [2, 0, 4, 3, 1], [3, 0, 2, 4, 1], [4, 0, 2, 3, 1], [3, 0, 4, 2, 1], [4, 0, 3, 2, 1], [1, 2, 0, 3, 4], [1, 2, 0, 4, 3], [1, 3, 0, 2, 4], [1, 4, 0, 2, 3], [1, 3, 0, 4, 2], [1, 4, 0, 3, 2], [2, 1, 0, 3, 4], [2, 1, 0, 4, 3], [3, 1, 0, 2, 4], [4, 1, 0, 2, 3], [3, 1, 0, 4, 2], [4, 1, 0, 3, 2], [2, 3, 0, 1, 4], [2, 4, 0, 1, 3], [3, 2, 0, 1, 4], [4, 2, 0, 1, 3], [3, 4, 0, 1, 2], [4, 3, 0, 1, 2], [2, 3, 0, 4, 1], [2, 4, 0, 3, 1], [3, 2, 0, 4, 1], [4, 2, 0, 3, 1], [3, 4, 0, 2, 1], [4, 3, 0, 2, 1], [1, 2, 3, 0, 4], [1, 2, 4, 0, 3], [1, 3, 2, 0, 4], [1, 4, 2, 0, 3], [1, 3, 4, 0, 2], [1, 4, 3, 0, 2], [2, 1, 3, 0, 4], [2, 1, 4, 0, 3], [3, 1, 2, 0, 4], [4, 1, 2, 0, 3], [3, 1, 4, 0, 2], [4, 1, 3, 0, 2], [2, 3, 1, 0, 4], [2, 4, 1, 0, 3], [3, 2, 1, 0, 4], [4, 2, 1, 0, 3], [3, 4, 1, 0, 2], [4, 3, 1, 0, 2], [2, 3, 4, 0, 1], [2, 4, 3, 0, 1], [3, 2, 4, 0, 1], [4, 2, 3, 0, 1], [3, 4, 2, 0, 1], [4, 3, 2, 0, 1], [1, 2, 3, 4, 0], [1, 2, 4, 3, 0], [1, 3, 2, 4, 0], [1, 4, 2, 3, 0], [1, 3, 4, 2, 0], [1, 4, 3, 2, 0], [2, 1, 3, 4, 0], [2, 1, 4, 3, 0], [3, 1, 2, 4, 0], [4, 1, 2, 3, 0], [3, 1, 4, 2, 0], [4, 1, 3, 2, 0], [2, 3, 1, 4, 0], [2, 4, 1, 3, 0], [3, 2, 1, 4, 0], [4, 2, 1, 3, 0], [3, 4, 1, 2, 0], [4, 3, 1, 2, 0], [2, 3, 4, 1, 0], [2, 4, 3, 1, 0], [3, 2, 4, 1, 0], [4, 2, 3, 1, 0], [3, 4, 2, 1, 0], [4, 3, 2, 1, 0]]
def ordT (i k : Nat) : Nat := (ordL.getD i []).getD k 0
def plcT (i d : Nat) : Nat := (plcL.getD i []).getD d 0
theorem ord_ok : ∀ i, i < 120 → ∀ k, k < 5 → ordT i k < 5 ∧ plcT i k < 5 ∧ plcT i (ordT i k) = k ∧ ordT i (plcT i k) = k := by decide +kernel
theorem plc_inj0 : ∀ i, i < 120 → ∀ j, j < 120 → (plcT i 0 = plcT j 0 ∧ plcT i 1 = plcT j 1 ∧ plcT i 2 = plcT j 2 ∧ plcT i 3 = plcT j 3 ∧ plcT i 4 = plcT j 4) → i = j := by decide +kernel
theorem plc_inj {i : Nat} (hi : i < 120) {j : Nat} (hj : j < 120) (h0 : plcT i 0 = plcT j 0) (h1 : plcT i 1 = plcT j 1) (h2 : plcT i 2 = plcT j 2) (h3 : plcT i 3 = plcT j 3) (h4 : plcT i 4 = plcT j 4) : i = j := plc_inj0 i hi j hj ⟨h0, h1, h2, h3, h4⟩
def fn5 (a b c d e : Nat) (j : Nat) : Nat := match j with
  | 0 => a
  | 1 => b
  | 2 => c
  | 3 => d
  | _ => e
def numP (f : Nat → Nat) : Nat := ((List.range 120).find? fun i => (List.range 5).all fun j => plcT i j == f j).getD 0
def numC (a b c d e : Nat) : Bool := decide (a = b) || decide (a = c) || decide (a = d) || decide (a = e) || decide (b = c) || decide (b = d) || decide (b = e) || decide (c = d) || decide (c = e) || decide (d = e) || (decide (numP (fn5 a b c d e) < 120) && decide (plcT (numP (fn5 a b c d e)) 0 = a) && decide (plcT (numP (fn5 a b c d e)) 1 = b) && decide (plcT (numP (fn5 a b c d e)) 2 = c) && decide (plcT (numP (fn5 a b c d e)) 3 = d) && decide (plcT (numP (fn5 a b c d e)) 4 = e))
theorem num_chk : ((List.range 5).all fun a => (List.range 5).all fun b => (List.range 5).all fun c => (List.range 5).all fun d => (List.range 5).all fun e => numC a b c d e) = true := by decide +kernel
theorem num_ok (a : Nat) (ha : a < 5) (b : Nat) (hb : b < 5) (n1 : a ≠ b) (c : Nat) (hc : c < 5) (n2 : a ≠ c) (n3 : b ≠ c) (d : Nat) (hd : d < 5) (n4 : a ≠ d) (n5 : b ≠ d) (n6 : c ≠ d) (e : Nat) (he : e < 5) (n7 : a ≠ e) (n8 : b ≠ e) (n9 : c ≠ e) (n10 : d ≠ e) : numP (fn5 a b c d e) < 120 ∧ plcT (numP (fn5 a b c d e)) 0 = a ∧ plcT (numP (fn5 a b c d e)) 1 = b ∧ plcT (numP (fn5 a b c d e)) 2 = c ∧ plcT (numP (fn5 a b c d e)) 3 = d ∧ plcT (numP (fn5 a b c d e)) 4 = e := by
  have h := List.all_eq_true.mp (List.all_eq_true.mp (List.all_eq_true.mp (List.all_eq_true.mp (List.all_eq_true.mp num_chk a (List.mem_range.mpr ha)) b (List.mem_range.mpr hb)) c (List.mem_range.mpr hc)) d (List.mem_range.mpr hd)) e (List.mem_range.mpr he)
  unfold numC at h
  simp only [n1, n2, n3, n4, n5, n6, n7, n8, n9, n10, decide_false, Bool.false_or, Bool.and_eq_true, decide_eq_true_eq] at h
  obtain ⟨⟨⟨⟨⟨h1, h2⟩, h3⟩, h4⟩, h5⟩, h6⟩ := h
  exact ⟨h1, h2, h3, h4, h5, h6⟩
theorem ord_0 : ∀ k, k < 5 → ordT 0 k = k ∧ plcT 0 k = k := by decide +kernel
/-- what is so of places -/
def soB (p : Nat → Nat) (kind a b : Nat) : Bool := match kind with
  | 0 => decide (p a < p b)
  | 1 => decide (p b = p a + 1)
  | 2 => decide (p a = 0)
  | 3 => decide (p a = 4)
  | _ => decide (p b = p a + 1) || decide (p a = p b + 1)
/-- the order whose places are those of i behind the doings of o -/
def cmpT (o i : Nat) : Nat := numP (fn5 (plcT i (ordT o 0)) (plcT i (ordT o 1)) (plcT i (ordT o 2)) (plcT i (ordT o 3)) (plcT i (ordT o 4)))
theorem plc_ne {i : Nat} (hi : i < 120) {a b : Nat} (ha : a < 5) (hb : b < 5) (h : a ≠ b) : plcT i a ≠ plcT i b := by
  intro e
  have h1 := (ord_ok i hi a ha).2.2.2
  have h2 := (ord_ok i hi b hb).2.2.2
  rw [e] at h1
  exact h (h1.symm.trans h2)
theorem ord_ne {i : Nat} (hi : i < 120) {a b : Nat} (ha : a < 5) (hb : b < 5) (h : a ≠ b) : ordT i a ≠ ordT i b := by
  intro e
  have h1 := (ord_ok i hi a ha).2.2.1
  have h2 := (ord_ok i hi b hb).2.2.1
  rw [e] at h1
  exact h (h1.symm.trans h2)
theorem cmp_ok {o i : Nat} (ho : o < 120) (hi : i < 120) : cmpT o i < 120 ∧ ∀ j, j < 5 → plcT (cmpT o i) j = plcT i (ordT o j) := by
  have l : ∀ j, j < 5 → plcT i (ordT o j) < 5 := fun j hj => (ord_ok i hi _ (ord_ok o ho j hj).1).2.1
  have n : ∀ a b, a < 5 → b < 5 → a ≠ b → plcT i (ordT o a) ≠ plcT i (ordT o b) := fun a b ha hb h => plc_ne hi (ord_ok o ho a ha).1 (ord_ok o ho b hb).1 (ord_ne ho ha hb h)
  obtain ⟨h, h0, h1, h2, h3, h4⟩ := num_ok _ (l 0 (by decide)) _ (l 1 (by decide)) (n 0 1 (by decide) (by decide) (by decide)) _ (l 2 (by decide)) (n 0 2 (by decide) (by decide) (by decide)) (n 1 2 (by decide) (by decide) (by decide)) _ (l 3 (by decide)) (n 0 3 (by decide) (by decide) (by decide)) (n 1 3 (by decide) (by decide) (by decide)) (n 2 3 (by decide) (by decide) (by decide)) _ (l 4 (by decide)) (n 0 4 (by decide) (by decide) (by decide)) (n 1 4 (by decide) (by decide) (by decide)) (n 2 4 (by decide) (by decide) (by decide)) (n 3 4 (by decide) (by decide) (by decide))
  refine ⟨h, fun j hj => ?_⟩
  have hc : j = 0 ∨ j = 1 ∨ j = 2 ∨ j = 3 ∨ j = 4 := by omega
  rcases hc with e | e | e | e | e <;> subst e
  · exact h0
  · exact h1
  · exact h2
  · exact h3
  · exact h4
theorem cmp_inj {o i i' : Nat} (ho : o < 120) (hi : i < 120) (hi' : i' < 120) (h : cmpT o i = cmpT o i') : i = i' := by
  have h1 := (cmp_ok ho hi).2
  have h2 := (cmp_ok ho hi').2
  have k : ∀ d, d < 5 → plcT i d = plcT i' d := fun d hd => by
    obtain ⟨q1, q2, q3, q4⟩ := ord_ok o ho d hd
    have e1 := h1 (plcT o d) q2
    have e2 := h2 (plcT o d) q2
    rw [q4] at e1 e2
    rw [← e1, ← e2, h]
  exact plc_inj hi hi' (k 0 (by decide)) (k 1 (by decide)) (k 2 (by decide)) (k 3 (by decide)) (k 4 (by decide))
theorem cmp_so {o i : Nat} (ho : o < 120) (hi : i < 120) (kind : Nat) {j k : Nat} (hj : j < 5) (hk : k < 5) : soB (plcT (cmpT o i)) kind j k = soB (plcT i) kind (ordT o j) (ordT o k) := by
  have h := (cmp_ok ho hi).2
  unfold soB
  rw [h j hj, h k hk]
theorem so_sym (p : Nat → Nat) {kind : Nat} (h : 4 ≤ kind) (a b : Nat) : soB p kind a b = soB p kind b a := by
  obtain ⟨n, rfl⟩ : ∃ n, kind = n + 4 := ⟨kind - 4, by omega⟩
  show (decide (p b = p a + 1) || decide (p a = p b + 1)) = (decide (p a = p b + 1) || decide (p b = p a + 1))
  exact Bool.or_comm _ _
