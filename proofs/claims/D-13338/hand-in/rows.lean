section
/-! the numbers: factorials, binomials, ends of groupings, ends of nestings -/
def ro_fact : Nat → Nat
  | 0 => 1
  | n + 1 => (n + 1) * ro_fact n
def ro_C : Nat → Nat → Nat
  | 0, 0 => 1
  | 0, _ + 1 => 0
  | _ + 1, 0 => 1
  | n + 1, k + 1 => ro_C n k + ro_C n (k + 1)
def ro_ge : Nat → Nat → Nat
  | 0, _ => 1
  | l + 1, g => g * ro_ge l g + ro_ge l (g + 1)
def ro_nr (prev : Nat → Nat) (z : Nat) : Nat → Nat
  | 0 => prev 0
  | o + 1 => ro_nr prev z o + (if o < z then prev (o + 1) else 0)
def ro_ne : Nat → Nat → Nat
  | 0 => fun _ => 1
  | z + 1 => ro_nr (ro_ne z) z
def ro_su (f : Nat → Nat) : Nat → Nat
  | 0 => 0
  | m + 1 => ro_su f m + f m
def ro_pop (m : Nat) : Nat := m % 2 + m / 2 % 2 + m / 4 % 2 + m / 8 % 2 + m / 16 % 2 + m / 32 % 2 + m / 64 % 2
/-! the five sorts over one small state of a beginning: 0 last + 1, 1 the mask, 2 how many groups, 3 and 4 the sum -/
def ro_may (s n i st x : Nat) : Bool := match s with
  | 0 => decide (x < n) && decide (st ≤ x)
  | 1 => decide (x < n) && decide (st / 2 ^ x % 2 = 0)
  | 2 => decide (x ≤ st)
  | 3 => decide (x ≤ 1) && (if x = 1 then decide (st < n) else decide (i < 2 * st))
  | _ => decide (x ≤ n)
def ro_step (s st x : Nat) : Nat := match s with
  | 0 => x + 1
  | 1 => st ||| 2 ^ x
  | 2 => if st ≤ x then x + 1 else st
  | 3 => st + x
  | _ => st + x
/-- how many objects go on from i items with the state st, d places being left -/
def ro_cnt (s n d i st : Nat) : Nat := match s with
  | 0 => if d ≤ n - st then ro_C (n - st) d else 0
  | 1 => ro_fact d
  | 2 => ro_ge d st
  | 3 => ro_ne (n + st - i) (n - st)
  | _ => if n < st then 0 else if d = 0 then (if st < n then 0 else 1) else ro_C (n - st + (d - 1)) (d - 1)
def ro_V (s n d i st x : Nat) : Nat := if ro_may s n i st x = true then ro_cnt s n (d - 1) (i + 1) (ro_step s st x) else 0
def ro_ok (s n i st : Nat) : Prop := match s with
  | 0 => st ≤ n
  | 1 => st < 2 ^ n ∧ ro_pop st = i
  | 2 => st ≤ i
  | 3 => st ≤ n ∧ st ≤ i ∧ i ≤ 2 * st
  | _ => st ≤ 7 * i
def ro_cf (s n l : Nat) : Prop := s ≤ 4 ∧ 1 ≤ n ∧ n ≤ 7 ∧ (s = 0 ∨ s = 4 → l ≤ n) ∧ (s = 1 ∨ s = 2 → l = n) ∧ (s = 3 → l = 2 * n)
theorem ro_s5 {P : Nat → Prop} (h0 : P 0) (h1 : P 1) (h2 : P 2) (h3 : P 3) (h4 : P 4) {s : Nat} (hs : s ≤ 4) : P s := by
  rcases s with _ | _ | _ | _ | _ | s
  · exact h0
  · exact h1
  · exact h2
  · exact h3
  · exact h4
  · omega
theorem ro_cfl {s n l : Nat} (h : ro_cf s n l) : l ≤ 14 ∧ (s ≠ 3 → l ≤ 7) := by
  obtain ⟨h1, h2, h3, h4, h5, h6⟩ := h
  omega
/-! finite facts -/
theorem ro_sum0 : ∀ n, n < 8 → ∀ st, st < 8 → ∀ d, d < 8 → st ≤ n → 0 < d → ro_cnt 0 n d 0 st = ro_su (ro_V 0 n d 0 st) 8 := by decide +kernel
theorem ro_sum1 : ∀ n, n < 8 → ∀ st, st < 128 → st < 2 ^ n → ro_pop st < n → ro_cnt 1 n (n - ro_pop st) 0 st = ro_su (ro_V 1 n (n - ro_pop st) 0 st) 8 := by decide +kernel
theorem ro_sum2 : ∀ d, d < 8 → ∀ st, st < 7 → 0 < d → ro_cnt 2 0 d 0 st = ro_su (ro_V 2 0 d 0 st) 8 := by decide +kernel
theorem ro_sum3 : ∀ n, n < 8 → ∀ st, st < 8 → ∀ i, i < 14 → st ≤ n ∧ st ≤ i ∧ i ≤ 2 * st ∧ i < 2 * n → ro_cnt 3 n 0 i st = ro_su (ro_V 3 n 0 i st) 8 := by decide +kernel
theorem ro_sum4 : ∀ n, n < 8 → ∀ st, st < 8 → ∀ d, d < 8 → st ≤ n → 0 < d → ro_cnt 4 n d 0 st = ro_su (ro_V 4 n d 0 st) 8 := by decide +kernel
theorem ro_or1a : ∀ n, n < 8 → ∀ st, st < 128 → ∀ x, x < 8 → st < 2 ^ n ∧ x < n → st ||| 2 ^ x < 2 ^ n := by decide +kernel
theorem ro_or1b : ∀ st, st < 128 → ∀ x, x < 7 → st / 2 ^ x % 2 = 0 → ro_pop (st ||| 2 ^ x) = ro_pop st + 1 := by decide +kernel
theorem ro_bC : ∀ f, f < 15 → ∀ d, d < 8 → ro_C f d < 10000 := by decide +kernel
theorem ro_bF : ∀ d, d < 8 → ro_fact d < 10000 := by decide +kernel
theorem ro_bG : ∀ d, d < 8 → ∀ g, g < 8 → ro_ge d g < 1000000000 := by decide +kernel
theorem ro_bN : ∀ z, z < 8 → ∀ o, o < 8 → ro_ne z o < 10000 := by decide +kernel
theorem ro_C0 (m : Nat) : ro_C m 0 = 1 := by cases m <;> rfl
theorem ro_p2 : ∀ n, n < 8 → 2 ^ n ≤ 128 := by decide
theorem ro_su_mono (f : Nat → Nat) {m m' : Nat} (h : m ≤ m') : ro_su f m ≤ ro_su f m' := by
  induction m' with
  | zero =>
    have e : m = 0 := by omega
    rw [e]
    exact Nat.le_refl _
  | succ k ih =>
    by_cases e : m = k + 1
    · rw [e]
      exact Nat.le_refl _
    · have h1 := ih (by omega)
      show ro_su f m ≤ ro_su f k + f k
      omega
theorem ro_su_eq (f : Nat → Nat) {m m' : Nat} (h : m ≤ m') (hz : ∀ x, m ≤ x → x < m' → f x = 0) : ro_su f m' = ro_su f m := by
  induction m' with
  | zero =>
    have e : m = 0 := by omega
    rw [e]
  | succ k ih =>
    by_cases e : m = k + 1
    · rw [e]
    · have h1 := ih (by omega) (fun x h2 h3 => hz x h2 (by omega))
      have h2 := hz k (by omega) (by omega)
      show ro_su f k + f k = ro_su f m
      omega
theorem ro_su0 {f : Nat → Nat} (m : Nat) (hz : ∀ x, x < m → f x = 0) : ro_su f m = 0 := ro_su_eq f (Nat.zero_le m) (fun x _ h => hz x h)
theorem ro_suS (f : Nat → Nat) (m : Nat) : ro_su f (m + 1) = ro_su f m + f m := rfl
/-! one step of a valid beginning -/
theorem ro_ok0 {s n : Nat} (hs : s ≤ 4) : ro_ok s n 0 0 := by
  refine ro_s5 (P := fun s => ro_ok s n 0 0) ?_ ?_ ?_ ?_ ?_ hs
  · exact Nat.zero_le n
  · exact ⟨Nat.pow_pos (by omega), rfl⟩
  · exact Nat.le_refl 0
  · exact ⟨Nat.zero_le n, Nat.le_refl 0, Nat.le_refl 0⟩
  · exact Nat.le_refl 0
theorem ro_okS {s n l i st x : Nat} (hc : ro_cf s n l) (h : ro_ok s n i st) (hi : i < l) (hx : x < 8) (hm : ro_may s n i st x = true) : ro_ok s n (i + 1) (ro_step s st x) := by
  obtain ⟨c1, c2, c3, c4, c5, c6⟩ := hc
  revert h hm c4 c5 c6
  refine ro_s5 (P := fun s => ro_ok s n i st → ro_may s n i st x = true → (s = 0 ∨ s = 4 → l ≤ n) → (s = 1 ∨ s = 2 → l = n) → (s = 3 → l = 2 * n) → ro_ok s n (i + 1) (ro_step s st x)) ?_ ?_ ?_ ?_ ?_ c1
  · intro h hm _ _ _
    have hm' : (decide (x < n) && decide (st ≤ x)) = true := hm
    simp at hm'
    show x + 1 ≤ n
    omega
  · intro h hm _ h5 _
    obtain ⟨h1, h2⟩ : st < 2 ^ n ∧ ro_pop st = i := h
    have hm' : (decide (x < n) && decide (st / 2 ^ x % 2 = 0)) = true := hm
    rw [Bool.and_eq_true, decide_eq_true_iff, decide_eq_true_iff] at hm'
    have hp := ro_p2 n (by omega)
    exact ⟨ro_or1a n (by omega) st (by omega) x hx ⟨h1, hm'.1⟩, (ro_or1b st (by omega) x (by omega) hm'.2).trans (by rw [h2])⟩
  · intro h hm _ _ _
    have h' : st ≤ i := h
    have hm' : decide (x ≤ st) = true := hm
    rw [decide_eq_true_iff] at hm'
    show (if st ≤ x then x + 1 else st) ≤ i + 1
    split <;> omega
  · intro h hm _ _ h6
    obtain ⟨h1, h2, h3⟩ : st ≤ n ∧ st ≤ i ∧ i ≤ 2 * st := h
    have hm' : (decide (x ≤ 1) && (if x = 1 then decide (st < n) else decide (i < 2 * st))) = true := hm
    rw [Bool.and_eq_true, decide_eq_true_iff] at hm'
    obtain ⟨m1, m2⟩ := hm'
    show st + x ≤ n ∧ st + x ≤ i + 1 ∧ i + 1 ≤ 2 * (st + x)
    by_cases e : x = 1
    · rw [if_pos e, decide_eq_true_iff] at m2
      omega
    · rw [if_neg e, decide_eq_true_iff] at m2
      omega
  · intro h hm _ _ _
    have h' : st ≤ 7 * i := h
    show st + x ≤ 7 * (i + 1)
    omega
theorem ro_sumL {s n l i st : Nat} (hc : ro_cf s n l) (h : ro_ok s n i st) (hi : i < l) : ro_cnt s n (l - i) i st = ro_su (ro_V s n (l - i) i st) 8 := by
  obtain ⟨c1, c2, c3, c4, c5, c6⟩ := hc
  revert h c4 c5 c6
  refine ro_s5 (P := fun s => ro_ok s n i st → (s = 0 ∨ s = 4 → l ≤ n) → (s = 1 ∨ s = 2 → l = n) → (s = 3 → l = 2 * n) → ro_cnt s n (l - i) i st = ro_su (ro_V s n (l - i) i st) 8) ?_ ?_ ?_ ?_ ?_ c1
  · intro h c4 _ _
    have h' : st ≤ n := h
    have c := c4 (Or.inl rfl)
    exact ro_sum0 n (by omega) st (by omega) (l - i) (by omega) h' (by omega)
  · intro h _ c5 _
    obtain ⟨h1, h2⟩ : st < 2 ^ n ∧ ro_pop st = i := h
    have c := c5 (Or.inl rfl)
    have hp := ro_p2 n (by omega)
    have e := ro_sum1 n (by omega) st (by omega) h1 (by omega)
    rw [h2, ← c] at e
    rw [← c]
    exact e
  · intro h _ c5 _
    have h' : st ≤ i := h
    have c := c5 (Or.inr rfl)
    exact ro_sum2 (l - i) (by omega) st (by omega) (by omega)
  · intro h _ _ c6
    obtain ⟨h1, h2, h3⟩ : st ≤ n ∧ st ≤ i ∧ i ≤ 2 * st := h
    have c := c6 rfl
    exact ro_sum3 n (by omega) st (by omega) i (by omega) ⟨h1, h2, h3, by omega⟩
  · intro h c4 _ _
    have c := c4 (Or.inr rfl)
    by_cases e : st ≤ n
    · exact ro_sum4 n (by omega) st (by omega) (l - i) (by omega) e (by omega)
    · have e1 : ro_cnt 4 n (l - i) i st = 0 := if_pos (by omega)
      have e2 : ro_su (ro_V 4 n (l - i) i st) 8 = 0 := ro_su0 8 (fun x _ => by
        show (if ro_may 4 n i st x = true then ro_cnt 4 n (l - i - 1) (i + 1) (st + x) else 0) = 0
        split
        · exact if_pos (by omega)
        · rfl)
      rw [e1, e2]
theorem ro_endL {s n l st : Nat} (hc : ro_cf s n l) (h : ro_ok s n l st) : ro_cnt s n 0 l st ≤ 1 := by
  obtain ⟨c1, c2, c3, c4, c5, c6⟩ := hc
  revert h c6
  refine ro_s5 (P := fun s => ro_ok s n l st → (s = 3 → l = 2 * n) → ro_cnt s n 0 l st ≤ 1) ?_ ?_ ?_ ?_ ?_ c1
  · intro _ _
    show (if 0 ≤ n - st then ro_C (n - st) 0 else 0) ≤ 1
    rw [ro_C0, if_pos (Nat.zero_le _)]
    exact Nat.le_refl 1
  · intro _ _
    exact Nat.le_refl 1
  · intro _ _
    exact Nat.le_refl 1
  · intro h c6
    obtain ⟨h1, h2, h3⟩ : st ≤ n ∧ st ≤ l ∧ l ≤ 2 * st := h
    have c := c6 rfl
    show ro_ne (n + st - l) (n - st) ≤ 1
    rw [show n + st - l = 0 by omega]
    exact Nat.le_refl 1
  · intro _ _
    show (if n < st then 0 else if 0 = 0 then (if st < n then 0 else 1) else ro_C (n - st + (0 - 1)) (0 - 1)) ≤ 1
    split
    · omega
    · split
      · split <;> omega
      · omega
theorem ro_bnd {s n l i st : Nat} (hc : ro_cf s n l) (h : ro_ok s n i st) (hi : i ≤ l) : ro_cnt s n (l - i) i st < 1000000000 := by
  have hl := ro_cfl hc
  obtain ⟨c1, c2, c3, c4, c5, c6⟩ := hc
  revert h c4 c5 c6 hl
  refine ro_s5 (P := fun s => ro_ok s n i st → l ≤ 14 ∧ (s ≠ 3 → l ≤ 7) → (s = 0 ∨ s = 4 → l ≤ n) → (s = 1 ∨ s = 2 → l = n) → (s = 3 → l = 2 * n) → ro_cnt s n (l - i) i st < 1000000000) ?_ ?_ ?_ ?_ ?_ c1
  · intro h hl c4 _ _
    show (if l - i ≤ n - st then ro_C (n - st) (l - i) else 0) < 1000000000
    have := ro_bC (n - st) (by omega) (l - i) (by omega)
    split <;> omega
  · intro h hl _ _ _
    show ro_fact (l - i) < 1000000000
    have := ro_bF (l - i) (by omega)
    omega
  · intro h hl _ _ _
    have h' : st ≤ i := h
    exact ro_bG (l - i) (by omega) st (by omega)
  · intro h hl _ _ _
    obtain ⟨h1, h2, h3⟩ : st ≤ n ∧ st ≤ i ∧ i ≤ 2 * st := h
    show ro_ne (n + st - i) (n - st) < 1000000000
    have := ro_bN (n + st - i) (by omega) (n - st) (by omega)
    omega
  · intro h hl _ _ _
    show (if n < st then 0 else if l - i = 0 then (if st < n then 0 else 1) else ro_C (n - st + (l - i - 1)) (l - i - 1)) < 1000000000
    have := ro_bC (n - st + (l - i - 1)) (by omega) (l - i - 1) (by omega)
    split
    · omega
    · split
      · split <;> omega
      · omega
end
section
/-! a row of items: its states, its counts, its rank -/
def ro_st (s : Nat) (a : Nat → Nat) : Nat → Nat
  | 0 => 0
  | i + 1 => ro_step s (ro_st s a i) (a i)
def ro_v (s n l : Nat) (a : Nat → Nat) (i : Nat) : Nat → Nat := ro_V s n (l - i) i (ro_st s a i)
def ro_W (s n l : Nat) (a : Nat → Nat) (i : Nat) : Nat := ro_cnt s n (l - i) i (ro_st s a i)
def ro_R (s n l : Nat) (a : Nat → Nat) : Nat → Nat
  | 0 => 0
  | i + 1 => ro_R s n l a i + ro_su (ro_v s n l a i) (a i)
def ro_val (s n l : Nat) (a : Nat → Nat) (m : Nat) : Prop := ∀ j, j < m → 0 < ro_v s n l a j (a j) ∧ a j < 8
def ro_up (a : Nat → Nat) (i x : Nat) : Nat → Nat := fun j => if j = i then x else a j
def ro_code (a : Nat → Nat) : Nat → Nat
  | 0 => 0
  | i + 1 => 8 * ro_code a i + a i
theorem ro_ups (a : Nat → Nat) (i x : Nat) : ro_up a i x i = x := if_pos rfl
theorem ro_upn {a : Nat → Nat} {i x j : Nat} (h : j ≠ i) : ro_up a i x j = a j := if_neg h
theorem ro_up8 {a : Nat → Nat} {i x : Nat} (ha : ∀ j, a j < 8) (hx : x < 8) : ∀ j, ro_up a i x j < 8 := by
  intro j
  by_cases e : j = i
  · rw [e, ro_ups]
    exact hx
  · rw [ro_upn e]
    exact ha j
theorem ro_st_ext {s : Nat} {a b : Nat → Nat} {i : Nat} (h : ∀ j, j < i → a j = b j) : ro_st s a i = ro_st s b i := by
  induction i with
  | zero => rfl
  | succ i ih =>
    show ro_step s (ro_st s a i) (a i) = ro_step s (ro_st s b i) (b i)
    rw [ih (fun j hj => h j (by omega)), h i (by omega)]
theorem ro_v_ext {s n l : Nat} {a b : Nat → Nat} {i : Nat} (h : ∀ j, j < i → a j = b j) : ro_v s n l a i = ro_v s n l b i := by
  unfold ro_v
  rw [ro_st_ext h]
theorem ro_W_ext {s n l : Nat} {a b : Nat → Nat} {i : Nat} (h : ∀ j, j < i → a j = b j) : ro_W s n l a i = ro_W s n l b i := by
  unfold ro_W
  rw [ro_st_ext h]
theorem ro_R_ext {s n l : Nat} {a b : Nat → Nat} {i : Nat} (h : ∀ j, j < i → a j = b j) : ro_R s n l a i = ro_R s n l b i := by
  induction i with
  | zero => rfl
  | succ i ih =>
    show ro_R s n l a i + ro_su (ro_v s n l a i) (a i) = ro_R s n l b i + ro_su (ro_v s n l b i) (b i)
    rw [ih (fun j hj => h j (by omega)), h i (by omega), ro_v_ext (fun j hj => h j (by omega))]
theorem ro_val_ext {s n l : Nat} {a b : Nat → Nat} {m : Nat} (h : ∀ j, j < m → a j = b j) (hv : ro_val s n l a m) : ro_val s n l b m := by
  intro j hj
  have h1 := hv j hj
  rw [ro_v_ext (b := b) (fun i hi => h i (by omega)), h j hj] at h1
  exact h1
theorem ro_val_le {s n l : Nat} {a : Nat → Nat} {m m' : Nat} (h : m' ≤ m) (hv : ro_val s n l a m) : ro_val s n l a m' := fun j hj => hv j (by omega)
theorem ro_upe {a : Nat → Nat} {i x : Nat} : ∀ j, j < i → ro_up a i x j = a j := fun j hj => ro_upn (by omega)
theorem ro_vm {s n l : Nat} {a : Nat → Nat} {i x : Nat} (h : 0 < ro_v s n l a i x) : ro_may s n i (ro_st s a i) x = true := by
  rcases hb : ro_may s n i (ro_st s a i) x with _ | _
  · have e : ro_v s n l a i x = 0 := if_neg (by rw [hb]; exact Bool.false_ne_true)
    omega
  · rfl
theorem ro_vW {s n l : Nat} {a : Nat → Nat} {i x : Nat} (h : 0 < ro_v s n l a i x) : ro_W s n l (ro_up a i x) (i + 1) = ro_v s n l a i x := by
  have e : ro_v s n l a i x = ro_cnt s n (l - i - 1) (i + 1) (ro_step s (ro_st s a i) x) := if_pos (ro_vm h)
  rw [e]
  show ro_cnt s n (l - (i + 1)) (i + 1) (ro_step s (ro_st s (ro_up a i x) i) (ro_up a i x i)) = _
  rw [ro_ups, ro_st_ext ro_upe, show l - (i + 1) = l - i - 1 by omega]
theorem ro_W1 {s n l : Nat} {a : Nat → Nat} {i : Nat} (h : 0 < ro_v s n l a i (a i)) : ro_W s n l a (i + 1) = ro_v s n l a i (a i) := by
  have e : ro_v s n l a i (a i) = ro_cnt s n (l - i - 1) (i + 1) (ro_step s (ro_st s a i) (a i)) := if_pos (ro_vm h)
  rw [e]
  show ro_cnt s n (l - (i + 1)) (i + 1) (ro_step s (ro_st s a i) (a i)) = _
  rw [show l - (i + 1) = l - i - 1 by omega]
theorem ro_okA {s n l : Nat} (hc : ro_cf s n l) {a : Nat → Nat} : ∀ m, m ≤ l → ro_val s n l a m → ro_ok s n m (ro_st s a m) := by
  intro m
  induction m with
  | zero => intro _ _; exact ro_ok0 hc.1
  | succ m ih =>
    intro hm hv
    have h1 := hv m (by omega)
    exact ro_okS hc (ih (by omega) (ro_val_le (by omega) hv)) (by omega) h1.2 (ro_vm h1.1)
theorem ro_sumA {s n l : Nat} (hc : ro_cf s n l) {a : Nat → Nat} {m : Nat} (hm : m < l) (hv : ro_val s n l a m) : ro_W s n l a m = ro_su (ro_v s n l a m) 8 := ro_sumL hc (ro_okA hc m (by omega) hv) hm
theorem ro_bdV {s n l : Nat} (hc : ro_cf s n l) {a : Nat → Nat} {i x : Nat} (hi : i < l) (hx : x < 8) (hv : ro_val s n l a i) : ro_v s n l a i x < 1000000000 := by
  have h1 : ro_su (ro_v s n l a i) (x + 1) ≤ ro_su (ro_v s n l a i) 8 := ro_su_mono _ (by omega)
  have h2 := ro_bnd hc (ro_okA hc i (by omega) hv) (Nat.le_of_lt hi)
  have h3 := ro_sumA hc hi hv
  have h4 : ro_W s n l a i < 1000000000 := h2
  rw [ro_suS] at h1
  omega
theorem ro_pos {s n l : Nat} {a : Nat → Nat} {m : Nat} (h0 : 0 < ro_cnt s n l 0 0) (hv : ro_val s n l a m) : 0 < ro_W s n l a m := by
  cases m with
  | zero => exact h0
  | succ m =>
    have h1 := hv m (by omega)
    rw [ro_W1 h1.1]
    exact h1.1
theorem ro_end {s n l : Nat} (hc : ro_cf s n l) {a : Nat → Nat} (h0 : 0 < ro_cnt s n l 0 0) (hv : ro_val s n l a l) : ro_W s n l a l = 1 := by
  have h1 := ro_pos h0 hv
  have h2 := ro_endL hc (ro_okA hc l (Nat.le_refl l) hv)
  have h3 : ro_W s n l a l = ro_cnt s n 0 l (ro_st s a l) := by
    unfold ro_W
    rw [Nat.sub_self]
  omega
theorem ro_RS (s n l : Nat) (a : Nat → Nat) (i : Nat) : ro_R s n l a (i + 1) = ro_R s n l a i + ro_su (ro_v s n l a i) (a i) := rfl
theorem ro_tel {s n l : Nat} (hc : ro_cf s n l) {a : Nat → Nat} (h0 : 0 < ro_cnt s n l 0 0) (hv : ro_val s n l a l) : ∀ d i, i + d = l → ro_R s n l a i ≤ ro_R s n l a l ∧ ro_R s n l a l < ro_R s n l a i + ro_W s n l a i := by
  intro d
  induction d with
  | zero =>
    intro i hi
    have e : i = l := by omega
    have h1 := ro_end hc h0 hv
    rw [e]
    omega
  | succ d ih =>
    intro i hi
    obtain ⟨h1, h2⟩ := ih (i + 1) (by omega)
    have h3 := hv i (by omega)
    have h4 := ro_W1 h3.1
    have h5 := ro_sumA hc (by omega : i < l) (ro_val_le (by omega) hv)
    have h6 := ro_su_mono (ro_v s n l a i) (show a i + 1 ≤ 8 by omega)
    rw [ro_suS] at h6
    rw [ro_RS] at h1 h2
    omega
/-- a place set: the row is valid one place further -/
theorem ro_ext1 {s n l : Nat} {a : Nat → Nat} {i x : Nat} (hv : ro_val s n l a i) (hx : x < 8) (hp : 0 < ro_v s n l a i x) :
    ro_val s n l (ro_up a i x) (i + 1) ∧ ro_R s n l (ro_up a i x) (i + 1) = ro_R s n l a i + ro_su (ro_v s n l a i) x ∧ ro_W s n l (ro_up a i x) (i + 1) = ro_v s n l a i x := by
  refine ⟨fun j hj => ?_, ?_, ro_vW hp⟩
  · by_cases e : j = i
    · rw [e, ro_ups, ro_v_ext (b := a) ro_upe]
      exact ⟨hp, hx⟩
    · exact ro_val_ext (fun k hk => (ro_upe k hk).symm) hv j (by omega)
  · rw [ro_RS, ro_ups, ro_v_ext (b := a) ro_upe, ro_R_ext (b := a) ro_upe]
/-! the order of codes is the order of ranks -/
theorem ro_code_lt {a : Nat → Nat} : ∀ m, (∀ j, j < m → a j < 8) → ro_code a m < 8 ^ m := by
  intro m
  induction m with
  | zero => intro _; exact Nat.one_pos
  | succ m ih =>
    intro h
    have h1 := ih (fun j hj => h j (by omega))
    have h2 := h m (by omega)
    show 8 * ro_code a m + a m < 8 ^ m * 8
    omega
theorem ro_code_ext {a b : Nat → Nat} : ∀ m, (∀ j, j < m → a j = b j) → ro_code a m = ro_code b m := by
  intro m
  induction m with
  | zero => intro _; rfl
  | succ m ih =>
    intro h
    show 8 * ro_code a m + a m = 8 * ro_code b m + b m
    rw [ih (fun j hj => h j (by omega)), h m (by omega)]
theorem ro_code_lex {a b : Nat → Nat} {i : Nat} (he : ∀ j, j < i → a j = b j) (hl : a i < b i) : ∀ m, i < m → (∀ j, j < m → a j < 8) → ro_code a m < ro_code b m := by
  intro m
  induction m with
  | zero => intro h _; omega
  | succ m ih =>
    intro h ha
    have h2 := ha m (by omega)
    show 8 * ro_code a m + a m < 8 * ro_code b m + b m
    by_cases e : i = m
    · have h3 := ro_code_ext (a := a) (b := b) m (fun j hj => he j (by omega))
      rw [e] at hl
      omega
    · have h3 := ih (by omega) (fun j hj => ha j (by omega))
      omega
theorem ro_lex {s n l : Nat} (hc : ro_cf s n l) (h0 : 0 < ro_cnt s n l 0 0) {a b : Nat → Nat} (ha : ro_val s n l a l) (hb : ro_val s n l b l) {i : Nat} (hi : i < l) (he : ∀ j, j < i → a j = b j) (hl : a i < b i) :
    ro_R s n l a l < ro_R s n l b l ∧ ro_code a l < ro_code b l := by
  refine ⟨?_, ro_code_lex he hl l hi (fun j hj => (ha j hj).2)⟩
  obtain ⟨_, h1⟩ := ro_tel hc h0 ha (l - (i + 1)) (i + 1) (by omega)
  obtain ⟨h2, _⟩ := ro_tel hc h0 hb (l - (i + 1)) (i + 1) (by omega)
  have h3 := ro_W1 (ha i hi).1
  have h4 := ro_su_mono (ro_v s n l a i) (show a i + 1 ≤ b i by omega)
  have h5 := ro_R_ext (s := s) (n := n) (l := l) he
  have h6 := ro_v_ext (s := s) (n := n) (l := l) he
  rw [ro_suS] at h4
  rw [ro_RS] at h1 h2
  rw [← h6, ← h5] at h2
  omega
theorem ro_fd (a b : Nat → Nat) (m : Nat) : ∃ d, d ≤ m ∧ (∀ j, j < d → a j = b j) ∧ (d < m → ¬ a d = b d) := by
  induction m with
  | zero => exact ⟨0, Nat.le_refl 0, fun j h => absurd h (by omega), fun h => absurd h (by omega)⟩
  | succ m ih =>
    obtain ⟨d, h1, h2, h3⟩ := ih
    by_cases hd : d < m
    · exact ⟨d, by omega, h2, fun _ => h3 hd⟩
    · by_cases he : a d = b d
      · refine ⟨d + 1, by omega, fun j hj => ?_, fun h => absurd h (by omega)⟩
        by_cases e : j = d
        · rw [e, he]
        · exact h2 j (by omega)
      · exact ⟨d, by omega, h2, fun _ => he⟩
theorem ro_cmp {s n l : Nat} (hc : ro_cf s n l) (h0 : 0 < ro_cnt s n l 0 0) {a b : Nat → Nat} (ha : ro_val s n l a l) (hb : ro_val s n l b l) :
    (ro_R s n l a l < ro_R s n l b l ∧ ro_code a l < ro_code b l) ∨ (ro_R s n l a l = ro_R s n l b l ∧ ro_code a l = ro_code b l) ∨ (ro_R s n l b l < ro_R s n l a l ∧ ro_code b l < ro_code a l) := by
  obtain ⟨d, h1, h2, h3⟩ := ro_fd a b l
  by_cases e : d < l
  · have h4 := h3 e
    rcases Nat.lt_or_gt_of_ne h4 with h5 | h5
    · exact Or.inl (ro_lex hc h0 ha hb e h2 h5)
    · exact Or.inr (Or.inr (ro_lex hc h0 hb ha e (fun j hj => (h2 j hj).symm) h5))
  · have e' : d = l := by omega
    rw [e'] at h2
    exact Or.inr (Or.inl ⟨ro_R_ext h2, ro_code_ext l h2⟩)
/-! the steps of next and previous -/
theorem ro_nx0 {s n l : Nat} (hc : ro_cf s n l) {a : Nat → Nat} {i q : Nat} (hi : i < l) (hv : ro_val s n l a (i + 1)) (hq : q = ro_R s n l a (i + 1) + ro_W s n l a (i + 1)) (hz : ∀ y, a i + 1 ≤ y → y < 8 → ro_v s n l a i y = 0) :
    q = ro_R s n l a i + ro_W s n l a i := by
  have h1 := hv i (by omega)
  have h2 := ro_W1 h1.1
  have h3 := ro_sumA hc hi (ro_val_le (Nat.le_succ i) hv)
  have h4 := ro_su_eq (ro_v s n l a i) (show a i + 1 ≤ 8 by omega) hz
  rw [ro_suS _ (a i)] at h4
  rw [ro_RS] at hq
  omega
theorem ro_nx1 {s n l : Nat} {a : Nat → Nat} {i q x : Nat} (hv : ro_val s n l a (i + 1)) (hq : q = ro_R s n l a (i + 1) + ro_W s n l a (i + 1)) (hx : x < 8) (hax : a i + 1 ≤ x) (hz : ∀ y, a i + 1 ≤ y → y < x → ro_v s n l a i y = 0) (hp : 0 < ro_v s n l a i x) :
    ro_val s n l (ro_up a i x) (i + 1) ∧ ro_R s n l (ro_up a i x) (i + 1) = q := by
  have h1 := hv i (by omega)
  have h2 := ro_W1 h1.1
  obtain ⟨g1, g2, _⟩ := ro_ext1 (ro_val_le (Nat.le_succ i) hv) hx hp
  have h4 := ro_su_eq (ro_v s n l a i) hax hz
  rw [ro_suS] at h4
  rw [ro_RS] at hq
  exact ⟨g1, by omega⟩
theorem ro_nx2 {s n l : Nat} {a : Nat → Nat} {i q x : Nat} (hv : ro_val s n l a i) (hq : ro_R s n l a i = q) (hx : x < 8) (hz : ∀ y, y < x → ro_v s n l a i y = 0) (hp : 0 < ro_v s n l a i x) :
    ro_val s n l (ro_up a i x) (i + 1) ∧ ro_R s n l (ro_up a i x) (i + 1) = q := by
  obtain ⟨g1, g2, _⟩ := ro_ext1 hv hx hp
  rw [ro_su0 x hz] at g2
  exact ⟨g1, by omega⟩
theorem ro_pv0 {s n l : Nat} {a : Nat → Nat} {i q : Nat} (hq : ro_R s n l a (i + 1) = q) (hz : ∀ y, y < a i → ro_v s n l a i y = 0) : ro_R s n l a i = q := by
  rw [ro_RS, ro_su0 _ hz] at hq
  exact hq
theorem ro_pv1 {s n l : Nat} {a : Nat → Nat} {i q x : Nat} (hv : ro_val s n l a i) (hq : ro_R s n l a (i + 1) = q) (hx : x < 8) (hax : x < a i) (hz : ∀ y, x + 1 ≤ y → y < a i → ro_v s n l a i y = 0) (hp : 0 < ro_v s n l a i x) :
    ro_val s n l (ro_up a i x) (i + 1) ∧ ro_R s n l (ro_up a i x) (i + 1) + ro_W s n l (ro_up a i x) (i + 1) = q := by
  obtain ⟨g1, g2, g3⟩ := ro_ext1 hv hx hp
  have h4 := ro_su_eq (ro_v s n l a i) (show x + 1 ≤ a i from hax) hz
  rw [ro_suS] at h4
  rw [ro_RS] at hq
  exact ⟨g1, by omega⟩
theorem ro_pv2 {s n l : Nat} (hc : ro_cf s n l) {a : Nat → Nat} {i q x : Nat} (hi : i < l) (hv : ro_val s n l a i) (hq : ro_R s n l a i + ro_W s n l a i = q) (hx : x < 8) (hz : ∀ y, x + 1 ≤ y → y < 8 → ro_v s n l a i y = 0) (hp : 0 < ro_v s n l a i x) :
    ro_val s n l (ro_up a i x) (i + 1) ∧ ro_R s n l (ro_up a i x) (i + 1) + ro_W s n l (ro_up a i x) (i + 1) = q := by
  obtain ⟨g1, g2, g3⟩ := ro_ext1 hv hx hp
  have h3 := ro_sumA hc hi hv
  have h4 := ro_su_eq (ro_v s n l a i) (show x + 1 ≤ 8 from hx) hz
  rw [ro_suS _ x] at h4
  exact ⟨g1, by omega⟩
/-- where something goes on, some item may come -/
theorem ro_some {s n l : Nat} (hc : ro_cf s n l) (h0 : 0 < ro_cnt s n l 0 0) {a : Nat → Nat} {i : Nat} (hi : i < l) (hv : ro_val s n l a i) (hz : ∀ y, y < 8 → ro_v s n l a i y = 0) : False := by
  have h1 := ro_pos h0 hv
  have h2 := ro_sumA hc hi hv
  rw [ro_su0 8 hz] at h2
  omega
end
section
/-! the methods that read: over the items a as naturals -/
def ro_A (a : Nat → Nat) : Nat → Int32 := fun j => nI (a j)
def ro_T (a3 a4 a5 a6 : Nat → Int32) : Prop :=
  (∀ f d, f < 8 → d ≤ f → a3 (8 * f + d) = nI (ro_C f d)) ∧ (∀ d g, d < 8 → g + d < 16 → a4 (16 * d + g) = nI (ro_ge d g)) ∧
  (∀ z o, z < 8 → o ≤ z → a5 (8 * z + o) = nI (ro_ne z o)) ∧ (∀ d, d < 8 → a6 d = nI (ro_fact d))
theorem ro_Ac {a : Nat → Nat} {x : Int32} (k : Nat) (hx : x = nI k) (hk : k < 2 ^ 31) : ro_A a x.toNatClampNeg = nI (a k) := by
  subst hx
  rw [nI_clamp hk]
  rfl
theorem ro_b8 : ∀ x, x < 8 → (nI x).toInt8.toInt32 = nI x := by decide +kernel
theorem ro_Aup {a : Nat → Nat} {x : Int32} {y : Int32} (i z : Nat) (hx : x = nI i) (hy : y = nI z) (hi : i < 2 ^ 31) : upd (ro_A a) x.toNatClampNeg y = ro_A (ro_up a i z) := by
  subst hx hy
  rw [nI_clamp hi]
  funext j
  by_cases e : j = i
  · rw [e, pk_us]
    show nI z = nI (ro_up a i z i)
    rw [ro_ups]
  · rw [pk_un e]
    show nI (a j) = nI (ro_up a i z j)
    rw [ro_upn e]
theorem ro_upup (a : Nat → Nat) (i x : Nat) : ro_up (ro_up a i x) i (a i) = a := by
  funext j
  by_cases e : j = i
  · rw [e, ro_ups]
  · rw [ro_upn e, ro_upn e]
theorem ro_or8 : ∀ st, st < 256 → ∀ x, x < 8 → nI st ||| ((1 : Int32) <<< (nI x &&& 31)) = nI (st ||| 2 ^ x) ∧ st ||| 2 ^ x < 256 := by decide +kernel
theorem ro_sh8 : ∀ st, st < 256 → ∀ x, x < 8 → ((nI st >>> (nI x &&& 31)) &&& 1) = nI (st / 2 ^ x % 2) := by decide +kernel
theorem ro_le8 : ∀ x, x < 9 → ∀ g, g < 9 → (nI x ≤ nI g - 1 ↔ x + 1 ≤ g) := by decide +kernel
theorem ro_ws8 : ∀ r, r < 8 → ∀ k, k < 8 → 0 < k → nI (ro_C (r + (k - 1)) (k - 1)) * (nI r + nI k) / nI k = nI (ro_C (r + k) k) := by decide +kernel
theorem ro_st1b {a : Nat → Nat} (ha : ∀ j, a j < 8) : ∀ i, ro_st 1 a i < 256 := by
  intro i
  induction i with
  | zero => exact (by decide : (0 : Nat) < 256)
  | succ i ih => exact (ro_or8 _ ih (a i) (ha i)).2
theorem ro_st2b {a : Nat → Nat} (ha : ∀ j, a j < 8) : ∀ i, ro_st 2 a i ≤ 8 := by
  intro i
  induction i with
  | zero => exact Nat.zero_le 8
  | succ i ih =>
    have h := ha i
    show (if ro_st 2 a i ≤ a i then a i + 1 else ro_st 2 a i) ≤ 8
    split <;> omega
theorem ro_st3b {a : Nat → Nat} (ha : ∀ j, a j < 8) : ∀ i, ro_st 3 a i ≤ 7 * i := by
  intro i
  induction i with
  | zero => exact Nat.zero_le _
  | succ i ih =>
    have h := ha i
    show ro_st 3 a i + a i ≤ 7 * (i + 1)
    omega
theorem ro_st43 (a : Nat → Nat) : ∀ i, ro_st 4 a i = ro_st 3 a i := by
  intro i
  induction i with
  | zero => rfl
  | succ i ih =>
    show ro_st 4 a i + a i = ro_st 3 a i + a i
    rw [ih]
section
variable {f0 f1 f2 f3 f4 : Int32} {a : Nat → Nat} {a2 a3 a4 a5 a6 : Nat → Int32}
theorem ro_sumB {post : Int32 → Prop} {i : Nat} (hi : i ≤ 14) (hp : post (nI (ro_st 3 a i))) : wpX_sumBefore post (f0, f1, f2, f3, f4, ro_A a, a2, a3, a4, a5, a6) (nI i) :=
  pk_loop (σ := Unit) (fun n j _ => wX_sumBefore_4 post (nI i) f0 f1 f2 f3 f4 (ro_A a) a2 a3 a4 a5 a6 n (nI (ro_st 3 a j)) (nI j)) (fun _ _ => True) i 0 () (by omega) trivial
    (fun n _ _ => pk_le i i (fun _ => hp) (fun z => absurd z (by omega)))
    (fun n j _ hj _ hw => pk_le i j (fun z => absurd z (by omega)) (fun _ => ⟨pk_in j 14 (by omega), nm_r (by rw [ro_Ac j rfl (by omega)]; exact nI_add _ _) (nm_r (nI_1 j) (hw () trivial))⟩))
theorem ro_usB {post : Int32 → Prop} {i : Nat} (hi : i ≤ 14) (ha : ∀ j, a j < 8) (hp : post (nI (ro_st 1 a i))) : wpX_usedBefore post (f0, f1, f2, f3, f4, ro_A a, a2, a3, a4, a5, a6) (nI i) :=
  pk_loop (σ := Unit) (fun n j _ => wX_usedBefore_4 post (nI i) f0 f1 f2 f3 f4 (ro_A a) a2 a3 a4 a5 a6 n (nI (ro_st 1 a j)) (nI j)) (fun _ _ => True) i 0 () (by omega) trivial
    (fun n _ _ => pk_le i i (fun _ => hp) (fun z => absurd z (by omega)))
    (fun n j _ hj _ hw => pk_le i j (fun z => absurd z (by omega)) (fun _ => ⟨pk_in j 14 (by omega), nm_r (by rw [ro_Ac j rfl (by omega)]; exact (ro_or8 _ (ro_st1b ha j) (a j) (ha j)).1) (nm_r (nI_1 j) (hw () trivial))⟩))
theorem ro_grB {post : Int32 → Prop} {i : Nat} (hi : i ≤ 14) (ha : ∀ j, a j < 8) (hp : post (nI (ro_st 2 a i) - 1)) : wpX_greatestBefore post (f0, f1, f2, f3, f4, ro_A a, a2, a3, a4, a5, a6) (nI i) := by
  have h : ∃ n, wX_greatestBefore_4 post (nI i) f0 f1 f2 f3 f4 (ro_A a) a2 a3 a4 a5 a6 n (nI 0 - 1) (nI 0) := by
    refine pk_loop (σ := Unit) (fun n j _ => wX_greatestBefore_4 post (nI i) f0 f1 f2 f3 f4 (ro_A a) a2 a3 a4 a5 a6 n (nI (ro_st 2 a j) - 1) (nI j)) (fun _ _ => True) i 0 () (by omega) trivial
      (fun n _ _ => pk_le i i (fun _ => hp) (fun z => absurd z (by omega))) ?_
    intro n j _ hj _ hw
    have hw' : wX_greatestBefore_4 post (nI i) f0 f1 f2 f3 f4 (ro_A a) a2 a3 a4 a5 a6 n (nI (ro_st 2 a (j + 1)) - 1) (nI (j + 1)) := hw () trivial
    have h8 := ha j
    have g8 := ro_st2b ha j
    have hc : ro_A a (nI j).toNatClampNeg = nI (a j) := ro_Ac j rfl (by omega)
    refine pk_le i j (fun z => absurd z (by omega)) (fun _ => ⟨pk_in j 14 (by omega), ?_⟩)
    rw [hc]
    refine ek_if (ro_le8 (a j) (by omega) (ro_st 2 a j) (by omega)) (fun q => nm_r (nI_1 j) ?_) (fun q => ⟨pk_in j 14 (by omega), nm_r (e' := nI (ro_st 2 a (j + 1)) - 1) ?_ (nm_r (nI_1 j) hw')⟩)
    · rw [show ro_st 2 a (j + 1) = ro_st 2 a j from if_neg (by omega)] at hw'
      exact hw'
    · rw [show ro_st 2 a (j + 1) = a j + 1 from if_pos (by omega), nI_pred]
  rw [show nI 0 - 1 = (-1 : Int32) by decide] at h
  exact h
theorem ro_ways {post : Int32 → Prop} {r d : Nat} (hr : r < 8) (hd : d < 8) (h0 : 0 < d) (hp : post (nI (ro_C (r + (d - 1)) (d - 1)))) : wpX_waysToSplit post (f0, f1, f2, f3, f4, ro_A a, a2, a3, a4, a5, a6) (nI r) (nI d) := by
  have h : ∃ n, wX_waysToSplit_5 post (nI r) (nI d) f0 f1 f2 f3 f4 (ro_A a) a2 a3 a4 a5 a6 n (nI (ro_C (r + (1 - 1)) (1 - 1))) (nI 1) :=
    pk_loop (σ := Unit) (fun n k _ => wX_waysToSplit_5 post (nI r) (nI d) f0 f1 f2 f3 f4 (ro_A a) a2 a3 a4 a5 a6 n (nI (ro_C (r + (k - 1)) (k - 1))) (nI k)) (fun k _ => 0 < k) d 1 () (by omega) Nat.one_pos
      (fun n _ _ => pk_le d d (fun _ => hp) (fun z => absurd z (by omega)))
      (fun n k _ hk h0 hw => pk_le d k (fun z => absurd z (by omega)) (fun _ => ⟨nI_ne0 h0 (by omega), nm_r (ro_ws8 r hr k (by omega) h0) (nm_r (nI_1 k) (hw () (Nat.succ_pos k)))⟩))
  rw [show ro_C (r + (1 - 1)) (1 - 1) = 1 from ro_C0 _] at h
  exact h
theorem ro_83 {post : Int32 → Prop} {d z : Nat} (hT : ro_T a3 a4 a5 a6) (hd : d < 8) (hz : z < 8) (hp : post (nI (if d ≤ z then ro_C z d else 0))) : wX_goingOn_83 post (nI d) (nI z) f0 f1 f2 f3 f4 (ro_A a) a2 a3 a4 a5 a6 := by
  unfold wX_goingOn_83
  have e : (8 : Int32) * nI z + nI d = nI (8 * z + d) := by
    show nI 8 * nI z + nI d = _
    rw [pk_mul, nI_add]
  refine pk_le d z (fun h => ⟨pk_in (8 * z + d) 64 (by omega) e, ?_⟩) (fun h => ?_)
  · rw [e, nI_clamp (by omega), hT.1 z d hz h]
    rw [if_pos h] at hp
    exact hp
  · rw [if_neg (by omega)] at hp
    exact hp
end
section
variable {s n l : Nat} {f2 f4 : Int32} {a : Nat → Nat} {a2 a3 a4 a5 a6 : Nat → Int32}
theorem ro_subadd {x y z : Nat} (h : y ≤ x + z) : nI x - nI y + nI z = nI (x + z - y) := by
  rw [← pk_sub h, ← nI_add]
  grind
theorem ro_going {post : Int32 → Prop} {i : Nat} (hc : ro_cf s n l) (hT : ro_T a3 a4 a5 a6) (ha : ∀ j, a j < 8) (hi : i ≤ l) (hok : ro_ok s n i (ro_st s a i)) (hp : post (nI (ro_W s n l a i))) :
    wpX_goingOn post (nI s, nI n, f2, nI l, f4, ro_A a, a2, a3, a4, a5, a6) (nI i) := by
  obtain ⟨hl14, hl7⟩ := ro_cfl hc
  obtain ⟨c1, c2, c3, c4, c5, c6⟩ := hc
  have hs : s = 0 ∨ s = 1 ∨ s = 2 ∨ s = 3 ∨ s = 4 := by omega
  have hsub : nI l - nI i = nI (l - i) := pk_sub hi
  rcases hs with rfl | rfl | rfl | rfl | rfl
  · have hl : l ≤ 7 := hl7 (by decide)
    have hok' : ro_st 0 a i ≤ n := hok
    refine nm_r hsub (br_f (by decide) (br_f (by decide) (br_t rfl ?_)))
    cases i with
    | zero => exact br_t rfl (ro_83 hT (by omega) (by omega) hp)
    | succ i =>
      have e1 : ro_st 0 a (i + 1) = a i + 1 := rfl
      rw [e1] at hok'
      refine br_f (nI_ne0 (by omega) (by omega)) ⟨pk_in i 14 (by omega) (nI_pred i), ?_⟩
      rw [ro_Ac i (nI_pred i) (by omega)]
      have e2 : nI n - 1 - nI (a i) = nI (n - (a i + 1)) := by
        show nI n - nI 1 - nI (a i) = _
        rw [pk_sub c2, pk_sub (by omega)]
        exact congrArg nI (by omega)
      rw [e2]
      exact ro_83 hT (by omega) (by omega) hp
  · have hl : l ≤ 7 := hl7 (by decide)
    refine nm_r hsub (br_t rfl ⟨pk_in (l - i) 8 (by omega), ?_⟩)
    rw [nI_clamp (by omega), hT.2.2.2 (l - i) (by omega)]
    exact hp
  · have hl : l ≤ 7 := hl7 (by decide)
    have hok' : ro_st 2 a i ≤ i := hok
    refine nm_r hsub (br_f (by decide) (br_t rfl (ro_grB (by omega) ha (nm_r (e' := nI (ro_st 2 a i)) (Int32.sub_add_cancel _ _) ?_))))
    have e : (16 : Int32) * nI (l - i) + nI (ro_st 2 a i) = nI (16 * (l - i) + ro_st 2 a i) := by
      show nI 16 * nI (l - i) + nI (ro_st 2 a i) = _
      rw [pk_mul, nI_add]
    rw [e]
    refine ⟨pk_in (16 * (l - i) + ro_st 2 a i) 128 (by omega), ?_⟩
    rw [nI_clamp (by omega), hT.2.1 (l - i) (ro_st 2 a i) (by omega) (by omega)]
    exact hp
  · obtain ⟨k1, k2, k3⟩ : ro_st 3 a i ≤ n ∧ ro_st 3 a i ≤ i ∧ i ≤ 2 * ro_st 3 a i := hok
    refine nm_r hsub (br_f (by decide) (br_f (by decide) (br_f (by decide) (ro_sumB (by omega) (br_t rfl ?_)))))
    have e : (8 : Int32) * (nI n - nI i + nI (ro_st 3 a i)) + nI n - nI (ro_st 3 a i) = nI (8 * (n + ro_st 3 a i - i) + (n - ro_st 3 a i)) := by
      rw [ro_subadd (by omega)]
      show nI 8 * nI (n + ro_st 3 a i - i) + nI n - nI (ro_st 3 a i) = _
      rw [pk_mul, nI_add, pk_sub (by omega)]
      exact congrArg nI (by omega)
    rw [e]
    refine ⟨pk_in (8 * (n + ro_st 3 a i - i) + (n - ro_st 3 a i)) 64 (by omega), ?_⟩
    rw [nI_clamp (by omega), hT.2.2.1 (n + ro_st 3 a i - i) (n - ro_st 3 a i) (by omega) (by omega)]
    exact hp
  · have hl : l ≤ 7 := hl7 (by decide)
    have hb := ro_st3b ha i
    have hp' : post (nI (if n < ro_st 4 a i then 0 else if l - i = 0 then (if ro_st 4 a i < n then 0 else 1) else ro_C (n - ro_st 4 a i + (l - i - 1)) (l - i - 1))) := hp
    rw [ro_st43] at hp'
    refine nm_r hsub (br_f (by decide) (br_f (by decide) (br_f (by decide) (ro_sumB (by omega) (br_f (by decide) ?_)))))
    by_cases q : n < ro_st 3 a i
    · rw [if_pos q] at hp'
      exact nm_e (br_t (pk_sneg (by omega) q) hp')
    · rw [if_neg q] at hp'
      refine nm_r (pk_sub (by omega)) (br_f (nI_pos (by omega)) (pk_eq (l - i) 0 (fun z => ?_) (fun z => ?_)))
      · rw [if_pos z] at hp'
        refine pk_le (n - ro_st 3 a i) 0 (fun w => ?_) (fun w => ?_)
        · rw [if_neg (by omega)] at hp'
          rw [z]
          exact br_t rfl hp'
        · rw [if_pos (by omega)] at hp'
          exact hp'
      · rw [if_neg z] at hp'
        exact br_f (nI_ne0 (by omega) (by omega)) (ro_ways (by omega) (by omega) (by omega) hp')
theorem ro_mc {post : Int32 → Prop} {i x : Nat} (hc : ro_cf s n l) (ha : ∀ j, a j < 8) (hi : i < l) (hx : x < 8) (hok : ro_ok s n i (ro_st s a i)) (h1 : ro_may s n i (ro_st s a i) x = true → post 1) (h0 : ro_may s n i (ro_st s a i) x = false → post 0) :
    wpX_mayCome post (nI s, nI n, f2, nI l, f4, ro_A a, a2, a3, a4, a5, a6) (nI i) (nI x) := by
  obtain ⟨hl14, hl7⟩ := ro_cfl hc
  obtain ⟨c1, c2, c3, c4, c5, c6⟩ := hc
  have hs : s = 0 ∨ s = 1 ∨ s = 2 ∨ s = 3 ∨ s = 4 := by omega
  rcases hs with rfl | rfl | rfl | rfl | rfl
  · have H1 : x < n → ro_st 0 a i ≤ x → post 1 := fun p q => h1 (by show (decide (x < n) && decide (ro_st 0 a i ≤ x)) = true; rw [decide_eq_true p, decide_eq_true q]; rfl)
    have H0 : ¬ (x < n ∧ ro_st 0 a i ≤ x) → post 0 := fun p => h0 (by
      show (decide (x < n) && decide (ro_st 0 a i ≤ x)) = false
      rw [← Bool.decide_and]
      exact decide_eq_false p)
    refine br_t rfl (pk_le n x (fun p => H0 (fun t => absurd t.1 (by omega))) (fun p => ?_))
    cases i with
    | zero => exact br_t rfl (H1 p (Nat.zero_le x))
    | succ i =>
      have e1 : ro_st 0 a (i + 1) = a i + 1 := rfl
      rw [e1] at H1 H0
      have h8 := ha i
      refine br_f (nI_ne0 (by omega) (by omega)) ⟨pk_in i 14 (by omega) (nI_pred i), ?_⟩
      rw [ro_Ac i (nI_pred i) (by omega)]
      exact pk_le x (a i) (fun q => H0 (fun t => absurd t.2 (by omega))) (fun q => H1 p q)
  · have H1 : x < n → ro_st 1 a i / 2 ^ x % 2 = 0 → post 1 := fun p q => h1 (by show (decide (x < n) && decide (ro_st 1 a i / 2 ^ x % 2 = 0)) = true; rw [decide_eq_true p, decide_eq_true q]; rfl)
    have H0 : ¬ (x < n ∧ ro_st 1 a i / 2 ^ x % 2 = 0) → post 0 := fun p => h0 (by
      show (decide (x < n) && decide (ro_st 1 a i / 2 ^ x % 2 = 0)) = false
      rw [← Bool.decide_and]
      exact decide_eq_false p)
    refine br_f (by decide) (br_t rfl (pk_le n x (fun p => H0 (fun t => absurd t.1 (by omega))) (fun p => ro_usB (by omega) ha ?_)))
    have hm : ro_st 1 a i / 2 ^ x % 2 < 2 := Nat.mod_lt _ (by decide)
    rw [ro_sh8 _ (ro_st1b ha i) x hx]
    exact pk_eq (ro_st 1 a i / 2 ^ x % 2) 0 (fun q => H1 p q) (fun q => H0 (fun t => q t.2))
  · have H1 : x ≤ ro_st 2 a i → post 1 := fun p => h1 (by show decide (x ≤ ro_st 2 a i) = true; exact decide_eq_true p)
    have H0 : ¬ x ≤ ro_st 2 a i → post 0 := fun p => h0 (by show decide (x ≤ ro_st 2 a i) = false; exact decide_eq_false p)
    have g8 := ro_st2b ha i
    refine br_f (by decide) (br_f (by decide) (br_t rfl (ro_grB (by omega) ha ?_)))
    rw [Int32.sub_add_cancel]
    exact pk_lt (ro_st 2 a i) x (fun q => H0 (by omega)) (fun q => H1 q)
  · obtain ⟨k1, k2, k3⟩ : ro_st 3 a i ≤ n ∧ ro_st 3 a i ≤ i ∧ i ≤ 2 * ro_st 3 a i := hok
    have hD : ro_may 3 n i (ro_st 3 a i) x = (decide (x ≤ 1) && (if x = 1 then decide (ro_st 3 a i < n) else decide (i < 2 * ro_st 3 a i))) := rfl
    rw [hD] at h1 h0
    refine br_f (by decide) (br_f (by decide) (br_f (by decide) (br_f (by decide) (pk_le x 1 (fun p => ro_sumB (by omega) (pk_eq x 1 (fun q => ?_) (fun q => ?_))) (fun p => ?_)))))
    · rw [decide_eq_true p, if_pos q] at h1 h0
      exact pk_le n (ro_st 3 a i) (fun w => h0 (by rw [decide_eq_false (by omega)]; rfl)) (fun w => h1 (by rw [decide_eq_true w]; rfl))
    · rw [decide_eq_true p, if_neg q] at h1 h0
      exact pk_le (ro_st 3 a i) (i - ro_st 3 a i) (fun w => h0 (by rw [decide_eq_false (by omega)]; rfl)) (fun w => h1 (by rw [decide_eq_true (by omega)]; rfl)) rfl (pk_sub k2)
    · rw [decide_eq_false (by omega)] at h0
      exact h0 rfl
  · have H1 : x ≤ n → post 1 := fun p => h1 (by show decide (x ≤ n) = true; exact decide_eq_true p)
    have H0 : ¬ x ≤ n → post 0 := fun p => h0 (by show decide (x ≤ n) = false; exact decide_eq_false p)
    exact br_f (by decide) (br_f (by decide) (br_f (by decide) (br_t rfl (pk_lt n x (fun q => H0 (by omega)) (fun q => H1 q)))))
theorem ro_wi {post : Int32 → St1 → Prop} {i x : Nat} (hc : ro_cf s n l) (hT : ro_T a3 a4 a5 a6) (ha : ∀ j, a j < 8) (hi : i < l) (hx : x < 8) (hok : ro_ok s n i (ro_st s a i)) (hp : post (nI (ro_v s n l a i x)) (nI s, nI n, f2, nI l, f4, ro_A a, a2, a3, a4, a5, a6)) :
    wpX_withItem post (nI s, nI n, f2, nI l, f4, ro_A a, a2, a3, a4, a5, a6) (nI i) (nI x) := by
  have hl := (ro_cfl hc).1
  unfold wpX_withItem
  refine ro_mc hc ha hi hx hok (fun hm => br_f (by decide) ⟨pk_in i 14 (by omega), nm_r (ro_Ac i rfl (by omega)) ⟨pk_in i 14 (by omega), nm_r (ro_Aup i x rfl (ro_b8 x hx) (by omega)) ?_⟩⟩) (fun hm => br_t rfl ?_)
  · rw [nI_1]
    have e0 : ro_st s (ro_up a i x) (i + 1) = ro_step s (ro_st s a i) x := by
      show ro_step s (ro_st s (ro_up a i x) i) (ro_up a i x i) = _
      rw [ro_ups, ro_st_ext ro_upe]
    have e1 : ro_v s n l a i x = ro_W s n l (ro_up a i x) (i + 1) := by
      have e : ro_v s n l a i x = ro_cnt s n (l - i - 1) (i + 1) (ro_step s (ro_st s a i) x) := if_pos hm
      rw [e]
      unfold ro_W
      rw [e0, show l - (i + 1) = l - i - 1 by omega]
    refine ro_going hc hT (ro_up8 ha hx) hi (by rw [e0]; exact ro_okS hc hok hi hx hm) ⟨pk_in i 14 (by omega), nm_r (e' := ro_A a) ?_ ?_⟩
    · rw [ro_Aup i (a i) rfl (by rw [vp_nar_byte]; exact ro_b8 _ (ha i)) (by omega), ro_upup]
    · rw [← e1]
      exact hp
  · have e : ro_v s n l a i x = 0 := if_neg (by rw [hm]; exact Bool.false_ne_true)
    rw [e] at hp
    exact hp
theorem ro_wi2 {post : Int32 → St1 → Prop} {i x : Nat} (hc : ro_cf s n l) (hT : ro_T a3 a4 a5 a6) (ha : ∀ j, a j < 8) (hi : i < l) (hx : x < 8) (hok : ro_ok s n i (ro_st s a i)) (hp : post (nI (ro_v s n l a i x)) (nI s, nI n, f2, nI l, f4, ro_A a, a2, a3, a4, a5, a6)) :
    wpX_withItem_2 post (nI s, nI n, f2, nI l, f4, ro_A a, a2, a3, a4, a5, a6) (nI i) (nI x) := by
  have h := ro_wi hc hT ha hi hx hok hp
  unfold wpX_withItem at h
  unfold wpX_withItem_2
  exact h
end
end
section
/-! the tables -/
def ro_N3 (z : Nat) (b : Nat → Int32) : Prop := ∀ f d, f < z → d ≤ f → b (8 * f + d) = nI (ro_C f d)
def ro_N4 (z : Nat) (b : Nat → Int32) : Prop := ∀ d g, d < z → g + d < 16 → b (16 * d + g) = nI (ro_ge d g)
def ro_N5 (z : Nat) (b : Nat → Int32) : Prop := ∀ f d, f < z → d ≤ f → b (8 * f + d) = nI (ro_ne f d)
def ro_N6 (z : Nat) (b : Nat → Int32) : Prop := ∀ d, d < z → b d = nI (ro_fact d)
theorem ro_N3u {z k : Nat} {b : Nat → Int32} {v : Int32} (h : ro_N3 z b) (hz : z ≤ 8) (hk : 8 * z ≤ k) : ro_N3 z (upd b k v) := fun f d hf hd => by
  rw [pk_un (by omega)]
  exact h f d hf hd
theorem ro_N4u {z k : Nat} {b : Nat → Int32} {v : Int32} (h : ro_N4 z b) (hk : 16 * z ≤ k) : ro_N4 z (upd b k v) := fun f d hf hd => by
  rw [pk_un (by omega)]
  exact h f d hf hd
theorem ro_N5u {z k : Nat} {b : Nat → Int32} {v : Int32} (h : ro_N5 z b) (hz : z ≤ 8) (hk : 8 * z ≤ k) : ro_N5 z (upd b k v) := fun f d hf hd => by
  rw [pk_un (by omega)]
  exact h f d hf hd
theorem ro_rowu {b : Nat → Int32} {B m : Nat} {g : Nat → Nat} {v : Int32} (h : ∀ d, d < m → b (B + d) = nI (g d)) (hv : v = nI (g m)) : ∀ d, d < m + 1 → upd b (B + m) v (B + d) = nI (g d) := by
  intro d hd
  by_cases e : d = m
  · rw [e, pk_us, hv]
  · rw [pk_un (by omega)]
    exact h d (by omega)
theorem ro_N3s {z : Nat} {b : Nat → Int32} (h : ro_N3 z b) (hr : ∀ d, d < z + 1 → b (8 * z + d) = nI (ro_C z d)) : ro_N3 (z + 1) b := fun f d hf hd => by
  by_cases e : f = z
  · rw [e] at hd ⊢
    exact hr d (by omega)
  · exact h f d (by omega) hd
theorem ro_N4s {z m : Nat} {b : Nat → Int32} (h : ro_N4 z b) (hr : ∀ g, g < m → b (16 * z + g) = nI (ro_ge z g)) (hm : 16 ≤ m + z) : ro_N4 (z + 1) b := fun f d hf hd => by
  by_cases e : f = z
  · rw [e] at hd ⊢
    exact hr d (by omega)
  · exact h f d (by omega) hd
theorem ro_N5s {z : Nat} {b : Nat → Int32} (h : ro_N5 z b) (hr : ∀ d, d < z + 1 → b (8 * z + d) = nI (ro_ne z d)) : ro_N5 (z + 1) b := fun f d hf hd => by
  by_cases e : f = z
  · rw [e] at hd ⊢
    exact hr d (by omega)
  · exact h f d (by omega) hd
theorem ro_x0 (z b : Nat) : (8 : Int32) * nI z + nI b = nI (8 * z + b) := by
  show nI 8 * nI z + nI b = _
  rw [pk_mul, nI_add]
theorem ro_x1 (z b : Nat) : (8 : Int32) * nI (z + 1) - 8 + nI b = nI (8 * z + b) := by
  show nI 8 * nI (z + 1) - nI 8 + nI b = _
  rw [pk_mul, pk_sub (by omega), nI_add]
  exact congrArg nI (by omega)
theorem ro_x2 (z b : Nat) : (8 : Int32) * nI (z + 1) - 8 + nI (b + 1) - 1 = nI (8 * z + b) := by
  rw [ro_x1]
  exact nI_pred (8 * z + b)
theorem ro_x3 (z b : Nat) : (8 : Int32) * nI z + nI (b + 1) - 1 = nI (8 * z + b) := by
  rw [ro_x0]
  exact nI_pred (8 * z + b)
theorem ro_x4 (z b : Nat) : (16 : Int32) * nI z + nI b = nI (16 * z + b) := by
  show nI 16 * nI z + nI b = _
  rw [pk_mul, nI_add]
theorem ro_x5 (z b : Nat) : (16 : Int32) * nI (z + 1) - 16 + nI b = nI (16 * z + b) := by
  show nI 16 * nI (z + 1) - nI 16 + nI b = _
  rw [pk_mul, pk_sub (by omega), nI_add]
  exact congrArg nI (by omega)
theorem ro_x6 (z b : Nat) : (16 : Int32) * nI (z + 1) - 15 + nI b = nI (16 * z + (b + 1)) := by
  show nI 16 * nI (z + 1) - nI 15 + nI b = _
  rw [pk_mul, pk_sub (by omega), nI_add]
  exact congrArg nI (by omega)
theorem ro_CS (n k : Nat) : ro_C (n + 1) (k + 1) = ro_C n k + ro_C n (k + 1) := rfl
theorem ro_Cz : ∀ n, n < 8 → ro_C n (n + 1) = 0 := by decide +kernel
theorem ro_z (x : Int32) : (0 : Int32) + x = x := Int32.zero_add x
section
variable {f0 f1 f2 f3 f4 : Int32} {a1 a2 a3 a4 a5 a6 : Nat → Int32} {post : St1 → Prop}
theorem ro_f285 {J220 J228 : Int32 → (Nat → Int32) → (Nat → Int32) → (Nat → Int32) → (Nat → Int32) → (Nat → Int32) → (Nat → Int32) → Prop} {z o v : Nat} (hz : z < 8) (ho : o ≤ z) (hw : J228 (nI (o + 1)) a1 a2 a3 a4 (upd a5 (8 * z + o) (nI v)) a6) :
    wX_fillTables_285 post J220 J228 (nI z) (nI o) (nI v) f0 f1 f2 f3 f4 a1 a2 a3 a4 a5 a6 := by
  unfold wX_fillTables_285
  rw [ro_x0]
  exact ⟨pk_in (8 * z + o) 64 (by omega), nm_r (by rw [nI_clamp (by omega)]) (nm_r (nI_1 o) hw)⟩
theorem ro_f242 {J220 J228 : Int32 → (Nat → Int32) → (Nat → Int32) → (Nat → Int32) → (Nat → Int32) → (Nat → Int32) → (Nat → Int32) → Prop} {z o : Nat} (hz : z < 8) (ho : o ≤ z) (h5 : ro_N5 z a5) (hr : ∀ d, d < o → a5 (8 * z + d) = nI (ro_ne z d)) (hw : J228 (nI (o + 1)) a1 a2 a3 a4 (upd a5 (8 * z + o) (nI (ro_ne z o))) a6) :
    (nI z = 0 → wX_fillTables_242 post J220 J228 (nI z) (nI o) 1 f0 f1 f2 f3 f4 a1 a2 a3 a4 a5 a6) ∧ (¬ nI z = 0 → wX_fillTables_242 post J220 J228 (nI z) (nI o) 0 f0 f1 f2 f3 f4 a1 a2 a3 a4 a5 a6) := by
  cases z with
  | zero =>
    have e : o = 0 := by omega
    subst e
    exact br_t rfl (br_t (by decide) (br_t (by decide) (ro_f285 (v := 1) (by omega) (by omega) hw)))
  | succ z =>
    refine br_f (nI_ne0 (by omega) (by omega)) ?_
    cases o with
    | zero =>
      refine br_t (by decide) (br_f (nI_nle (by omega) (by omega)) ⟨pk_in (8 * z + 0) 64 (by omega) (ro_x1 z 0), nm_r (e' := nI (ro_ne (z + 1) 0)) ?_ (ro_f285 hz ho hw)⟩)
      rw [ro_z, pk_cl _ (ro_x1 z 0) (by omega), h5 z 0 (by omega) (by omega)]
      rfl
    | succ o =>
      refine br_f (nI_nle (by omega) (by omega)) ⟨pk_in (8 * (z + 1) + o) 64 (by omega) (ro_x3 (z + 1) o), nm_r (e' := nI (ro_ne (z + 1) o)) ?_ (pk_le (z + 1) (o + 1) (fun q => ?_) (fun q => ⟨pk_in (8 * z + (o + 1)) 64 (by omega) (ro_x1 z (o + 1)), nm_r (e' := nI (ro_ne (z + 1) (o + 1))) ?_ (ro_f285 hz ho hw)⟩))⟩
      · rw [ro_z, pk_cl _ (ro_x3 (z + 1) o) (by omega), hr o (by omega)]
      · have e : ro_ne (z + 1) (o + 1) = ro_ne (z + 1) o := by
          show ro_nr (ro_ne z) z o + (if o < z then ro_ne z (o + 1) else 0) = ro_nr (ro_ne z) z o
          rw [if_neg (by omega)]
          rfl
        rw [e] at hw
        exact ro_f285 hz ho hw
      · rw [pk_cl _ (ro_x1 z (o + 1)) (by omega), h5 z (o + 1) (by omega) (by omega), nI_add]
        show nI (ro_nr (ro_ne z) z o + ro_ne z (o + 1)) = nI (ro_nr (ro_ne z) z o + (if o < z then ro_ne z (o + 1) else 0))
        rw [if_pos (by omega)]
theorem ro_f220 (hp : ∀ b5, ro_N5 8 b5 → post (f0, f1, f2, f3, f4, a1, a2, a3, a4, b5, a6)) : ∃ n, wX_fillTables_220 post f0 f1 f2 f3 f4 n 0 a1 a2 a3 a4 a5 a6 := by
  refine pk_loop (fun n z b => wX_fillTables_220 post f0 f1 f2 f3 f4 n (nI z) a1 a2 a3 a4 b a6) (fun z b => ro_N5 z b) 8 0 a5 (by omega) (fun f d hf => absurd hf (by omega))
    (fun n b h => pk_le 8 8 (fun _ => hp b h) (fun z => absurd z (by omega))) ?_
  intro n z b hz h hw
  refine pk_le 8 z (fun q => absurd q (by omega)) (fun _ => ?_)
  refine pk_loop (fun n o b => wX_fillTables_228 post _ (nI z) f0 f1 f2 f3 f4 n (nI o) a1 a2 a3 a4 b a6) (fun o b => ro_N5 z b ∧ ∀ d, d < o → b (8 * z + d) = nI (ro_ne z d)) (z + 1) 0 b (by omega) ⟨h, fun d hd => absurd hd (by omega)⟩
    (fun n b h => pk_lt z (z + 1) (fun _ => nm_r (nI_1 z) (hw b (ro_N5s h.1 h.2))) (fun q => absurd q (by omega))) ?_
  intro n o b ho h hw
  exact pk_lt z o (fun q => absurd q (by omega)) (fun _ => ro_f242 hz (by omega) h.1 h.2 (hw _ ⟨ro_N5u h.1 (by omega) (by omega), ro_rowu h.2 rfl⟩))
theorem ro_f148 (hp : ∀ b4 b5, ro_N4 8 b4 → ro_N5 8 b5 → post (f0, f1, f2, f3, f4, a1, a2, a3, b4, b5, a6)) (h1 : ro_N4 1 a4) : ∃ n, wX_fillTables_148 post f0 f1 f2 f3 f4 n 1 a1 a2 a3 a4 a5 a6 := by
  refine pk_loop (fun n z b => wX_fillTables_148 post f0 f1 f2 f3 f4 n (nI z) a1 a2 a3 b a5 a6) (fun z b => 0 < z ∧ ro_N4 z b) 8 1 a4 (by omega) ⟨by omega, h1⟩
    (fun n b h => pk_le 8 8 (fun _ => ro_f220 (fun b5 h5 => hp b b5 h.2 h5)) (fun z => absurd z (by omega))) ?_
  intro n z b hz h hw
  refine pk_le 8 z (fun q => absurd q (by omega)) (fun _ => ?_)
  obtain ⟨h0, h⟩ := h
  cases z with
  | zero => omega
  | succ z =>
    refine pk_loop (fun n g b => wX_fillTables_156 post _ (nI (z + 1)) f0 f1 f2 f3 f4 n (nI g) a1 a2 a3 b a5 a6) (fun g b => ro_N4 (z + 1) b ∧ ∀ d, d < g → b (16 * (z + 1) + d) = nI (ro_ge (z + 1) d)) (16 - (z + 1)) 0 b (by omega) ⟨h, fun d hd => absurd hd (by omega)⟩
      (fun n b h => pk_le 16 (16 - (z + 1) + (z + 1)) (fun _ => nm_r (nI_1 (z + 1)) (hw b ⟨by omega, ro_N4s h.1 h.2 (by omega)⟩)) (fun q => absurd q (by omega)) rfl (nI_add _ _)) ?_
    intro n g b hg h hw
    refine pk_le 16 (g + (z + 1)) (fun q => absurd q (by omega)) (fun _ => ⟨pk_in (16 * z + g) 128 (by omega) (ro_x5 z g), pk_in (16 * z + (g + 1)) 128 (by omega) (ro_x6 z g), pk_in (16 * (z + 1) + g) 128 (by omega) (ro_x4 (z + 1) g), nm_r (e' := upd b (16 * (z + 1) + g) (nI (ro_ge (z + 1) g))) ?_ (nm_r (nI_1 g) (hw _ ⟨ro_N4u h.1 (by omega), ro_rowu h.2 rfl⟩))⟩) rfl (nI_add _ _)
    rw [pk_cl _ (ro_x5 z g) (by omega), pk_cl _ (ro_x6 z g) (by omega), pk_cl _ (ro_x4 (z + 1) g) (by omega), h.1 z g (by omega) (by omega), h.1 z (g + 1) (by omega) (by omega), pk_mul, nI_add]
    rfl
theorem ro_f127 (hp : ∀ b4 b5, ro_N4 8 b4 → ro_N5 8 b5 → post (f0, f1, f2, f3, f4, a1, a2, a3, b4, b5, a6)) : ∃ n, wX_fillTables_127 post f0 f1 f2 f3 f4 n 0 a1 a2 a3 a4 a5 a6 := by
  refine pk_loop (fun n g b => wX_fillTables_127 post f0 f1 f2 f3 f4 n (nI g) a1 a2 a3 b a5 a6) (fun g b => ∀ d, d < g → b (0 + d) = nI (ro_ge 0 d)) 16 0 a4 (by omega) (fun d hd => absurd hd (by omega))
    (fun n b h => pk_le 16 16 (fun _ => ro_f148 hp (fun d g hd hg => ?_)) (fun z => absurd z (by omega))) ?_
  · have e : d = 0 := by omega
    subst e
    exact h g (by omega)
  · intro n g b hg h hw
    refine pk_le 16 g (fun q => absurd q (by omega)) (fun _ => ⟨pk_in g 128 (by omega), nm_r (e' := upd b (0 + g) 1) ?_ (nm_r (nI_1 g) (hw _ (ro_rowu h rfl)))⟩)
    rw [nI_clamp (by omega), Nat.zero_add]
theorem ro_f39 (hp : ∀ b3 b4 b5, ro_N3 8 b3 → ro_N4 8 b4 → ro_N5 8 b5 → post (f0, f1, f2, f3, f4, a1, a2, b3, b4, b5, a6)) : ∃ n, wX_fillTables_39 post f0 f1 f2 f3 f4 n 0 a1 a2 a3 a4 a5 a6 := by
  refine pk_loop (fun n z b => wX_fillTables_39 post f0 f1 f2 f3 f4 n (nI z) a1 a2 b a4 a5 a6) (fun z b => ro_N3 z b) 8 0 a3 (by omega) (fun f d hf => absurd hf (by omega))
    (fun n b h => pk_le 8 8 (fun _ => ro_f127 (fun b4 b5 h4 h5 => hp b b4 b5 h h4 h5)) (fun z => absurd z (by omega))) ?_
  intro n z b hz h hw
  have e8 : (8 : Int32) * nI z = nI (8 * z) := pk_mul 8 z
  refine pk_le 8 z (fun q => absurd q (by omega)) (fun _ => ⟨pk_in (8 * z) 64 (by omega) e8, nm_r (e' := upd b (8 * z + 0) 1) (by rw [pk_cl _ e8 (by omega)]; rfl) ?_⟩)
  refine pk_loop (fun n o b => wX_fillTables_57 post _ (nI z) f0 f1 f2 f3 f4 n (nI o) a1 a2 b a4 a5 a6) (fun o b => 0 < o ∧ ro_N3 z b ∧ ∀ d, d < o → b (8 * z + d) = nI (ro_C z d)) (z + 1) 1 _ (by omega) ⟨by omega, ro_N3u h (by omega) (by omega), ro_rowu (m := 0) (g := ro_C z) (fun d hd => absurd hd (by omega)) (by rw [ro_C0]; rfl)⟩
    (fun n b h => pk_lt z (z + 1) (fun _ => nm_r (nI_1 z) (hw b (ro_N3s h.2.1 h.2.2))) (fun q => absurd q (by omega))) ?_
  intro n o b ho h hw
  obtain ⟨h0, h1, h2⟩ := h
  cases o with
  | zero => omega
  | succ o =>
    cases z with
    | zero => omega
    | succ z =>
      have hw' := hw (upd b (8 * (z + 1) + (o + 1)) (nI (ro_C (z + 1) (o + 1)))) ⟨by omega, ro_N3u h1 (by omega) (by omega), ro_rowu h2 rfl⟩
      refine pk_lt (z + 1) (o + 1) (fun q => absurd q (by omega)) (fun _ => ⟨pk_in (8 * z + o) 64 (by omega) (ro_x2 z o), pk_le (z + 1) (o + 1) (fun q => ⟨pk_in (8 * (z + 1) + (o + 1)) 64 (by omega) (ro_x0 (z + 1) (o + 1)), nm_r ?_ (nm_r (nI_1 (o + 1)) hw')⟩) (fun q => ⟨pk_in (8 * z + (o + 1)) 64 (by omega) (ro_x1 z (o + 1)), pk_in (8 * (z + 1) + (o + 1)) 64 (by omega) (ro_x0 (z + 1) (o + 1)), nm_r ?_ (nm_r (nI_1 (o + 1)) hw')⟩)⟩)
      · have e : o = z := by omega
        rw [pk_cl _ (ro_x2 z o) (by omega), pk_cl _ (ro_x0 (z + 1) (o + 1)) (by omega), h1 z o (by omega) (by omega), ro_CS, e, ro_Cz z (by omega), Int32.add_zero]
        rfl
      · rw [pk_cl _ (ro_x2 z o) (by omega), pk_cl _ (ro_x1 z (o + 1)) (by omega), pk_cl _ (ro_x0 (z + 1) (o + 1)) (by omega), h1 z o (by omega) (by omega), h1 z (o + 1) (by omega) (by omega), nI_add, ro_CS]
theorem ro_fill (hp : ∀ b3 b4 b5 b6, ro_T b3 b4 b5 b6 → post (f0, f1, f2, f3, f4, a1, a2, b3, b4, b5, b6)) : wpX_fillTables post (f0, f1, f2, f3, f4, a1, a2, a3, a4, a5, a6) := by
  refine nm_e ?_
  refine pk_loop (fun n z b => wX_fillTables_9 post f0 f1 f2 f3 f4 n (nI z) a1 a2 a3 a4 a5 b) (fun z b => 0 < z ∧ ∀ d, d < z → b (0 + d) = nI (ro_fact d)) 8 1 _ (by omega) ⟨by omega, ro_rowu (B := 0) (m := 0) (g := ro_fact) (fun d hd => absurd hd (by omega)) rfl⟩
    (fun n b h => pk_le 8 8 (fun _ => ro_f39 (fun b3 b4 b5 h3 h4 h5 => hp b3 b4 b5 b ⟨h3, h4, h5, fun d hd => ?_⟩)) (fun z => absurd z (by omega))) ?_
  · have e := h.2 d hd
    rw [Nat.zero_add] at e
    exact e
  · intro n z b hz h hw
    obtain ⟨h0, h⟩ := h
    cases z with
    | zero => omega
    | succ z =>
      have hz' := h z (by omega)
      rw [Nat.zero_add] at hz'
      refine pk_le 8 (z + 1) (fun q => absurd q (by omega)) (fun _ => ⟨pk_in z 8 (by omega) (nI_pred z), pk_in (z + 1) 8 (by omega), nm_r (e' := upd b (0 + (z + 1)) (nI (ro_fact (z + 1)))) ?_ (nm_r (nI_1 (z + 1)) (hw _ ⟨by omega, ro_rowu h rfl⟩))⟩)
      rw [pk_cl _ (nI_pred z) (by omega), nI_clamp (by omega), hz', pk_mul, Nat.zero_add]
      rfl
end
end
section
/-! the methods that move: go, next, previous -/
theorem ro_m1 (x : Int32) : x + (-1) = x - 1 := (Int32.sub_eq_add_neg x 1).symm
section
variable {s n l : Nat} {f2 f4 : Int32} {a2 a3 a4 a5 a6 : Nat → Int32} {post : Int32 → St1 → Prop}
theorem ro_tot (hc : ro_cf s n l) : ro_cnt s n l 0 0 < 1000000000 := ro_bnd (i := 0) hc (ro_ok0 hc.1) (Nat.zero_le l)
theorem ro_g44 {J : Int32 → Int32 → Int32 → Int32 → Int32 → Int32 → Int32 → (Nat → Int32) → (Nat → Int32) → (Nat → Int32) → (Nat → Int32) → (Nat → Int32) → (Nat → Int32) → Prop} {x1 : Int32} {a : Nat → Nat} {i r : Nat}
    (hc : ro_cf s n l) (hT : ro_T a3 a4 a5 a6) (ha : ∀ j, a j < 8) (hi : i < l) (hv : ro_val s n l a i) (hr : r < ro_su (ro_v s n l a i) 8)
    (hJ : ∀ x rest, x < 8 → rest < ro_v s n l a i x → ro_su (ro_v s n l a i) x + rest = r → J (nI rest) (nI (i + 1)) (nI s) (nI n) f2 (nI l) f4 (ro_A (ro_up a i x)) a2 a3 a4 a5 a6) :
    ∀ d x rest, x + d = 8 → ro_su (ro_v s n l a i) x + rest = r → wX_go_44 post J x1 (nI i) d (nI rest) (nI x) (nI (ro_v s n l a i x)) (nI s) (nI n) f2 (nI l) f4 (ro_A a) a2 a3 a4 a5 a6 := by
  have hl := (ro_cfl hc).1
  have hW := ro_sumA hc hi hv
  have hok := ro_okA hc i (Nat.le_of_lt hi) hv
  have hB : ro_W s n l a i < 1000000000 := ro_bnd hc hok (Nat.le_of_lt hi)
  intro d
  induction d with
  | zero =>
    intro x rest hx he
    have e : x = 8 := by omega
    rw [e] at he
    omega
  | succ d ih =>
    intro x rest hx he
    have hx8 : x < 8 := by omega
    have hb := ro_bdV hc hi hx8 hv
    have hS := ro_suS (ro_v s n l a i) x
    refine pk_lt rest (ro_v s n l a i x) (fun h => ⟨pk_in i 14 (by omega), nm_r (ro_Aup i x rfl (ro_b8 x hx8) (by omega)) (nm_r (nI_1 i) (hJ x rest hx8 h he))⟩) (fun h => nm_r (pk_sub h) (nm_r (nI_1 x) ?_))
    have hx9 : x + 1 < 8 := by
      by_cases e : x + 1 = 8
      · rw [e] at hS
        omega
      · omega
    exact ro_wi hc hT ha hi hx9 hok (ih (x + 1) (rest - ro_v s n l a i x) (by omega) (by omega))
theorem ro_g22 {x1 : Int32} {q : Nat} (hc : ro_cf s n l) (h0 : 0 < ro_cnt s n l 0 0) (hT : ro_T a3 a4 a5 a6)
    (hp : ∀ b, (∀ j, b j < 8) → ro_val s n l b l → ro_R s n l b l = q → post x1 (nI s, nI n, f2, nI l, x1, ro_A b, a2, a3, a4, a5, a6)) :
    ∀ d i a rest, (∀ j, a j < 8) → i + d = l → ro_val s n l a i → rest < ro_W s n l a i → ro_R s n l a i + rest = q → wX_go_22 post x1 (d + 1) (nI rest) (nI i) (nI s) (nI n) f2 (nI l) f4 (ro_A a) a2 a3 a4 a5 a6 := by
  have hl := (ro_cfl hc).1
  intro d
  induction d with
  | zero =>
    intro i a rest ha hi hv hr hq
    have e : i = l := by omega
    subst e
    have h1 := ro_end hc h0 hv
    exact pk_le i i (fun _ => hp a ha hv (by omega)) (fun z => absurd z (by omega))
  | succ d ih =>
    intro i a rest ha hi hv hr hq
    have hi' : i < l := by omega
    have hW := ro_sumA hc hi' hv
    refine pk_le l i (fun z => absurd z (by omega)) (fun _ => ro_wi (x := 0) hc hT ha hi' (by omega) (ro_okA hc i (Nat.le_of_lt hi') hv) ⟨8, ro_g44 (r := rest) hc hT ha hi' hv (by omega) (fun x rest' hx h he => ?_) 8 0 rest (by omega) (Nat.zero_add rest)⟩)
    obtain ⟨g1, g2, g3⟩ := ro_ext1 hv hx (Nat.lt_of_le_of_lt (Nat.zero_le _) h)
    exact ih (i + 1) (ro_up a i x) rest' (ro_up8 ha hx) (by omega) g1 (by omega) (by omega)
theorem ro_go {a : Nat → Nat} {q : Nat} (hc : ro_cf s n l) (hT : ro_T a3 a4 a5 a6) (ha : ∀ j, a j < 8) (hq : q < 2 ^ 31)
    (h1 : q < ro_cnt s n l 0 0 → ∀ b, (∀ j, b j < 8) → ro_val s n l b l → ro_R s n l b l = q → post (nI q) (nI s, nI n, f2, nI l, nI q, ro_A b, a2, a3, a4, a5, a6))
    (h2 : ro_cnt s n l 0 0 ≤ q → post (-1) (nI s, nI n, f2, nI l, f4, ro_A a, a2, a3, a4, a5, a6)) :
    wpX_go post (nI s, nI n, f2, nI l, f4, ro_A a, a2, a3, a4, a5, a6) (nI q) := by
  have hB := ro_tot hc
  unfold wpX_go
  refine ro_going (i := 0) hc hT ha (Nat.zero_le l) (ro_ok0 hc.1) (br_f (nI_pos hq) (pk_lt q (ro_cnt s n l 0 0) (fun h => ?_) (fun h => h2 h)))
  exact ⟨l + 1, ro_g22 hc (by omega) hT (h1 h) l 0 a q ha (Nat.zero_add l) (fun j hj => absurd hj (by omega)) h (Nat.zero_add q)⟩
theorem ro_sm {a : Nat → Nat} {i : Nat} (hc : ro_cf s n l) (h0 : 0 < ro_cnt s n l 0 0) (hT : ro_T a3 a4 a5 a6) (ha : ∀ j, a j < 8) (hi : i < l) (hv : ro_val s n l a i)
    (hp : ∀ x, x < 8 → 0 < ro_v s n l a i x → (∀ y, y < x → ro_v s n l a i y = 0) → post (nI x) (nI s, nI n, f2, nI l, f4, ro_A a, a2, a3, a4, a5, a6)) :
    wpX_smallestAt post (nI s, nI n, f2, nI l, f4, ro_A a, a2, a3, a4, a5, a6) (nI i) := by
  have hok := ro_okA hc i (Nat.le_of_lt hi) hv
  have main : ∀ d x, x + d = 8 → (∀ y, y < x → ro_v s n l a i y = 0) → wX_smallestAt_2 post (nI i) d (nI x) (nI s) (nI n) f2 (nI l) f4 (ro_A a) a2 a3 a4 a5 a6 := by
    intro d
    induction d with
    | zero =>
      intro x hx hz
      have e : x = 8 := by omega
      rw [e] at hz
      exact absurd (ro_some hc h0 hi hv hz) (fun z => z)
    | succ d ih =>
      intro x hx hz
      have hx8 : x < 8 := by omega
      have hb := ro_bdV hc hi hx8 hv
      unfold wX_smallestAt_2
      refine ro_wi2 hc hT ha hi hx8 hok ?_
      refine (pk_eq (ro_v s n l a i x) 0 (fun z => nm_r (nI_1 x) (ih (x + 1) (by omega) (fun y hy => ?_))) (fun z => hp x hx8 (Nat.pos_of_ne_zero z) hz))
      by_cases e : y = x
      · rw [e]
        exact z
      · exact hz y (by omega)
  exact ⟨8, main 8 0 rfl (fun y hy => absurd hy (by omega))⟩
theorem ro_gt {a : Nat → Nat} {i : Nat} (hc : ro_cf s n l) (h0 : 0 < ro_cnt s n l 0 0) (hT : ro_T a3 a4 a5 a6) (ha : ∀ j, a j < 8) (hi : i < l) (hv : ro_val s n l a i)
    (hp : ∀ x, x < 8 → 0 < ro_v s n l a i x → (∀ y, x + 1 ≤ y → y < 8 → ro_v s n l a i y = 0) → post (nI x) (nI s, nI n, f2, nI l, f4, ro_A a, a2, a3, a4, a5, a6)) :
    wpX_greatestAt post (nI s, nI n, f2, nI l, f4, ro_A a, a2, a3, a4, a5, a6) (nI i) := by
  have hok := ro_okA hc i (Nat.le_of_lt hi) hv
  have main : ∀ x, x < 8 → (∀ y, x + 1 ≤ y → y < 8 → ro_v s n l a i y = 0) → wX_greatestAt_3 post (nI i) (x + 1) (nI x) (nI s) (nI n) f2 (nI l) f4 (ro_A a) a2 a3 a4 a5 a6 := by
    intro x
    induction x with
    | zero =>
      intro hx8 hz
      have hb := ro_bdV hc hi hx8 hv
      unfold wX_greatestAt_3
      refine ro_wi2 hc hT ha hi hx8 hok ?_
      refine (pk_eq (ro_v s n l a i 0) 0 (fun z => absurd (ro_some hc h0 hi hv (fun y hy => ?_)) (fun z => z)) (fun z => hp 0 hx8 (Nat.pos_of_ne_zero z) hz))
      by_cases e : y = 0
      · rw [e]
        exact z
      · exact hz y (by omega) hy
    | succ x ih =>
      intro hx8 hz
      have hb := ro_bdV hc hi hx8 hv
      unfold wX_greatestAt_3
      refine ro_wi2 hc hT ha hi hx8 hok ?_
      refine (pk_eq (ro_v s n l a i (x + 1)) 0 (fun z => nm_r (pk_m1 x) (ih (by omega) (fun y hy hy8 => ?_))) (fun z => hp (x + 1) hx8 (Nat.pos_of_ne_zero z) hz))
      by_cases e : y = x + 1
      · rw [e]
        exact z
      · exact hz y (by omega) hy8
  exact ⟨8, main 7 (by omega) (fun y hy hy8 => absurd hy (by omega))⟩
theorem ro_n89 {q : Nat} (hc : ro_cf s n l) (h0 : 0 < ro_cnt s n l 0 0) (hT : ro_T a3 a4 a5 a6)
    (hp : ∀ b, (∀ j, b j < 8) → ro_val s n l b l → ro_R s n l b l = q → post (f4 + 1) (nI s, nI n, f2, nI l, f4 + 1, ro_A b, a2, a3, a4, a5, a6)) :
    ∀ d i a, (∀ j, a j < 8) → i + d = l → ro_val s n l a i → ro_R s n l a i = q → wX_next_89 post (d + 1) (nI i) (nI s) (nI n) f2 (nI l) f4 (ro_A a) a2 a3 a4 a5 a6 := by
  have hl := (ro_cfl hc).1
  intro d
  induction d with
  | zero =>
    intro i a ha hi hv hq
    have e : i = l := by omega
    subst e
    exact pk_le i i (fun _ => nm_e (hp a ha hv hq)) (fun z => absurd z (by omega))
  | succ d ih =>
    intro i a ha hi hv hq
    refine pk_le l i (fun z => absurd z (by omega)) (fun _ => ro_sm hc h0 hT ha (by omega) hv (fun x hx hpx hz => ⟨pk_in i 14 (by omega), nm_r (ro_Aup i x rfl (ro_b8 x hx) (by omega)) (nm_r (nI_1 i) ?_)⟩))
    obtain ⟨g1, g2⟩ := ro_nx2 hv hq hx hz hpx
    exact ih (i + 1) (ro_up a i x) (ro_up8 ha hx) (by omega) g1 g2
theorem ro_n46 {J : Int32 → Int32 → Int32 → Int32 → Int32 → Int32 → (Nat → Int32) → (Nat → Int32) → (Nat → Int32) → (Nat → Int32) → (Nat → Int32) → (Nat → Int32) → Prop} {a : Nat → Nat} {i : Nat}
    (hc : ro_cf s n l) (hT : ro_T a3 a4 a5 a6) (ha : ∀ j, a j < 8) (hi : i < l) (hv : ro_val s n l a i)
    (h8 : (∀ y, a i + 1 ≤ y → y < 8 → ro_v s n l a i y = 0) → wX_next_67 post J (nI i) (nI 8) (nI s) (nI n) f2 (nI l) f4 (ro_A a) a2 a3 a4 a5 a6)
    (hx : ∀ x, x < 8 → a i + 1 ≤ x → 0 < ro_v s n l a i x → (∀ y, a i + 1 ≤ y → y < x → ro_v s n l a i y = 0) → wX_next_67 post J (nI i) (nI x) (nI s) (nI n) f2 (nI l) f4 (ro_A a) a2 a3 a4 a5 a6) :
    ∀ d x, x + d = 8 → a i + 1 ≤ x → (∀ y, a i + 1 ≤ y → y < x → ro_v s n l a i y = 0) → wX_next_46 post J (nI i) (d + 1) (nI x) (nI s) (nI n) f2 (nI l) f4 (ro_A a) a2 a3 a4 a5 a6 := by
  have hok := ro_okA hc i (Nat.le_of_lt hi) hv
  intro d
  induction d with
  | zero =>
    intro x hx8 hax hz
    have e : x = 8 := by omega
    subst e
    exact pk_le 8 8 (fun _ => h8 hz) (fun z => absurd z (by omega))
  | succ d ih =>
    intro x hxd hax hz
    have hx8 : x < 8 := by omega
    have hb := ro_bdV hc hi hx8 hv
    refine pk_le 8 x (fun z => absurd z (by omega)) (fun _ => ro_wi hc hT ha hi hx8 hok (pk_eq (ro_v s n l a i x) 0 (fun z => nm_r (nI_1 x) (ih (x + 1) (by omega) (by omega) (fun y h1 h2 => ?_))) (fun z => hx x hx8 hax (Nat.pos_of_ne_zero z) hz)))
    by_cases e : y = x
    · rw [e]
      exact z
    · exact hz y h1 (by omega)
theorem ro_n33 {a : Nat → Nat} (hc : ro_cf s n l) (h0 : 0 < ro_cnt s n l 0 0) (hT : ro_T a3 a4 a5 a6) (ha : ∀ j, a j < 8) (hv : ro_val s n l a l) (ht : ro_R s n l a l + 1 < ro_cnt s n l 0 0)
    (hp : ∀ b, (∀ j, b j < 8) → ro_val s n l b l → ro_R s n l b l = ro_R s n l a l + 1 → post (f4 + 1) (nI s, nI n, f2, nI l, f4 + 1, ro_A b, a2, a3, a4, a5, a6)) :
    ∀ m, m ≤ l → ro_R s n l a l + 1 = ro_R s n l a m + ro_W s n l a m → wX_next_33 post (m + 1) (nI m - 1) (nI s) (nI n) f2 (nI l) f4 (ro_A a) a2 a3 a4 a5 a6 := by
  have hl := (ro_cfl hc).1
  intro m
  induction m with
  | zero =>
    intro _ hq
    have e : ro_R s n l a 0 + ro_W s n l a 0 = ro_cnt s n l 0 0 := Nat.zero_add _
    omega
  | succ i ih =>
    intro hi hq
    have h8 := ha i
    have hi' : i < l := hi
    have hv1 : ro_val s n l a (i + 1) := ro_val_le hi hv
    rw [nI_pred]
    refine br_f (nI_pos (by omega)) ⟨pk_in i 14 (by omega), nm_r (e' := nI (a i + 1)) (by rw [ro_Ac i rfl (by omega), nI_1]) ⟨8 - (a i + 1) + 1, ro_n46 hc hT ha hi' (ro_val_le (Nat.le_of_lt hi') hv) (fun hz => ?_) (fun x hx hax hpx hz => ?_) (8 - (a i + 1)) (a i + 1) (by omega) (Nat.le_refl _) (fun y h1 h2 => absurd h1 (by omega))⟩⟩
    · exact br_t rfl (nm_r (ro_m1 _) (ih (by omega) (ro_nx0 hc hi' hv1 hq hz)))
    · obtain ⟨g1, g2⟩ := ro_nx1 hv1 hq hx hax hz hpx
      have hne : ¬ nI x = nI 8 := fun z => absurd ((nI_eq (by omega) (by omega)).mp z) (by omega)
      exact br_f hne ⟨pk_in i 14 (by omega), nm_r (ro_Aup i x rfl (ro_b8 x hx) (by omega)) (nm_r (nI_1 i) ⟨l - (i + 1) + 1, ro_n89 hc h0 hT hp (l - (i + 1)) (i + 1) (ro_up a i x) (ro_up8 ha hx) (by omega) g1 g2⟩)⟩
/-- next, over a state with an object -/
theorem ro_next {a : Nat → Nat} {m : Nat} (hc : ro_cf s n l) (h0 : 0 < ro_cnt s n l 0 0) (hT : ro_T a3 a4 a5 a6) (ha : ∀ j, a j < 8) (hv : ro_val s n l a l) (hm : ro_R s n l a l = m)
    (h1 : m + 1 < ro_cnt s n l 0 0 → ∀ b, (∀ j, b j < 8) → ro_val s n l b l → ro_R s n l b l = m + 1 → post (nI (m + 1)) (nI s, nI n, f2, nI l, nI (m + 1), ro_A b, a2, a3, a4, a5, a6))
    (h2 : ro_cnt s n l 0 0 ≤ m + 1 → post (-2) (nI s, nI n, f2, nI l, nI m, ro_A a, a2, a3, a4, a5, a6)) :
    wpX_next post (nI s, nI n, f2, nI l, nI m, ro_A a, a2, a3, a4, a5, a6) := by
  have hB := ro_tot hc
  have hl := (ro_cfl hc).1
  obtain ⟨_, t2⟩ := ro_tel hc h0 hv l 0 (Nat.zero_add l)
  have e0 : ro_R s n l a 0 + ro_W s n l a 0 = ro_cnt s n l 0 0 := Nat.zero_add _
  unfold wpX_next
  refine ro_going (i := 0) hc hT ha (Nat.zero_le l) (ro_ok0 hc.1) (br_f (nI_pos (by omega)) (pk_lt (m + 1) (ro_cnt s n l 0 0) (fun h => nm_e ⟨l + 1, ?_⟩) (fun h => h2 h) (nI_1 m)))
  refine ro_n33 hc h0 hT ha hv (by omega) (fun b hb hbv hbr => ?_) l (Nat.le_refl l) (by rw [ro_end hc h0 hv])
  rw [nI_1]
  exact h1 h b hb hbv (by omega)
/-- next, over a state without one -/
theorem ro_nextN {a : Nat → Nat} (hc : ro_cf s n l) (hT : ro_T a3 a4 a5 a6) (ha : ∀ j, a j < 8) (h2 : post (-2) (nI s, nI n, f2, nI l, -2, ro_A a, a2, a3, a4, a5, a6)) :
    wpX_next post (nI s, nI n, f2, nI l, -2, ro_A a, a2, a3, a4, a5, a6) := by
  unfold wpX_next
  exact ro_going (i := 0) hc hT ha (Nat.zero_le l) (ro_ok0 hc.1) (br_t (by decide) h2)
theorem ro_p68 {q : Nat} (hc : ro_cf s n l) (h0 : 0 < ro_cnt s n l 0 0) (hT : ro_T a3 a4 a5 a6)
    (hp : ∀ b, (∀ j, b j < 8) → ro_val s n l b l → ro_R s n l b l + 1 = q → post (f4 - 1) (nI s, nI n, f2, nI l, f4 - 1, ro_A b, a2, a3, a4, a5, a6)) :
    ∀ d i a, (∀ j, a j < 8) → i + d = l → ro_val s n l a i → ro_R s n l a i + ro_W s n l a i = q → wX_previous_68 post (d + 1) (nI i) (nI s) (nI n) f2 (nI l) f4 (ro_A a) a2 a3 a4 a5 a6 := by
  have hl := (ro_cfl hc).1
  intro d
  induction d with
  | zero =>
    intro i a ha hi hv hq
    have e : i = l := by omega
    subst e
    rw [ro_end hc h0 hv] at hq
    exact pk_le i i (fun _ => nm_e (hp a ha hv hq)) (fun z => absurd z (by omega))
  | succ d ih =>
    intro i a ha hi hv hq
    have hi' : i < l := by omega
    refine pk_le l i (fun z => absurd z (by omega)) (fun _ => ro_gt hc h0 hT ha hi' hv (fun x hx hpx hz => ⟨pk_in i 14 (by omega), nm_r (ro_Aup i x rfl (ro_b8 x hx) (by omega)) (nm_r (nI_1 i) ?_)⟩))
    obtain ⟨g1, g2⟩ := ro_pv2 hc hi' hv hq hx hz hpx
    exact ih (i + 1) (ro_up a i x) (ro_up8 ha hx) (by omega) g1 g2
theorem ro_p30 {J : Int32 → Int32 → Int32 → Int32 → Int32 → Int32 → (Nat → Int32) → (Nat → Int32) → (Nat → Int32) → (Nat → Int32) → (Nat → Int32) → (Nat → Int32) → Prop} {a : Nat → Nat} {i : Nat}
    (hc : ro_cf s n l) (hT : ro_T a3 a4 a5 a6) (ha : ∀ j, a j < 8) (hi : i < l) (hv : ro_val s n l a i)
    (h8 : (∀ y, y < a i → ro_v s n l a i y = 0) → wX_previous_49 post J (nI i) (nI 0 - 1) (nI s) (nI n) f2 (nI l) f4 (ro_A a) a2 a3 a4 a5 a6)
    (hx : ∀ x, x < a i → 0 < ro_v s n l a i x → (∀ y, x + 1 ≤ y → y < a i → ro_v s n l a i y = 0) → wX_previous_49 post J (nI i) (nI x) (nI s) (nI n) f2 (nI l) f4 (ro_A a) a2 a3 a4 a5 a6) :
    ∀ y, y ≤ a i → (∀ z, y ≤ z → z < a i → ro_v s n l a i z = 0) → wX_previous_30 post J (nI i) (y + 1) (nI y - 1) (nI s) (nI n) f2 (nI l) f4 (ro_A a) a2 a3 a4 a5 a6 := by
  have hok := ro_okA hc i (Nat.le_of_lt hi) hv
  have ha8 := ha i
  intro y
  induction y with
  | zero =>
    intro _ hz
    exact br_t (by decide) (h8 (fun y hy => hz y (Nat.zero_le y) hy))
  | succ y ih =>
    intro hy hz
    have hx8 : y < 8 := by omega
    have hb := ro_bdV hc hi hx8 hv
    rw [nI_pred]
    refine br_f (nI_pos (by omega)) (ro_wi hc hT ha hi hx8 hok (pk_eq (ro_v s n l a i y) 0 (fun z => nm_r (ro_m1 _) (ih (by omega) (fun x h1 h2 => ?_))) (fun z => hx y hy (Nat.pos_of_ne_zero z) hz)))
    by_cases e : x = y
    · rw [e]
      exact z
    · exact hz x (by omega) h2
theorem ro_p17 {a : Nat → Nat} (hc : ro_cf s n l) (h0 : 0 < ro_cnt s n l 0 0) (hT : ro_T a3 a4 a5 a6) (ha : ∀ j, a j < 8) (hv : ro_val s n l a l) (ht : 0 < ro_R s n l a l)
    (hp : ∀ b, (∀ j, b j < 8) → ro_val s n l b l → ro_R s n l b l + 1 = ro_R s n l a l → post (f4 - 1) (nI s, nI n, f2, nI l, f4 - 1, ro_A b, a2, a3, a4, a5, a6)) :
    ∀ m, m ≤ l → ro_R s n l a m = ro_R s n l a l → wX_previous_17 post (m + 1) (nI m - 1) (nI s) (nI n) f2 (nI l) f4 (ro_A a) a2 a3 a4 a5 a6 := by
  have hl := (ro_cfl hc).1
  intro m
  induction m with
  | zero =>
    intro _ hq
    have e : ro_R s n l a 0 = 0 := rfl
    omega
  | succ i ih =>
    intro hi hq
    have h8 := ha i
    have hi' : i < l := hi
    have hv0 : ro_val s n l a i := ro_val_le (Nat.le_of_lt hi') hv
    rw [nI_pred]
    refine br_f (nI_pos (by omega)) ⟨pk_in i 14 (by omega), nm_r (e' := nI (a i) - 1) (by rw [ro_Ac i rfl (by omega)]) ⟨a i + 1, ro_p30 hc hT ha hi' hv0 (fun hz => ?_) (fun x hx hpx hz => ?_) (a i) (Nat.le_refl _) (fun y h1 h2 => absurd h1 (by omega))⟩⟩
    · exact br_f (by decide) (nm_r (ro_m1 _) (ih (by omega) (ro_pv0 hq hz)))
    · obtain ⟨g1, g2⟩ := ro_pv1 hv0 hq (by omega) hx hz hpx
      exact br_t (nI_pos' (by omega)) ⟨pk_in i 14 (by omega), nm_r (ro_Aup i x rfl (ro_b8 x (by omega)) (by omega)) (nm_r (nI_1 i) ⟨l - (i + 1) + 1, ro_p68 hc h0 hT hp (l - (i + 1)) (i + 1) (ro_up a i x) (ro_up8 ha (by omega)) (by omega) g1 g2⟩)⟩
theorem ro_prev {a : Nat → Nat} {m : Nat} (hc : ro_cf s n l) (h0 : 0 < ro_cnt s n l 0 0) (hT : ro_T a3 a4 a5 a6) (ha : ∀ j, a j < 8) (hv : ro_val s n l a l) (hm : ro_R s n l a l = m + 1)
    (h1 : ∀ b, (∀ j, b j < 8) → ro_val s n l b l → ro_R s n l b l = m → post (nI m) (nI s, nI n, f2, nI l, nI m, ro_A b, a2, a3, a4, a5, a6)) :
    wpX_previous post (nI s, nI n, f2, nI l, nI (m + 1), ro_A a, a2, a3, a4, a5, a6) := by
  have hB := ro_tot hc
  obtain ⟨_, t2⟩ := ro_tel hc h0 hv l 0 (Nat.zero_add l)
  have e0 : ro_R s n l a 0 + ro_W s n l a 0 = ro_cnt s n l 0 0 := Nat.zero_add _
  refine pk_lt 0 (m + 1) (fun _ => nm_e ⟨l + 1, ?_⟩) (fun z => absurd z (by omega))
  refine ro_p17 hc h0 hT ha hv (by omega) (fun b hb hbv hbr => ?_) l (Nat.le_refl l) rfl
  rw [nI_pred]
  exact h1 b hb hbv (by omega)
theorem ro_prevN {f0 f1 f3 : Int32} {a1 : Nat → Int32} (h4 : ¬ 0 < f4) (h2 : post (-2) (f0, f1, f2, f3, f4, a1, a2, a3, a4, a5, a6)) : wpX_previous post (f0, f1, f2, f3, f4, a1, a2, a3, a4, a5, a6) := br_f h4 h2
end
end
section
/-! choose, the law's object and its count -/
def ro_len (s n k : Nat) : Nat := if s = 0 ∨ s = 4 then k else if s = 3 then 2 * n else n
theorem ro_len0 (n k : Nat) : ro_len 0 n k = k := rfl
theorem ro_len1 (n k : Nat) : ro_len 1 n k = n := rfl
theorem ro_len2 (n k : Nat) : ro_len 2 n k = n := rfl
theorem ro_len3 (n k : Nat) : ro_len 3 n k = 2 * n := rfl
theorem ro_len4 (n k : Nat) : ro_len 4 n k = k := rfl
theorem ro_cfk {s n k : Nat} (hs : s ≤ 4) (h1 : 1 ≤ n) (h7 : n ≤ 7) (hk : k ≤ n) : ro_cf s n (ro_len s n k) := by
  have h : s = 0 ∨ s = 1 ∨ s = 2 ∨ s = 3 ∨ s = 4 := by omega
  rcases h with rfl | rfl | rfl | rfl | rfl
  · rw [ro_len0]; exact ⟨hs, h1, h7, by omega, by omega, by omega⟩
  · rw [ro_len1]; exact ⟨hs, h1, h7, by omega, by omega, by omega⟩
  · rw [ro_len2]; exact ⟨hs, h1, h7, by omega, by omega, by omega⟩
  · rw [ro_len3]; exact ⟨hs, h1, h7, by omega, by omega, by omega⟩
  · rw [ro_len4]; exact ⟨hs, h1, h7, by omega, by omega, by omega⟩
section
variable {s n l : Nat} {f0 f1 f2 f3 f4 : Int32} {a : Nat → Nat} {a2 a3 a4 a5 a6 : Nat → Int32}
theorem ro_count {post : Int32 → Prop} (hc : ro_cf s n l) (hT : ro_T a3 a4 a5 a6) (ha : ∀ j, a j < 8) (hp : post (nI (ro_cnt s n l 0 0))) : wpX_count post (nI s, nI n, f2, nI l, f4, ro_A a, a2, a3, a4, a5, a6) :=
  ro_going (i := 0) hc hT ha (Nat.zero_le l) (ro_ok0 hc.1) hp
theorem ro_ch100 {post : Int32 → St1 → Prop} (hc : ro_cf s n l) (hT : ro_T a3 a4 a5 a6) (ha : ∀ j, a j < 8)
    (hN : ro_cnt s n l 0 0 = 0 → post 1 (nI s, nI n, f2, nI l, -2, ro_A a, a2, a3, a4, a5, a6))
    (hP : 0 < ro_cnt s n l 0 0 → ∀ b, (∀ j, b j < 8) → ro_val s n l b l → ro_R s n l b l = 0 → post 1 (nI s, nI n, f2, nI l, nI 0, ro_A b, a2, a3, a4, a5, a6)) :
    wX_choose_100 post (nI l) (nI s) (nI n) f2 f3 f4 (ro_A a) a2 a3 a4 a5 a6 := by
  have hB := ro_tot hc
  unfold wX_choose_100
  refine ro_count hc hT ha (pk_le (ro_cnt s n l 0 0) 0 (fun z => hN (by omega)) (fun z => ro_go (q := 0) hc hT ha (by omega) (fun _ b hb hv hr => hP z b hb hv hr) (fun q => absurd q (by omega))))
theorem ro_choose {post : Int32 → St1 → Prop} {k : Nat} (hs : s ≤ 4) (h1 : 1 ≤ n) (h7 : n ≤ 7) (hk : k ≤ n) (hl : l = ro_len s n k) (hT : ro_T a3 a4 a5 a6) (ha : ∀ j, a j < 8)
    (hN : ∀ c, ro_cnt s n l 0 0 = 0 → post 1 (nI s, nI n, c, nI l, -2, ro_A a, a2, a3, a4, a5, a6))
    (hP : ∀ c, 0 < ro_cnt s n l 0 0 → ∀ b, (∀ j, b j < 8) → ro_val s n l b l → ro_R s n l b l = 0 → post 1 (nI s, nI n, c, nI l, nI 0, ro_A b, a2, a3, a4, a5, a6)) :
    wpX_choose post (f0, f1, f2, f3, f4, ro_A a, a2, a3, a4, a5, a6) (nI s) (nI n) (nI k) := by
  have hc := ro_cfk hs h1 h7 hk
  rw [← hl] at hc
  have hh : s = 0 ∨ s = 1 ∨ s = 2 ∨ s = 3 ∨ s = 4 := by omega
  refine br_f (nI_pos (by omega)) (br_f (nI_nlt (a := 4) (by omega) (by omega)) (br_f (nI_nlt (b := 1) (by omega) (by omega)) (br_t (nI_le (b := 7) (by omega) (by omega)) ?_)))
  have hkn : nI k ≤ nI n := nI_le hk (by omega)
  rcases hh with rfl | rfl | rfl | rfl | rfl
  · rw [ro_len0] at hl
    subst hl
    exact br_t rfl (br_f (by decide) (br_f (nI_pos (by omega)) (br_t hkn (br_f (by decide) (br_f (by decide) (ro_ch100 hc hT ha (hN _) (hP _)))))))
  · rw [ro_len1] at hl
    subst hl
    exact br_f (by decide) (br_f (by decide) (br_t rfl (br_t rfl (br_t rfl (br_f (by decide) (ro_ch100 hc hT ha (hN _) (hP _)))))))
  · rw [ro_len2] at hl
    subst hl
    exact br_f (by decide) (br_f (by decide) (br_t rfl (br_t rfl (br_t rfl (br_f (by decide) (ro_ch100 hc hT ha (hN _) (hP _)))))))
  · rw [ro_len3] at hl
    refine br_f (by decide) (br_f (by decide) (br_t rfl (br_t rfl (br_t rfl (br_t rfl ?_)))))
    rw [show (2 : Int32) * nI n = nI l by rw [hl]; exact pk_mul 2 n]
    exact ro_ch100 hc hT ha (hN _) (hP _)
  · rw [ro_len4] at hl
    subst hl
    exact br_f (by decide) (br_t rfl (br_f (by decide) (br_f (nI_pos (by omega)) (br_t hkn (br_f (by decide) (br_f (by decide) (ro_ch100 hc hT ha (hN _) (hP _))))))))
/-! the law's object -/
theorem ro_item {post : Int32 → Prop} {i m : Nat} (hm : m < 2 ^ 31) (hl : l ≤ 14) (hi : i < l) (hp : post (nI (a i))) : wpX_item post (f0, f1, f2, nI l, nI m, ro_A a, a2, a3, a4, a5, a6) (nI i) :=
  br_f (nI_pos hm) (br_f (nI_pos (by omega)) (br_t (nI_lt hi (by omega)) ⟨pk_in i 14 (by omega), by rw [ro_Ac i rfl (by omega)]; exact hp⟩))
theorem ro_itemB {post : Int32 → Prop} {m : Nat} (hm : m < 2 ^ 31) (hl : l ≤ 14) (hp : post (-1)) : wpX_item post (f0, f1, f2, nI l, nI m, ro_A a, a2, a3, a4, a5, a6) (nI l) :=
  br_f (nI_pos hm) (br_f (nI_pos (by omega)) (br_f (nI_nlt (Nat.le_refl l) (by omega)) hp))
theorem ro_itemM {post : Int32 → Prop} {m : Nat} (hm : m < 2 ^ 31) (hp : post (-1)) : wpX_item post (f0, f1, f2, f3, nI m, ro_A a, a2, a3, a4, a5, a6) (-1) :=
  br_f (nI_pos hm) (br_t (by decide) hp)
end
theorem ro_st0b {a : Nat → Nat} (ha : ∀ j, a j < 8) : ∀ i, ro_st 0 a i ≤ 8 := by
  intro i
  cases i with
  | zero => exact Nat.zero_le 8
  | succ i => exact ha i
section
variable {s n l : Nat} {f0 f1 f2 f3 f4 : Int32} {a : Nat → Nat} {a2 a3 a4 a5 a6 : Nat → Int32} {post : Int64 → Prop} {J : Int64 → Int32 → Int32 → Int32 → Int32 → Int32 → Prop} {x1 x2 x4 x7 x8 x9 : Int32} {i : Nat}
theorem ro_o203 (ha : ∀ j, a j < 8) (hJ : J (lN (ro_code a (i + 1))) x7 x8 x9 (nI (a i)) (nI (i + 1))) : wL_object_203 post J x1 x2 x4 (lN (ro_code a i)) x7 x8 x9 (nI i) (nI (a i)) f0 f1 f2 f3 f4 (ro_A a) a2 a3 a4 a5 a6 := by
  have h8 := ha i
  refine nm_r (e' := lN (ro_code a (i + 1))) ?_ (nm_r (nI_1 i) hJ)
  rw [nI_l (by omega)]
  show lN 8 * lN (ro_code a i) + lN (a i) = _
  rw [lN_mul, lN_add]
  rfl
theorem ro_o183 (ha : ∀ j, a j < 8) (hJ : J (lN (ro_code a (i + 1))) (nI (ro_st 1 a (i + 1))) x8 (nI (ro_st 2 a (i + 1)) - 1) (nI (a i)) (nI (i + 1))) : wL_object_183 post J x1 x2 x4 (lN (ro_code a i)) (nI (ro_st 1 a i)) x8 (nI (ro_st 2 a i) - 1) (nI i) (nI (a i)) f0 f1 f2 f3 f4 (ro_A a) a2 a3 a4 a5 a6 := by
  have h8 := ha i
  have g8 := ro_st2b ha i
  refine nm_r (e' := nI (ro_st 1 a (i + 1))) (ro_or8 _ (ro_st1b ha i) (a i) h8).1 (ek_if (ro_le8 (a i) (by omega) (ro_st 2 a i) (by omega)) (fun q => ro_o203 ha ?_) (fun q => ro_o203 ha ?_))
  · rw [show ro_st 2 a (i + 1) = ro_st 2 a i from if_neg (by omega)] at hJ
    exact hJ
  · rw [show ro_st 2 a (i + 1) = a i + 1 from if_pos (by omega), nI_pred] at hJ
    exact hJ
theorem ro_o156 (ha : ∀ j, a j < 8) (hs : s ≤ 4) (hi : i < 14) (h3 : s = 3 → i + 1 ≤ 2 * (ro_st 3 a i + a i)) (hJ : J (lN (ro_code a (i + 1))) (nI (ro_st 1 a (i + 1))) (nI (ro_st 3 a (i + 1))) (nI (ro_st 2 a (i + 1)) - 1) (nI (a i)) (nI (i + 1))) :
    wL_object_156 post J (nI s) x2 x4 (lN (ro_code a i)) (nI (ro_st 1 a i)) (nI (ro_st 3 a i)) (nI (ro_st 2 a i) - 1) (nI i) (nI (a i)) f0 f1 f2 f3 f4 (ro_A a) a2 a3 a4 a5 a6 := by
  have h8 := ha i
  have g8 := ro_st3b ha i
  refine nm_r (e' := nI (ro_st 3 a (i + 1))) (nI_add _ _) (pk_eq s 3 (fun z => br_t ?_ (ro_o183 ha hJ)) (fun z => ro_o183 ha hJ))
  have e : ro_st 3 a (i + 1) = ro_st 3 a i + a i := rfl
  rw [nI_1, e]
  show nI (i + 1) ≤ nI 2 * nI (ro_st 3 a i + a i)
  rw [pk_mul]
  exact nI_le (h3 z) (by omega)
theorem ro_o97 (ha : ∀ j, a j < 8) (hs : s ≤ 4) (hn : n ≤ 7) (hi : i < 14) (h1 : s = 1 → a i < n ∧ ro_st 1 a i / 2 ^ a i % 2 = 0) (h2 : s = 2 → a i ≤ ro_st 2 a i) (h3 : s = 3 → a i ≤ 1 ∧ i + 1 ≤ 2 * (ro_st 3 a i + a i)) (hJ : J (lN (ro_code a (i + 1))) (nI (ro_st 1 a (i + 1))) (nI (ro_st 3 a (i + 1))) (nI (ro_st 2 a (i + 1)) - 1) (nI (a i)) (nI (i + 1))) :
    wL_object_97 post J (nI s) (nI n) x4 (lN (ro_code a i)) (nI (ro_st 1 a i)) (nI (ro_st 3 a i)) (nI (ro_st 2 a i) - 1) (nI i) (nI (a i)) f0 f1 f2 f3 f4 (ro_A a) a2 a3 a4 a5 a6 := by
  have h8 := ha i
  have g8 := ro_st2b ha i
  have k156 : wL_object_156 post J (nI s) (nI n) x4 (lN (ro_code a i)) (nI (ro_st 1 a i)) (nI (ro_st 3 a i)) (nI (ro_st 2 a i) - 1) (nI i) (nI (a i)) f0 f1 f2 f3 f4 (ro_A a) a2 a3 a4 a5 a6 := ro_o156 ha hs hi (fun z => (h3 z).2) hJ
  have k141 : wL_object_141 post J (nI s) (nI n) x4 (lN (ro_code a i)) (nI (ro_st 1 a i)) (nI (ro_st 3 a i)) (nI (ro_st 2 a i) - 1) (nI i) (nI (a i)) f0 f1 f2 f3 f4 (ro_A a) a2 a3 a4 a5 a6 :=
    pk_eq s 3 (fun z => br_t (nI_le (b := 1) (h3 z).1 (by omega)) k156) (fun z => k156)
  have k123 : wL_object_123 post J (nI s) (nI n) x4 (lN (ro_code a i)) (nI (ro_st 1 a i)) (nI (ro_st 3 a i)) (nI (ro_st 2 a i) - 1) (nI i) (nI (a i)) f0 f1 f2 f3 f4 (ro_A a) a2 a3 a4 a5 a6 :=
    pk_eq s 2 (fun z => br_t (by rw [Int32.sub_add_cancel]; exact nI_le (h2 z) (by omega)) k141) (fun z => k141)
  refine pk_eq s 1 (fun z => br_f (nI_ge (h1 z).1 (by omega)) (br_f ?_ k123)) (fun z => k123)
  rw [ro_sh8 _ (ro_st1b ha i) (a i) h8, (h1 z).2]
  decide
end
section
variable {s n l : Nat} {f2 : Int32} {a : Nat → Nat} {a2 a3 a4 a5 a6 : Nat → Int32} {post : Int64 → Prop}
theorem ro_o25 {m : Nat} (hc : ro_cf s n l) (h0 : 0 < ro_cnt s n l 0 0) (ha : ∀ j, a j < 8) (hv : ro_val s n l a l) (hm : m < 2 ^ 31) (hp : post (lN (ro_code a l))) :
    wL_object_25 post (nI s) (nI n) (nI l) (nI s) (nI n) f2 (nI l) (nI m) (ro_A a) a2 a3 a4 a5 a6 := by
  have hl := (ro_cfl hc).1
  have hE := ro_end hc h0 hv
  have hokE := ro_okA hc l (Nat.le_refl l) hv
  have hc' := hc
  obtain ⟨c1, c2, c3, c4, c5, c6⟩ := hc'
  have g3 := ro_st3b ha l
  have H3 : s = 3 → ro_st 3 a l = n := by
    intro e
    subst e
    obtain ⟨k1, k2, k3⟩ : ro_st 3 a l ≤ n ∧ ro_st 3 a l ≤ l ∧ l ≤ 2 * ro_st 3 a l := hokE
    have := c6 rfl
    omega
  have H4 : s = 4 → ro_st 3 a l = n := by
    intro e
    subst e
    have e1 : (if n < ro_st 4 a l then 0 else if l - l = 0 then (if ro_st 4 a l < n then 0 else 1) else ro_C (n - ro_st 4 a l + (l - l - 1)) (l - l - 1)) = 1 := hE
    rw [ro_st43, if_pos (Nat.sub_self l)] at e1
    by_cases q : n < ro_st 3 a l
    · rw [if_pos q] at e1
      omega
    · rw [if_neg q] at e1
      by_cases q2 : ro_st 3 a l < n
      · rw [if_pos q2] at e1
        omega
      · omega
  have h : ∃ f, wL_object_45 post (nI s) (nI n) (nI l) (nI s) (nI n) f2 (nI l) (nI m) (ro_A a) a2 a3 a4 a5 a6 f (lN (ro_code a 0)) (nI (ro_st 1 a 0)) (nI (ro_st 3 a 0)) (nI (ro_st 2 a 0) - 1) (nI (ro_st 0 a 0) - 1) (nI 0) := by
    refine pk_loop (σ := Unit) (fun f i _ => wL_object_45 post (nI s) (nI n) (nI l) (nI s) (nI n) f2 (nI l) (nI m) (ro_A a) a2 a3 a4 a5 a6 f (lN (ro_code a i)) (nI (ro_st 1 a i)) (nI (ro_st 3 a i)) (nI (ro_st 2 a i) - 1) (nI (ro_st 0 a i) - 1) (nI i)) (fun _ _ => True) l 0 () (by omega) trivial ?_ ?_
    · intro f _ _
      have k251 : wL_object_251 post (nI l) (lN (ro_code a l)) (nI s) (nI n) f2 (nI l) (nI m) (ro_A a) a2 a3 a4 a5 a6 := ro_itemB hm hl (br_t rfl (ro_itemM hm (br_t rfl hp)))
      have k236 : wL_object_236 post (nI s) (nI n) (nI l) (lN (ro_code a l)) (nI (ro_st 3 a l)) (nI s) (nI n) f2 (nI l) (nI m) (ro_A a) a2 a3 a4 a5 a6 :=
        pk_eq s 4 (fun z => br_t (by rw [H4 z]) k251) (fun z => k251)
      exact pk_le l l (fun _ => pk_eq s 3 (fun z => br_t (by rw [H3 z]) k236) (fun z => k236)) (fun z => absurd z (by omega))
    · intro f i _ hi _ hw
      have h8 := ha i
      have g0 := ro_st0b ha i
      have hvi := hv i hi
      have hmay := ro_vm hvi.1
      have hok := ro_okA hc i (Nat.le_of_lt hi) (ro_val_le (Nat.le_of_lt hi) hv)
      have M0 : s = 0 → a i < n ∧ ro_st 0 a i ≤ a i := by
        intro e
        subst e
        have hm' : (decide (a i < n) && decide (ro_st 0 a i ≤ a i)) = true := hmay
        rw [Bool.and_eq_true, decide_eq_true_iff, decide_eq_true_iff] at hm'
        exact hm'
      have M1 : s = 1 → a i < n ∧ ro_st 1 a i / 2 ^ a i % 2 = 0 := by
        intro e
        subst e
        have hm' : (decide (a i < n) && decide (ro_st 1 a i / 2 ^ a i % 2 = 0)) = true := hmay
        rw [Bool.and_eq_true, decide_eq_true_iff, decide_eq_true_iff] at hm'
        exact hm'
      have M2 : s = 2 → a i ≤ ro_st 2 a i := by
        intro e
        subst e
        have hm' : decide (a i ≤ ro_st 2 a i) = true := hmay
        rw [decide_eq_true_iff] at hm'
        exact hm'
      have M3 : s = 3 → a i ≤ 1 ∧ i + 1 ≤ 2 * (ro_st 3 a i + a i) := by
        intro e
        subst e
        obtain ⟨k1, k2, k3⟩ : ro_st 3 a i ≤ n ∧ ro_st 3 a i ≤ i ∧ i ≤ 2 * ro_st 3 a i := hok
        have hm' : (decide (a i ≤ 1) && (if a i = 1 then decide (ro_st 3 a i < n) else decide (i < 2 * ro_st 3 a i))) = true := hmay
        rw [Bool.and_eq_true, decide_eq_true_iff] at hm'
        obtain ⟨m1, m2⟩ := hm'
        by_cases e : a i = 1
        · omega
        · rw [if_neg e, decide_eq_true_iff] at m2
          omega
      have hJ : wL_object_45 post (nI s) (nI n) (nI l) (nI s) (nI n) f2 (nI l) (nI m) (ro_A a) a2 a3 a4 a5 a6 f (lN (ro_code a (i + 1))) (nI (ro_st 1 a (i + 1))) (nI (ro_st 3 a (i + 1))) (nI (ro_st 2 a (i + 1)) - 1) (nI (ro_st 0 a (i + 1)) - 1) (nI (i + 1)) := hw () trivial
      rw [show ro_st 0 a (i + 1) = a i + 1 from rfl, nI_pred] at hJ
      refine pk_le l i (fun z => absurd z (by omega)) (fun _ => ro_item hm hl hi (br_f (nI_pos (by omega)) (br_t (nI_le (b := 7) (by omega) (by omega)) (pk_eq s 0 (fun z => ?_) (fun z => ?_)))))
      · refine ek_if (ro_le8 (a i) (by omega) (ro_st 0 a i) (by omega)) (fun q => absurd q (by have := (M0 z).2; omega)) (fun q => br_t (nI_lt (M0 z).1 (by omega)) ?_)
        exact ro_o97 ha c1 c3 (by omega) M1 M2 M3 hJ
      · exact ro_o97 ha c1 c3 (by omega) M1 M2 M3 hJ
  have e1 : nI (ro_st 2 a 0) - 1 = (-1 : Int32) := (by decide : nI 0 - 1 = (-1 : Int32))
  have e2 : nI (ro_st 0 a 0) - 1 = (-1 : Int32) := (by decide : nI 0 - 1 = (-1 : Int32))
  rw [e1, e2] at h
  exact h
theorem ro_obj {m k : Nat} (hl : l = ro_len s n k) (hc : ro_cf s n l) (h0 : 0 < ro_cnt s n l 0 0) (ha : ∀ j, a j < 8) (hv : ro_val s n l a l) (hm : m < 2 ^ 31) (hp : post (lN (ro_code a l))) :
    wpL_object post (nI s, nI n, f2, nI l, nI m, ro_A a, a2, a3, a4, a5, a6) (nI s) (nI n) (nI k) := by
  have h := ro_o25 (f2 := f2) (a2 := a2) (a3 := a3) (a4 := a4) (a5 := a5) (a6 := a6) hc h0 ha hv hm hp
  have hh : s = 0 ∨ s = 1 ∨ s = 2 ∨ s = 3 ∨ s = 4 := by have := hc.1; omega
  rcases hh with rfl | rfl | rfl | rfl | rfl
  · rw [ro_len0] at hl
    subst hl
    exact br_t rfl h
  · rw [ro_len1] at hl
    subst hl
    exact br_f (by decide) (br_f (by decide) (br_f (by decide) h))
  · rw [ro_len2] at hl
    subst hl
    exact br_f (by decide) (br_f (by decide) (br_f (by decide) h))
  · rw [ro_len3] at hl
    refine br_f (by decide) (br_f (by decide) (br_t rfl ?_))
    rw [show (2 : Int32) * nI n = nI l by rw [hl]; exact pk_mul 2 n]
    exact h
  · rw [ro_len4] at hl
    subst hl
    exact br_f (by decide) (br_t rfl h)
end
/-! the law's count -/
theorem ro_ch8 : ∀ A, A < 15 → ∀ i, i < 8 → 0 < i → i ≤ A → nI (ro_C A (i - 1)) * (nI A - nI i + 1) / nI i = nI (ro_C A i) := by decide +kernel
theorem ro_cat : ∀ n, n < 8 → 0 < n → nI (ro_C (2 * n) n) / (nI n + 1) = nI (ro_ne n n) := by decide +kernel
theorem ro_lch {post : Int32 → Prop} {A B : Nat} (hA : A < 15) (hB : B < 8) (hAB : B ≤ A) (hp : post (nI (ro_C A B))) : wpL_choose post () (nI A) (nI B) := by
  have h : ∃ f, wL_choose_4 post (nI A) (nI B) f (nI (ro_C A (1 - 1))) (nI 1) :=
    pk_loop (σ := Unit) (fun f i _ => wL_choose_4 post (nI A) (nI B) f (nI (ro_C A (i - 1))) (nI i)) (fun i _ => 0 < i) (B + 1) 1 () (by omega) Nat.one_pos
      (fun f _ _ => pk_lt B (B + 1) (fun _ => hp) (fun z => absurd z (by omega)))
      (fun f i _ hi h0 hw => pk_lt B i (fun z => absurd z (by omega)) (fun _ => ⟨nI_ne0 h0 (by omega), nm_r (ro_ch8 A hA i (by omega) h0 (by omega)) (nm_r (nI_1 i) (hw () (Nat.succ_pos i)))⟩))
  rw [show ro_C A (1 - 1) = 1 from ro_C0 _] at h
  exact h
theorem ro_l57 {post : Int32 → Prop} {s n : Nat} (h1 : 1 ≤ n) (h7 : n ≤ 7) (hs : s = 1 ∨ s = 2) (hp : post (nI (ro_cnt s n n 0 0))) : ∃ f, wL_count_57 post (nI s) (nI n) f 1 2 := by
  refine pk_loop (σ := Unit) (fun f i _ => wL_count_57 post (nI s) (nI n) f (nI (ro_fact (i - 1))) (nI i)) (fun i _ => 1 < i) (n + 1) 2 () (by omega) (by omega) (fun f _ _ => ?_) ?_
  · refine pk_lt n (n + 1) (fun _ => ?_) (fun z => absurd z (by omega))
    rcases hs with rfl | rfl
    · exact br_t rfl hp
    · refine br_f (by decide) ?_
      have hn : n = 1 ∨ n = 2 ∨ n = 3 ∨ n = 4 ∨ n = 5 ∨ n = 6 ∨ n = 7 := by omega
      rcases hn with rfl | rfl | rfl | rfl | rfl | rfl | rfl
      · exact br_f (by decide) hp
      · exact br_f (by decide) hp
      · exact br_t (by decide) (br_t rfl hp)
      · exact br_t (by decide) (br_f (by decide) (br_t rfl hp))
      · exact br_t (by decide) (br_f (by decide) (br_f (by decide) (br_t rfl hp)))
      · exact br_t (by decide) (br_f (by decide) (br_f (by decide) (br_f (by decide) (br_t rfl hp))))
      · exact br_t (by decide) (br_f (by decide) (br_f (by decide) (br_f (by decide) (br_f (by decide) hp))))
  · intro f i _ hi h2 hw
    cases i with
    | zero => omega
    | succ i =>
      refine pk_lt n (i + 1) (fun z => absurd z (by omega)) (fun _ => nm_r (e' := nI (ro_fact (i + 1))) ?_ (nm_r (nI_1 (i + 1)) (hw () (by omega))))
      show nI (ro_fact i) * nI (i + 1) = nI ((i + 1) * ro_fact i)
      rw [pk_mul, Nat.mul_comm]
theorem ro_cntL {post : Int32 → Prop} {s n k : Nat} (hs : s ≤ 4) (h1 : 1 ≤ n) (h7 : n ≤ 7) (hk : k ≤ n) (hp : post (nI (ro_cnt s n (ro_len s n k) 0 0))) : wpL_count post () (nI s) (nI n) (nI k) := by
  have hh : s = 0 ∨ s = 1 ∨ s = 2 ∨ s = 3 ∨ s = 4 := by omega
  rcases hh with rfl | rfl | rfl | rfl | rfl
  · rw [ro_len0] at hp
    have e : ro_cnt 0 n k 0 0 = ro_C n k := if_pos hk
    rw [e] at hp
    exact br_t rfl (ro_lch (by omega) (by omega) hk hp)
  · rw [ro_len1] at hp
    exact br_f (by decide) (br_f (by decide) (br_f (by decide) (ro_l57 h1 h7 (Or.inl rfl) hp)))
  · rw [ro_len2] at hp
    exact br_f (by decide) (br_f (by decide) (br_f (by decide) (ro_l57 h1 h7 (Or.inr rfl) hp)))
  · rw [ro_len3] at hp
    refine br_f (by decide) (br_f (by decide) (br_t rfl ?_))
    rw [show (2 : Int32) * nI n = nI (2 * n) from pk_mul 2 n]
    refine ro_lch (by omega) (by omega) (by omega) ⟨?_, ?_⟩
    · rw [nI_1]
      exact nI_ne0 (by omega) (by omega)
    · rw [ro_cat n (by omega) (by omega)]
      exact hp
  · rw [ro_len4] at hp
    refine br_f (by decide) (br_t rfl (pk_eq k 0 (fun z => ?_) (fun z => ?_)))
    · subst z
      have e : ro_cnt 4 n 0 0 0 = 0 := by
        show (if n < 0 then 0 else if 0 = 0 then (if 0 < n then 0 else 1) else ro_C (n - 0 + (0 - 1)) (0 - 1)) = 0
        rw [if_neg (by omega), if_pos rfl, if_pos (by omega)]
      rw [e] at hp
      exact hp
    · have e : ro_cnt 4 n k 0 0 = ro_C (n + k - 1) (k - 1) := by
        show (if n < 0 then 0 else if k = 0 then (if 0 < n then 0 else 1) else ro_C (n - 0 + (k - 1)) (k - 1)) = _
        rw [if_neg (by omega), if_neg z, show n - 0 + (k - 1) = n + k - 1 by omega]
      rw [e] at hp
      rw [show nI n + nI k - 1 = nI (n + k - 1) by rw [nI_add]; exact pk_sub (show 1 ≤ n + k by omega), show nI k - 1 = nI (k - 1) from pk_sub (show 1 ≤ k by omega)]
      exact ro_lch (by omega) (by omega) (by omega) hp
end
section
/-! the law -/
def ro_I (s n k all m : Nat) (cur : Int32) (a : Nat → Nat) : Prop :=
  s ≤ 4 ∧ 1 ≤ n ∧ n ≤ 7 ∧ k ≤ n ∧ (∀ j, a j < 8) ∧ all = ro_cnt s n (ro_len s n k) 0 0 ∧
  ((all = 0 ∧ m = 0 ∧ cur = -2) ∨ (0 < all ∧ ro_val s n (ro_len s n k) a (ro_len s n k) ∧ ro_R s n (ro_len s n k) a (ro_len s n k) = m ∧ cur = nI m))
theorem ro_Rlt {s n l : Nat} {a : Nat → Nat} (hc : ro_cf s n l) (h0 : 0 < ro_cnt s n l 0 0) (hv : ro_val s n l a l) : ro_R s n l a l < ro_cnt s n l 0 0 := by
  obtain ⟨_, t2⟩ := ro_tel hc h0 hv l 0 (Nat.zero_add l)
  have e0 : ro_R s n l a 0 + ro_W s n l a 0 = ro_cnt s n l 0 0 := Nat.zero_add _
  omega
theorem ro_codeB {a : Nat → Nat} {l : Nat} (hl : l ≤ 14) (ha : ∀ j, a j < 8) : ro_code a l < 2 ^ 63 := by
  have h1 := ro_code_lt (a := a) l (fun j _ => ha j)
  have h2 : 8 ^ l ≤ 8 ^ 14 := Nat.pow_le_pow_right (by decide) hl
  have h3 : 8 ^ 14 < 2 ^ 63 := by decide
  omega
theorem ro_cond {L p : Nat} (hL : L ≤ 260) (hp : p ≤ 300) : (Int32.ofNat L - 4 < nI p) ↔ L < p + 4 := by
  show (nI L - nI 4 < nI p) ↔ L < p + 4
  rw [Int32.lt_iff_toInt_lt, pk_sub_toInt (by omega) (by omega), nI_toInt (by omega)]
  omega
section
variable {post : Int32 → Prop} {L : Nat} {xs : Nat → Int32} {J : Int32 → Int32 → Int32 → Int32 → Int32 → Int32 → Int32 → Int32 → Int32 → Int32 → Int32 → (Nat → Int32) → (Nat → Int32) → (Nat → Int32) → (Nat → Int32) → (Nat → Int32) → (Nat → Int32) → Prop} {kc ks : Nat} {a2 a3 a4 a5 a6 : Nat → Int32} {s n k all m p : Nat} {c cur : Int32} {a : Nat → Nat}
theorem ro_l439 (hT : ro_T a3 a4 a5 a6) (hI : ro_I s n k all m cur a) (hJ : J (nI s) (nI n) (nI k) (nI all) (nI m) (nI (p + 4)) (nI s) (nI n) c (nI (ro_len s n k)) cur (ro_A a) a2 a3 a4 a5 a6) :
    wL_law_439 post L xs J (nI s) (nI n) (nI k) (nI all) (nI m) (nI p) kc ks (nI s) (nI n) c (nI (ro_len s n k)) cur (ro_A a) a2 a3 a4 a5 a6 := by
  obtain ⟨h1, h2, h3, h4, ha, hall, hcase⟩ := hI
  have hc := ro_cfk h1 h2 h3 h4
  have hB := ro_tot hc
  have hp4 : nI p + 4 = nI (p + 4) := nI_add p 4
  unfold wL_law_439
  rcases hcase with ⟨e1, e2, e3⟩ | ⟨e0, hv, hR, e3⟩
  · subst e1 e2
    exact br_f (by decide) (nm_r hp4 hJ)
  · subst e3
    have hlt := ro_Rlt hc (by omega) hv
    exact pk_eq m (all - 1) (fun z => ro_next hc (by omega) hT ha hv hR (fun q => absurd q (by omega)) (fun _ => br_t rfl (nm_r hp4 hJ))) (fun z => nm_r hp4 hJ) rfl (pk_sub e0) (by omega) (by omega)
theorem ro_l411 {z : Int32} (hT : ro_T a3 a4 a5 a6) (hI : ro_I s n k all m cur a) (hJ : J (nI s) (nI n) (nI k) (nI all) (nI m) (nI (p + 4)) (nI s) (nI n) c (nI (ro_len s n k)) cur (ro_A a) a2 a3 a4 a5 a6) :
    wL_law_411 post L xs J (nI s) (nI n) (nI k) (nI all) (nI m) (nI p) z z kc ks (nI s) (nI n) c (nI (ro_len s n k)) cur (ro_A a) a2 a3 a4 a5 a6 := by
  have k439 := ro_l439 (post := post) (L := L) (xs := xs) (kc := kc) (ks := ks) hT hI hJ
  obtain ⟨h1, h2, h3, h4, ha, hall, hcase⟩ := hI
  have hc := ro_cfk h1 h2 h3 h4
  have hB := ro_tot hc
  unfold wL_law_411
  refine br_t rfl (ro_count hc hT ha (br_t (by rw [hall]) ?_))
  rcases hcase with ⟨e1, e2, e3⟩ | ⟨e0, hv, hR, e3⟩
  · subst e2 e3
    exact br_t rfl (ro_prevN (by decide) (br_t rfl k439))
  · subst e3
    have hlt := ro_Rlt hc (by omega) hv
    refine pk_eq m 0 (fun z => ro_prevN ?_ (br_t rfl k439)) (fun z => k439)
    rw [z]
    decide
theorem ro_l395 (hT : ro_T a3 a4 a5 a6) (hI : ro_I s n k all m cur a) (hJ : J (nI s) (nI n) (nI k) (nI all) (nI m) (nI (p + 4)) (nI s) (nI n) c (nI (ro_len s n k)) cur (ro_A a) a2 a3 a4 a5 a6) :
    wL_law_395 post L xs J (nI s) (nI n) (nI k) (nI all) (nI m) (nI p) kc ks (nI s) (nI n) c (nI (ro_len s n k)) cur (ro_A a) a2 a3 a4 a5 a6 := by
  have hI' := hI
  obtain ⟨h1, h2, h3, h4, ha, hall, hcase⟩ := hI'
  have hc := ro_cfk h1 h2 h3 h4
  have hB := ro_tot hc
  unfold wL_law_395
  rcases hcase with ⟨e1, e2, e3⟩ | ⟨e0, hv, hR, e3⟩
  · have k := ro_l411 (post := post) (L := L) (xs := xs) (kc := kc) (ks := ks) (z := cur) hT hI hJ
    subst e1 e2 e3
    exact br_t rfl k
  · have k := ro_l411 (post := post) (L := L) (xs := xs) (kc := kc) (ks := ks) (z := cur) hT hI hJ
    subst e3
    exact br_f (nI_ne0 e0 (by omega)) k
theorem ro_l187 {B : Nat} (hT : ro_T a3 a4 a5 a6) (hI : ro_I s n k all m cur a) (hB : 0 < all → B = ro_code a (ro_len s n k))
    (hJ : ∀ s n k all m c cur a, ro_I s n k all m cur a → J (nI s) (nI n) (nI k) (nI all) (nI m) (nI (p + 4)) (nI s) (nI n) c (nI (ro_len s n k)) cur (ro_A a) a2 a3 a4 a5 a6) :
    wL_law_187 post L xs J (nI s) (nI n) (nI k) (nI all) (nI m) (nI p) (lN B) kc ks (nI s) (nI n) c (nI (ro_len s n k)) cur (ro_A a) a2 a3 a4 a5 a6 := by
  have k395 := ro_l395 (post := post) (L := L) (xs := xs) (kc := kc) (ks := ks) hT hI (hJ s n k all m c cur a hI)
  obtain ⟨h1, h2, h3, h4, ha, hall, hcase⟩ := hI
  have hc := ro_cfk h1 h2 h3 h4
  have hl := (ro_cfl hc).1
  have hBt := ro_tot hc
  unfold wL_law_187
  rcases hcase with ⟨e1, e2, e3⟩ | ⟨e0, hv, hR, e3⟩
  · subst e1 e2 e3
    exact ro_nextN hc hT ha (br_t (by decide) (br_t rfl (br_t (by decide) k395)))
  · subst e3
    have h0 : 0 < ro_cnt s n (ro_len s n k) 0 0 := by omega
    have hlt := ro_Rlt hc h0 hv
    refine ro_next hc h0 hT ha hv hR (fun q b hb hbv hbr => ?_) (fun q => ?_)
    · have hn : ¬ nI all ≤ nI m + 1 := by
        rw [nI_1]
        exact nI_ge (by omega) (by omega)
      have hI2 : ro_I s n k all (m + 1) (nI (m + 1)) b := ⟨h1, h2, h3, h4, hb, hall, Or.inr ⟨e0, hbv, hbr, rfl⟩⟩
      refine br_f hn (br_t (nI_1 m).symm (br_f hn (nm_r (nI_1 m) (ro_obj rfl hc h0 hb hbv (by omega) (br_t ?_ (ro_l395 hT hI2 (hJ s n k all (m + 1) _ _ b hI2)))))))
      rw [pk_lLT (by rw [hB e0]; exact ro_codeB hl ha) (ro_codeB hl hb), hB e0]
      rcases ro_cmp hc h0 hv hbv with w | w | w <;> omega
    · have hn : nI all ≤ nI m + 1 := by
        rw [nI_1]
        exact nI_le (by omega) (by omega)
      exact br_t hn (br_t rfl (br_t hn k395))
theorem ro_l207 {B : Nat} (hT : ro_T a3 a4 a5 a6) (hI : ro_I s n k all m cur a) (hB : 0 < all → B = ro_code a (ro_len s n k))
    (hJ : ∀ s n k all m c cur a, ro_I s n k all m cur a → J (nI s) (nI n) (nI k) (nI all) (nI m) (nI (p + 4)) (nI s) (nI n) c (nI (ro_len s n k)) cur (ro_A a) a2 a3 a4 a5 a6) {Q : Int32 → St1 → Prop}
    (hQ0 : m = 0 → wL_law_260 post L xs J (nI s) (nI n) (nI k) (nI all) (nI m) (nI p) (lN B) (-2) (-2) kc ks (nI s) (nI n) c (nI (ro_len s n k)) cur (ro_A a) a2 a3 a4 a5 a6 → Q (-2) (nI s, nI n, c, nI (ro_len s n k), cur, ro_A a, a2, a3, a4, a5, a6))
    (hQ1 : ∀ m' b, m = m' + 1 → wL_law_260 post L xs J (nI s) (nI n) (nI k) (nI all) (nI m) (nI p) (lN B) (nI m - 1) (nI m') kc ks (nI s) (nI n) c (nI (ro_len s n k)) (nI m') (ro_A b) a2 a3 a4 a5 a6 → Q (nI m') (nI s, nI n, c, nI (ro_len s n k), nI m', ro_A b, a2, a3, a4, a5, a6)) :
    wpX_previous Q (nI s, nI n, c, nI (ro_len s n k), cur, ro_A a, a2, a3, a4, a5, a6) := by
  have k395 := ro_l395 (post := post) (L := L) (xs := xs) (kc := kc) (ks := ks) hT hI (hJ s n k all m c cur a hI)
  obtain ⟨h1, h2, h3, h4, ha, hall, hcase⟩ := hI
  have hc := ro_cfk h1 h2 h3 h4
  have hl := (ro_cfl hc).1
  have hBt := ro_tot hc
  rcases hcase with ⟨e1, e2, e3⟩ | ⟨e0, hv, hR, e3⟩
  · subst e2 e3
    exact ro_prevN (by decide) (hQ0 rfl (br_t rfl (br_t (by decide) k395)))
  · subst e3
    have h0 : 0 < ro_cnt s n (ro_len s n k) 0 0 := by omega
    have hlt := ro_Rlt hc h0 hv
    cases m with
    | zero => exact ro_prevN (by decide) (hQ0 rfl (br_t rfl (br_t (by decide) k395)))
    | succ m =>
      refine ro_prev hc h0 hT ha hv hR (fun b hb hbv hbr => hQ1 m b rfl ?_)
      have hI2 : ro_I s n k all m (nI m) b := ⟨h1, h2, h3, h4, hb, hall, Or.inr ⟨e0, hbv, hbr, rfl⟩⟩
      refine br_t (nI_pred m).symm (br_f (nI_nle (by omega) (by omega)) (nm_r (pk_m1 m) (ro_obj rfl hc h0 hb hbv (by omega) (br_t ?_ (ro_l395 hT hI2 (hJ s n k all m _ _ b hI2))))))
      rw [pk_lLT (ro_codeB hl hb) (by rw [hB e0]; exact ro_codeB hl ha), hB e0]
      rcases ro_cmp hc h0 hv hbv with w | w | w <;> omega
theorem ro_l306 {B q : Nat} (hT : ro_T a3 a4 a5 a6) (hI : ro_I s n k all m cur a) (hB : 0 < all → B = ro_code a (ro_len s n k)) (hq0 : all = 0 → q = 0) (hq1 : 0 < all → q < all)
    (hJ : ∀ s n k all m c cur a, ro_I s n k all m cur a → J (nI s) (nI n) (nI k) (nI all) (nI m) (nI (p + 4)) (nI s) (nI n) c (nI (ro_len s n k)) cur (ro_A a) a2 a3 a4 a5 a6) :
    wL_law_306 post L xs J (nI s) (nI n) (nI k) (nI all) (nI m) (nI p) (lN B) (nI q) kc ks (nI s) (nI n) c (nI (ro_len s n k)) cur (ro_A a) a2 a3 a4 a5 a6 := by
  have k395 := ro_l395 (post := post) (L := L) (xs := xs) (kc := kc) (ks := ks) hT hI (hJ s n k all m c cur a hI)
  obtain ⟨h1, h2, h3, h4, ha, hall, hcase⟩ := hI
  have hc := ro_cfk h1 h2 h3 h4
  have hl := (ro_cfl hc).1
  have hBt := ro_tot hc
  unfold wL_law_306
  rcases hcase with ⟨e1, e2, e3⟩ | ⟨e0, hv, hR, e3⟩
  · have eq := hq0 e1
    subst e1 e2 e3 eq
    exact ro_go (q := 0) hc hT ha (by omega) (fun z => absurd z (by omega)) (fun _ => br_t rfl (br_t rfl (br_t (by decide) k395)))
  · subst e3
    have h0 : 0 < ro_cnt s n (ro_len s n k) 0 0 := by omega
    have hlt := ro_Rlt hc h0 hv
    have hq := hq1 e0
    refine ro_go hc hT ha (by omega) (fun _ b hb hbv hbr => ?_) (fun z => absurd z (by omega))
    have hI2 : ro_I s n k all q (nI q) b := ⟨h1, h2, h3, h4, hb, hall, Or.inr ⟨e0, hbv, hbr, rfl⟩⟩
    have k2 := ro_l395 (post := post) (L := L) (xs := xs) (kc := kc) (ks := ks) hT hI2 (hJ s n k all q c (nI q) b hI2)
    have bA := ro_codeB hl ha
    have bB := ro_codeB hl hb
    have hBe := hB e0
    subst hBe
    have w := ro_cmp hc h0 hv hbv
    refine br_f (nI_ne0 e0 (by omega)) (br_t rfl (br_f (nI_nle e0 (by omega)) (ro_obj rfl hc h0 hb hbv (by omega) (pk_le m q (fun g1 => pk_le q m (fun g2 => br_t ?_ k2) (fun g2 => br_t ?_ k2)) (fun g1 => br_t ?_ k2)))))
    · rw [pk_lEQ bB bA]
      omega
    · rw [pk_lLT bA bB]
      omega
    · rw [pk_lLT bB bA]
      omega
theorem ro_l67 {B : Nat} {x8 x9 : Int32} (hL : L ≤ 260) (hp : p + 3 < L) (hT : ro_T a3 a4 a5 a6) (hI : ro_I s n k all m cur a) (hB63 : B < 2 ^ 63) (hB : 0 < all → B = ro_code a (ro_len s n k))
    (hJ : ∀ s n k all m c cur a, ro_I s n k all m cur a → J (nI s) (nI n) (nI k) (nI all) (nI m) (nI (p + 4)) (nI s) (nI n) c (nI (ro_len s n k)) cur (ro_A a) a2 a3 a4 a5 a6) :
    wL_law_67 post L xs J (nI s) (nI n) (nI k) (nI all) (nI m) (nI p) x8 x9 (lN B) kc ks (nI s) (nI n) c (nI (ro_len s n k)) cur (ro_A a) a2 a3 a4 a5 a6 := by
  obtain ⟨t, ht, et⟩ := pk_andE (xs (nI p).toNatClampNeg) (m := 7) 3 (by decide)
  have hab : all < 1000000000 ∧ m < 1000000000 := by
    obtain ⟨h1, h2, h3, h4, ha, hall, hcase⟩ := hI
    have hc := ro_cfk h1 h2 h3 h4
    have hBt := ro_tot hc
    rcases hcase with ⟨e1, e2, e3⟩ | ⟨e0, hv, hR, e3⟩
    · omega
    · have hlt := ro_Rlt hc (by omega) hv
      omega
  have hDef : (nI all = 0 → wL_law_306 post L xs J (nI s) (nI n) (nI k) (nI all) (nI m) (nI p) (lN B) 0 kc ks (nI s) (nI n) c (nI (ro_len s n k)) cur (ro_A a) a2 a3 a4 a5 a6) ∧ (¬ nI all = 0 → (¬ nI all = 0 ∧ wL_law_306 post L xs J (nI s) (nI n) (nI k) (nI all) (nI m) (nI p) (lN B) ((x8 &&& 65535) - (x8 &&& 65535) / nI all * nI all) kc ks (nI s) (nI n) c (nI (ro_len s n k)) cur (ro_A a) a2 a3 a4 a5 a6)) := by
    refine pk_eq all 0 (fun z => ro_l306 (q := 0) hT hI hB (fun _ => rfl) (fun w => by omega) hJ) (fun z => ⟨nI_ne0 (by omega) (by omega), ?_⟩)
    obtain ⟨u, hu, eu⟩ := pk_andE x8 (m := 65535) 16 (by decide)
    rw [eu, pk_rem (by omega) (by omega) (by omega)]
    exact ro_l306 hT hI hB (fun w => absurd w z) (fun w => Nat.mod_lt u w) hJ
  have h0B : (0 : Int64) ≤ lN B := (pk_lLE (a := 0) (by decide) hB63).mpr (Nat.zero_le B)
  refine br_t h0B ⟨pk_in p L (by omega), nm_r et (br_f (nI_pos (by omega)) (pk_lt 3 t (fun _ => hDef) (fun _ => pk_eq t 0 (fun _ => ?_) (fun _ => pk_eq t 1 (fun _ => ro_l187 hT hI hB hJ) (fun _ => pk_eq t 2 (fun _ => ro_l187 hT hI hB hJ) (fun _ => pk_eq t 3 (fun _ => ?_) (fun _ => trivial)))))))⟩
  · obtain ⟨u, hu, eu⟩ := pk_andE x8 (m := 255) 8 (by decide)
    obtain ⟨v, hv, ev⟩ := pk_andE x9 (m := 255) 8 (by decide)
    obtain ⟨w, hw, ew⟩ := pk_andE (xs (nI p + 3).toNatClampNeg) (m := 255) 8 (by decide)
    have q1 : u % 5 < 5 := Nat.mod_lt _ (by decide)
    have q2 : v % 7 < 7 := Nat.mod_lt _ (by decide)
    have q3 : w % (1 + v % 7 + 1) < 1 + v % 7 + 1 := Nat.mod_lt _ (by omega)
    have ha := hI.2.2.2.2.1
    refine ⟨by decide, nm_r (e' := nI (u % 5)) (by rw [eu]; exact pk_rem (d := 5) (by omega) (by decide) (by decide)) ⟨by decide, nm_r (e' := nI (1 + v % 7)) ?_ ⟨pk_in (p + 3) L (by omega) (nI_add p 3), ?_, nm_r (e' := nI (w % (1 + v % 7 + 1))) ?_ ?_⟩⟩⟩
    · rw [ev]
      have e := pk_rem (a := v) (d := 7) (by omega) (by decide) (by decide)
      have e2 : nI v - nI v / 7 * 7 = nI (v % 7) := e
      rw [e2]
      exact nI_add 1 (v % 7)
    · rw [nI_1]
      exact nI_ne0 (by omega) (by omega)
    · rw [nI_1, ew]
      exact pk_rem (by omega) (by omega) (by omega)
    · have hs4 : u % 5 ≤ 4 := by omega
      have hn1 : 1 ≤ 1 + v % 7 := by omega
      have hn7 : 1 + v % 7 ≤ 7 := by omega
      have hkn : w % (1 + v % 7 + 1) ≤ 1 + v % 7 := by omega
      have hc := ro_cfk hs4 hn1 hn7 hkn
      refine ro_cntL hs4 hn1 hn7 hkn (ro_choose hs4 hn1 hn7 hkn rfl hT ha (fun c' hz => ?_) (fun c' hz b hb hbv hbr => ?_))
      · have hI2 : ro_I (u % 5) (1 + v % 7) (w % (1 + v % 7 + 1)) (ro_cnt (u % 5) (1 + v % 7) (ro_len (u % 5) (1 + v % 7) (w % (1 + v % 7 + 1))) 0 0) 0 (-2) a := ⟨hs4, hn1, hn7, hkn, ha, rfl, Or.inl ⟨hz, rfl, rfl⟩⟩
        exact br_f (by decide) (ro_count hc hT ha (br_t rfl (ro_l395 hT hI2 (hJ _ _ _ _ _ _ _ _ hI2))))
      · have hI2 : ro_I (u % 5) (1 + v % 7) (w % (1 + v % 7 + 1)) (ro_cnt (u % 5) (1 + v % 7) (ro_len (u % 5) (1 + v % 7) (w % (1 + v % 7 + 1))) 0 0) 0 (nI 0) b := ⟨hs4, hn1, hn7, hkn, hb, rfl, Or.inr ⟨hz, hbv, hbr, rfl⟩⟩
        exact br_f (by decide) (ro_count hc hT hb (br_t rfl (ro_l395 hT hI2 (hJ _ _ _ _ _ _ _ _ hI2))))
  · exact ro_l207 (post := post) (L := L) (xs := xs) (kc := kc) (ks := ks) hT hI hB hJ (fun z h => br_t (by rw [z]; decide) h) (fun m' b z h => br_f (by rw [z]; exact nI_nle (by omega) (by omega)) h)
end
theorem ro_l25 {L : Nat} {xs : Nat → Int32} {kc ks : Nat} {a2 a3 a4 a5 a6 : Nat → Int32} (hL : L ≤ 260) (hT : ro_T a3 a4 a5 a6) :
    ∀ f p, p ≤ L + 3 → L + 4 ≤ p + 4 * f → ∀ s n k all m c cur a, ro_I s n k all m cur a → wL_law_25 (fun r => r = 1) L xs kc ks f (nI s) (nI n) (nI k) (nI all) (nI m) (nI p) (nI s) (nI n) c (nI (ro_len s n k)) cur (ro_A a) a2 a3 a4 a5 a6 := by
  intro f
  induction f with
  | zero =>
    intro p hp hf
    omega
  | succ f ih =>
    intro p hp hf s n k all m c cur a hI
    refine ek_if (ro_cond hL (by omega)) (fun _ => rfl) (fun h => ⟨pk_in (p + 1) L (by omega) (nI_add p 1), nm_e ⟨pk_in (p + 2) L (by omega) (nI_add p 2), nm_e ?_⟩⟩)
    have hJ := ih (p + 4) (by omega) (by omega)
    have hI' := hI
    obtain ⟨h1, h2, h3, h4, ha, hall, hcase⟩ := hI'
    have hc := ro_cfk h1 h2 h3 h4
    have hBt := ro_tot hc
    rcases hcase with ⟨e1, e2, e3⟩ | ⟨e0, hv, hR, e3⟩
    · refine br_t (by rw [e1]; rfl) (ro_l67 (B := 0) hL (by omega) hT hI (by decide) (fun w => by omega) hJ)
    · have hlt := ro_Rlt hc (by omega) hv
      refine br_f (nI_ne0 e0 (by omega)) ?_
      have k67 := ro_l67 (c := c) (post := fun r => r = 1) (xs := xs) (kc := kc) (ks := ks) (x8 := xs (nI p + 1).toNatClampNeg) (x9 := xs (nI p + 2).toNatClampNeg) hL (by omega : p + 3 < L) hT hI (ro_codeB (ro_cfl hc).1 ha) (fun _ => rfl) hJ
      subst e3
      exact ro_obj rfl hc (by omega) ha hv (by omega) k67
end
section
theorem i_vc (xs : Nat → Int32) (L : Nat) (hL : L ≤ 260) : wpL_law (fun r => r = 1) L xs := by
  refine ⟨6, 292, by omega, by omega, ?_⟩
  refine ⟨by omega, by omega, by omega, by omega, by omega, by omega, by omega, by omega, by omega, by omega, by omega, by omega, ?_⟩
  refine ro_fill (fun b3 b4 b5 b6 hT => ?_)
  refine ro_choose (s := 1) (n := 3) (k := 0) (a := fun _ => 0) (by omega) (by omega) (by omega) (by omega) rfl hT (fun _ => by decide) (fun c hz => absurd hz (by decide)) (fun c hz b hb hbv hbr => ?_)
  exact ⟨L + 4, ro_l25 hL hT (L + 4) 0 (by omega) (by omega) 1 3 0 6 0 c (nI 0) b ⟨by omega, by omega, by omega, by omega, hb, rfl, Or.inr ⟨by omega, hbv, hbr, rfl⟩⟩⟩
end
