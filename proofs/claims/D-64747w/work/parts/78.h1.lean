/-! sets in the component's order (bit g - 1: feature g) and in the reference's (bit n - g): rvN goes between them -/
theorem tb_no {n x k : Nat} (h : x < 2 ^ n) (hk : n ≤ k) : x.testBit k = false := by
  cases hc : x.testBit k with
  | false => rfl
  | true => exact absurd (tb_lt h hc) (by omega)
theorem rv_rv {n x : Nat} (h : x < 2 ^ n) : rvN n (rvN n x) = x := by
  apply Nat.eq_of_testBit_eq
  intro j
  rw [rv_tb, rv_tb]
  by_cases hj : j < n
  · rw [decide_eq_true hj, decide_eq_true (show n - 1 - j < n by omega), show n - 1 - (n - 1 - j) = j by omega]
    rfl
  · rw [decide_eq_false hj, tb_no (k := j) h (by omega)]
    rfl
theorem tb_rv {n x g : Nat} (h1 : 1 ≤ g) (h2 : g ≤ n) : tb n (rvN n x) g = x.testBit (g - 1) := by
  unfold tb
  rw [rv_tb, decide_eq_true (show n - g < n by omega), Bool.true_and, show n - 1 - (n - g) = g - 1 by omega]
theorem rv_low (n x : Nat) : rvN n (2 ^ n + x) = rvN n x := by
  apply Nat.eq_of_testBit_eq
  intro j
  rw [rv_tb, rv_tb]
  by_cases hj : j < n
  · rw [Nat.testBit_two_pow_add_gt (by omega)]
  · rw [decide_eq_false hj]; rfl
theorem ctB_add (P : Nat → Bool) (m : Nat) : ∀ k, ctB P (m + k) = ctB P m + ctB (fun j => P (m + j)) k := by
  intro k
  induction k with
  | zero => rfl
  | succ k ih =>
    show ctB P (m + k) + (if P (m + k) then 1 else 0) = ctB P m + (ctB (fun j => P (m + j)) k + (if P (m + k) then 1 else 0))
    rw [ih]; omega
theorem ctB_two (P : Nat → Bool) : ∀ k, ctB P (2 * k) = ctB (fun j => P (2 * j)) k + ctB (fun j => P (2 * j + 1)) k := by
  intro k
  induction k with
  | zero => rfl
  | succ k ih =>
    rw [show 2 * (k + 1) = 2 * k + 1 + 1 by omega]
    show ctB P (2 * k) + (if P (2 * k) then 1 else 0) + (if P (2 * k + 1) then 1 else 0) = (ctB (fun j => P (2 * j)) k + (if P (2 * k) then 1 else 0)) + (ctB (fun j => P (2 * j + 1)) k + (if P (2 * k + 1) then 1 else 0))
    rw [ih]; omega
theorem ctB_rv : ∀ (n : Nat) (P : Nat → Bool), ctB (fun x => P (rvN n x)) (2 ^ n) = ctB P (2 ^ n) := by
  intro n
  induction n with
  | zero => intro P; rfl
  | succ n ih =>
    intro P
    rw [show 2 ^ (n + 1) = 2 ^ n + 2 ^ n by rw [Nat.pow_succ]; omega, ctB_add]
    rw [show 2 ^ n + 2 ^ n = 2 * 2 ^ n by omega, ctB_two, ← ih (fun j => P (2 * j)), ← ih (fun j => P (2 * j + 1))]
    congr 1
    · refine ctB_congr (fun x hx => ?_)
      show P (2 * rvN n x + (if x.testBit n then 1 else 0)) = _
      rw [tb_no hx (Nat.le_refl _)]
      rfl
    · refine ctB_congr (fun x hx => ?_)
      show P (2 * rvN n (2 ^ n + x) + (if (2 ^ n + x).testBit n then 1 else 0)) = _
      rw [rv_low, Nat.testBit_two_pow_add_eq, tb_no hx (Nat.le_refl _)]
      rfl
theorem fsN_none {P : Nat → Bool} : ∀ m, fsN P m = none ↔ ∀ x, x < m → P x = false := by
  intro m
  induction m with
  | zero => exact ⟨fun _ x hx => absurd hx (by omega), fun _ => rfl⟩
  | succ m ih =>
    rw [fsN]
    by_cases hp : P m = true
    · rw [if_pos hp]
      refine ⟨fun h => absurd h (fun h => by cases h), fun h => ?_⟩
      rw [h m (by omega)] at hp
      cases hp
    · rw [if_neg hp, ih]
      refine ⟨fun h x hx => ?_, fun h x hx => h x (by omega)⟩
      by_cases hxm : x = m
      · subst hxm; exact Bool.not_eq_true _ ▸ hp
      · exact h x (by omega)
theorem fsN_some {P : Nat → Bool} {X : Nat} (h1 : P X = true) : ∀ m, X < m → (∀ y, y < m → P y = true → y ≤ X) → fsN P m = some X := by
  intro m
  induction m with
  | zero => intro h; omega
  | succ m ih =>
    intro h2 h3
    rw [fsN]
    by_cases hp : P m = true
    · rw [if_pos hp]
      have := h3 m (by omega) hp
      rw [show m = X by omega]
    · rw [if_neg hp]
      refine ih ?_ (fun y hy => h3 y (by omega))
      rcases Nat.lt_or_ge X m with h | h
      · exact h
      · exact absurd (show P m = true by rw [show m = X by omega]; exact h1) hp
/-- a literal is against a total choice just when it doesn't hold -/
theorem ag_hld {n x : Nat} {t : Lit} (h1 : 1 ≤ t.1) (h2 : t.1 ≤ n) : ag t x ((2 ^ n - 1) ^^^ x) = !hld n (rvN n x) t := by
  unfold ag hld
  rw [tb_rv h1 h2]
  cases t.2 with
  | true => rw [if_pos rfl, if_pos rfl, cp_tb, decide_eq_true (show t.1 - 1 < n by omega), Bool.true_xor]
  | false => simp
theorem brk_E {av : Nat → Nat → Int32} {n x : Nat} {t u : Lit} (h1 : 1 ≤ t.1) (h2 : t.1 ≤ n) (h3 : 1 ≤ u.1) (h4 : u.1 ≤ n) : brk av (rE t u) x ((2 ^ n - 1) ^^^ x) = !(hld n (rvN n x) t || hld n (rvN n x) u) := by
  show (ag t x _ && ag u x _) = _
  rw [ag_hld h1 h2, ag_hld h3 h4, Bool.not_or]
