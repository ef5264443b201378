/-! plain numbers: shifts, bits, counts; the state in plain words -/
theorem s_l : ∀ n, n < 32 → ((nI n &&& 31).toBitVec.smod 32).toNat = n := by decide +kernel
theorem sh_r {x k : Nat} (hx : x < 2 ^ 31) (hk : k < 32) : nI x >>> (nI k &&& 31) = nI (x / 2 ^ k) := pk_shrN hx _ k (s_l k hk)
theorem sh_l {x k : Nat} (hk : k < 32) (h : x * 2 ^ k < 2 ^ 32) : nI x <<< (nI k &&& 31) = nI (x * 2 ^ k) := pk_shlN _ k (s_l k hk) h
theorem an_1 {x : Nat} (hx : x < 2 ^ 32) : nI x &&& 1 = nI (x % 2) := pk_andN hx 1 (by decide)
theorem tb_div (x k : Nat) : (x / 2 ^ k % 2 = 1) ↔ x.testBit k = true := by
  rw [Nat.testBit_eq_decide_div_mod_eq, decide_eq_true_eq]
theorem bit_1 {x k : Nat} (hx : x < 2 ^ 31) (hk : k < 32) : ((nI x >>> (nI k &&& 31)) &&& 1) = b2i (x.testBit k) := by
  rw [sh_r hx hk, an_1 (Nat.lt_of_le_of_lt (Nat.div_le_self _ _) (by omega)), Nat.testBit_eq_decide_div_mod_eq]
  rcases Nat.mod_two_eq_zero_or_one (x / 2 ^ k) with h | h <;> rw [h] <;> rfl
abbrev Lit : Type := Nat × Bool
def litI (x : Lit) : Int32 := if x.2 then nI x.1 else -(nI x.1)
theorem nI_neg_le {g : Nat} (hg : g < 2 ^ 31) : -(nI g) ≤ 0 := by
  rw [Int32.le_iff_toInt_le, sb_negT hg]
  simp
theorem nI_neg_lt {g : Nat} (h0 : 1 ≤ g) (hg : g < 2 ^ 31) : -(nI g) < 0 := by
  rw [Int32.lt_iff_toInt_lt, sb_negT hg]
  simp; omega
theorem neg_neg_i (x : Int32) : -(-x) = x := by grind
/-- all j < k -/
def alB (P : Nat → Bool) : Nat → Bool
  | 0 => true
  | k + 1 => alB P k && P k
def ctB (P : Nat → Bool) : Nat → Nat
  | 0 => 0
  | k + 1 => ctB P k + (if P k then 1 else 0)
theorem alB_iff {P : Nat → Bool} {k : Nat} : alB P k = true ↔ ∀ j, j < k → P j = true := by
  induction k with
  | zero => simp [alB]
  | succ k ih =>
    rw [alB, Bool.and_eq_true, ih]
    constructor
    · intro ⟨h1, h2⟩ j hj
      rcases Nat.lt_or_eq_of_le (Nat.le_of_lt_succ hj) with h | h
      · exact h1 j h
      · rw [h]; exact h2
    · intro h
      exact ⟨fun j hj => h j (by omega), h k (by omega)⟩
theorem alB_false {P : Nat → Bool} {k n : Nat} (h : alB P k = false) (hk : k ≤ n) : alB P n = false := by
  cases h' : alB P n with
  | false => rfl
  | true => rw [alB_iff] at h'; rw [← Bool.not_eq_true, alB_iff] at h; exact absurd (fun j hj => h' j (by omega)) h
theorem ctB_le (P : Nat → Bool) (k : Nat) : ctB P k ≤ k := by
  induction k with
  | zero => exact Nat.le_refl _
  | succ k ih => rw [ctB]; split <;> omega
theorem alB_congr {P R : Nat → Bool} {k : Nat} (h : ∀ j, j < k → P j = R j) : alB P k = alB R k := by
  induction k with
  | zero => rfl
  | succ k ih => rw [alB, alB, ih (fun j hj => h j (by omega)), h k (by omega)]
theorem ctB_congr {P R : Nat → Bool} {k : Nat} (h : ∀ j, j < k → P j = R j) : ctB P k = ctB R k := by
  induction k with
  | zero => rfl
  | succ k ih => rw [ctB, ctB, ih (fun j hj => h j (by omega)), h k (by omega)]
/-- feature g is in the set x of n features (the reference's order of bits: the last feature is bit 0) -/
def tb (n x g : Nat) : Bool := x.testBit (n - g)
def hld (n x : Nat) (t : Lit) : Bool := if t.2 then tb n x t.1 else !tb n x t.1
def isF (x m : Int32) : Bool := decide (¬ x < 1) && decide (¬ m < x)
theorem isF_iff {x : Int32} {n : Nat} (hn : n ≤ 14) : isF x (nI n) = true ↔ ∃ g, 1 ≤ g ∧ g ≤ n ∧ x = nI g := by
  unfold isF
  rw [Bool.and_eq_true, decide_eq_true_eq, decide_eq_true_eq]
  constructor
  · intro ⟨h1, h2⟩
    obtain ⟨j, hj, rfl⟩ := nI_of (x := x) (by
      intro h
      apply h1
      rw [Int32.lt_iff_toInt_lt] at h ⊢
      exact Int.lt_trans h (by decide))
    refine ⟨j, ?_, ?_, rfl⟩
    · rcases Nat.lt_or_ge j 1 with h | h
      · exact absurd (show nI j < nI 1 from nI_lt h (by decide)) h1
      · exact h
    · rcases Nat.lt_or_ge n j with h | h
      · exact absurd (nI_lt h hj) h2
      · exact h
  · rintro ⟨g, h1, h2, rfl⟩
    exact ⟨nI_nlt (b := 1) h1 (by omega), nI_nlt h2 (by omega)⟩
/-- a number that tells a feature, or that it is not there -/
def isL (x m : Int32) : Bool := isF x m || (decide (x < 0) && decide (¬ x < -14) && isF (-x) m)
theorem isL_iff {x : Int32} {n : Nat} (hn : n ≤ 14) : isL x (nI n) = true ↔ ∃ t : Lit, 1 ≤ t.1 ∧ t.1 ≤ n ∧ x = litI t := by
  unfold isL
  rw [Bool.or_eq_true, Bool.and_eq_true, Bool.and_eq_true, isF_iff hn, isF_iff hn, decide_eq_true_eq, decide_eq_true_eq]
  constructor
  · rintro (⟨g, h1, h2, rfl⟩ | ⟨⟨h1, h2⟩, g, h3, h4, h5⟩)
    · exact ⟨(g, true), h1, h2, rfl⟩
    · exact ⟨(g, false), h3, h4, by rw [litI]; simp; rw [← h5, neg_neg_i]⟩
  · rintro ⟨⟨g, sg⟩, h1, h2, rfl⟩
    cases sg with
    | true => exact Or.inl ⟨g, h1, h2, rfl⟩
    | false =>
      refine Or.inr ⟨⟨nI_neg_lt h1 (by simp at h2; omega), ?_⟩, g, h1, h2, neg_neg_i _⟩
      simp only [litI] at *
      intro h
      rw [Int32.lt_iff_toInt_lt] at h
      have h9 : g < 2 ^ 31 := by have : g ≤ n := h2; omega
      have : (-(nI g)).toInt = -(g : Int) := sb_negT h9
      simp [this] at h
      have e : (-14 : Int32).toInt = -14 := by decide
      omega
theorem nI_inj {a b : Nat} (ha : a < 2 ^ 31) (hb : b < 2 ^ 31) (h : nI a = nI b) : a = b := (nI_eq ha hb).mp h
theorem nI_gt {a b : Nat} (h : nI b < nI a) (ha : a < 2 ^ 31 := by omega) (hb : b < 2 ^ 31 := by omega) : b < a := (nI_ltI hb ha).mp h
theorem nI_ngt {a b : Nat} (h : ¬ nI b < nI a) (ha : a < 2 ^ 31 := by omega) (hb : b < 2 ^ 31 := by omega) : a ≤ b := by
  rcases Nat.lt_or_ge b a with q | q
  · exact absurd ((nI_ltI hb ha).mpr q) h
  · exact q
theorem nI_ge' {a b : Nat} (h : nI b ≤ nI a) (ha : a < 2 ^ 31 := by omega) (hb : b < 2 ^ 31 := by omega) : b ≤ a := (nI_leI hb ha).mp h
theorem nI_nge {a b : Nat} (h : ¬ nI b ≤ nI a) (ha : a < 2 ^ 31 := by omega) (hb : b < 2 ^ 31 := by omega) : a < b := by
  rcases Nat.lt_or_ge a b with q | q
  · exact q
  · exact absurd ((nI_leI hb ha).mpr q) h
theorem nI_e {a b : Nat} (h : nI a = nI b) (ha : a < 2 ^ 31 := by omega) (hb : b < 2 ^ 31 := by omega) : a = b := (nI_eq ha hb).mp h
theorem nI_ne {a b : Nat} (h : ¬ nI a = nI b) : a ≠ b := fun e => h (by rw [e])
