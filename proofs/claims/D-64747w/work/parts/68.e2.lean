/-! the rules are monotone: what is broken stays broken when more is decided -/
theorem i_add {x y : Int32} (h1 : -2147483648 ≤ x.toInt + y.toInt) (h2 : x.toInt + y.toInt < 2147483648) : (x + y).toInt = x.toInt + y.toInt := by
  rw [Int32.toInt_add]
  exact Int.bmod_eq_of_le (by simpa using h1) (by simpa using h2)
def suZ (v : Nat → Int32) (i o : Nat) : Nat → Int
  | 0 => 0
  | k + 1 => suZ v i o k + (if suB v i o k then (v k).toInt else 0)
theorem suI_Z {v : Nat → Int32} {i o : Nat} (hv : ∀ j, 1 ≤ j → j ≤ 14 → (v j).toInt ≤ 1000 ∧ -1000 ≤ (v j).toInt) : ∀ k, k ≤ 15 → (suI v i o k).toInt = suZ v i o k ∧ suZ v i o k ≤ 1000 * k ∧ -(1000 * k) ≤ suZ v i o k := by
  intro k
  induction k with
  | zero => intro _; exact ⟨rfl, by simp [suZ], by simp [suZ]⟩
  | succ k ih =>
    intro hk
    obtain ⟨h1, h2, h3⟩ := ih (by omega)
    show (if suB v i o k then suI v i o k + v k else suI v i o k).toInt = suZ v i o k + (if suB v i o k then (v k).toInt else 0) ∧ suZ v i o k + (if suB v i o k then (v k).toInt else 0) ≤ 1000 * ((k + 1 : Nat) : Int) ∧ -(1000 * ((k + 1 : Nat) : Int)) ≤ suZ v i o k + (if suB v i o k then (v k).toInt else 0)
    by_cases hb : suB v i o k = true
    · rw [if_pos hb, if_pos hb]
      have h0 : 1 ≤ k := by
        unfold suB at hb
        rw [Bool.and_eq_true, decide_eq_true_eq] at hb
        exact hb.1
      obtain ⟨g1, g2⟩ := hv k h0 (by omega)
      refine ⟨?_, by omega, by omega⟩
      rw [i_add (by omega) (by omega), h1]
    · rw [if_neg hb, if_neg hb]
      exact ⟨by omega, by omega, by omega⟩
theorem suZ_mono {v : Nat → Int32} {i o i' o' : Nat} (hi : ∀ k, i.testBit k = true → i'.testBit k = true) (ho : ∀ k, o.testBit k = true → o'.testBit k = true) (hd : ∀ k, i'.testBit k = true → o'.testBit k = false) : ∀ k, suZ v i o k ≤ suZ v i' o' k := by
  intro k
  induction k with
  | zero => exact Int.le_refl _
  | succ k ih =>
    show suZ v i o k + (if suB v i o k then (v k).toInt else 0) ≤ suZ v i' o' k + (if suB v i' o' k then (v k).toInt else 0)
    have ht : (if suB v i o k then (v k).toInt else 0) ≤ (if suB v i' o' k then (v k).toInt else 0) := by
      by_cases h0 : 1 ≤ k
      · have hn : v k < 0 ↔ (v k).toInt < 0 := by rw [Int32.lt_iff_toInt_lt]; rfl
        unfold suB
        rw [decide_eq_true h0, Bool.true_and, Bool.true_and]
        have q1 := hi (k - 1)
        have q2 := ho (k - 1)
        have q3 := hd (k - 1)
        by_cases hv : v k < 0
        · have hv' := hn.mp hv
          rw [decide_eq_true hv, Bool.and_true, Bool.and_true]
          cases a1 : i.testBit (k - 1) <;> cases a2 : o.testBit (k - 1) <;> cases a3 : i'.testBit (k - 1) <;> cases a4 : o'.testBit (k - 1) <;> simp [a1, a2, a3, a4] at q1 q2 q3 ⊢ <;> omega
        · have hv' : 0 ≤ (v k).toInt := Int.not_lt.mp (fun h => hv (hn.mpr h))
          rw [decide_eq_false hv, Bool.and_false, Bool.and_false]
          cases a1 : i.testBit (k - 1) <;> cases a3 : i'.testBit (k - 1) <;> simp [a1, a3] at q1 ⊢ <;> omega
      · unfold suB
        rw [decide_eq_false h0, Bool.false_and, Bool.false_and]
        exact Int.le_refl _
    omega
theorem ctB_mono {P R : Nat → Bool} {m : Nat} (h : ∀ k, k < m → P k = true → R k = true) : ctB P m ≤ ctB R m := by
  induction m with
  | zero => exact Nat.le_refl _
  | succ m ih =>
    have ih := ih (fun k hk => h k (by omega))
    show ctB P m + (if P m then 1 else 0) ≤ ctB R m + (if R m then 1 else 0)
    by_cases hp : P m = true
    · rw [if_pos hp, if_pos (h m (by omega) hp)]; omega
    · rw [if_neg hp]; omega
theorem ag_mono {t : Lit} {i o i' o' : Nat} (hi : ∀ k, i.testBit k = true → i'.testBit k = true) (ho : ∀ k, o.testBit k = true → o'.testBit k = true) (h : ag t i o = true) : ag t i' o' = true := by
  unfold ag at *
  cases ht : t.2 with
  | true => rw [ht] at h; exact ho _ h
  | false => rw [ht] at h; exact hi _ h
theorem brk_mono {av : Nat → Nat → Int32} {r : Rl} (hv : ∀ k j, k < 4 → 1 ≤ j → j ≤ 14 → (av k j).toInt ≤ 1000 ∧ -1000 ≤ (av k j).toInt) (hr : rlOk r) {i o i' o' : Nat} (hi : ∀ k, i.testBit k = true → i'.testBit k = true) (ho : ∀ k, o.testBit k = true → o'.testBit k = true) (hd : ∀ k, i'.testBit k = true → o'.testBit k = false) (h : brk av r i o = true) : brk av r i' o' = true := by
  unfold brk at *
  rcases hr with ⟨h0, -⟩ | ⟨h0, -⟩ | ⟨h0, hk⟩
  · rw [if_pos h0] at h ⊢
    rw [Bool.and_eq_true] at h ⊢
    exact ⟨ag_mono hi ho h.1, ag_mono hi ho h.2⟩
  · rw [if_neg (by omega), if_pos h0] at h ⊢
    rw [Bool.and_eq_true, Bool.or_eq_true, decide_eq_true_eq, decide_eq_true_eq] at h ⊢
    refine ⟨hi _ h.1, ?_⟩
    rcases h.2 with h2 | h2
    · left
      refine Nat.lt_of_lt_of_le h2 (ctB_mono (fun k _ hk => ?_))
      rw [Nat.testBit_and, Bool.and_eq_true] at hk ⊢
      exact ⟨hi k hk.1, hk.2⟩
    · right
      refine Nat.lt_of_le_of_lt (ctB_mono (fun k hk4 hk => ?_)) h2
      rw [Nat.testBit_and, Nat.testBit_xor, tb_ones k hk4, Bool.and_eq_true] at hk ⊢
      refine ⟨hk.1, ?_⟩
      cases h3 : o.testBit k with
      | false => rfl
      | true =>
        have h4 := hk.2
        rw [ho k h3] at h4
        cases h4
  · rw [if_neg (by omega), if_neg (by omega)] at h ⊢
    rw [decide_eq_true_eq, Int32.lt_iff_toInt_lt] at h ⊢
    rw [(suI_Z (v := av r.2.2.2.2) (fun j h1 h2 => hv _ j hk h1 h2) 15 (Nat.le_refl _)).1] at h ⊢
    have := suZ_mono (v := av r.2.2.2.2) hi ho hd 15
    omega
theorem Mono_rs {av : Nat → Nat → Int32} {rs : List (Nat × Rl)} (hv : ∀ k j, k < 4 → 1 ≤ j → j ≤ 14 → (av k j).toInt ≤ 1000 ∧ -1000 ≤ (av k j).toInt) (hr : ∀ z ∈ rs, rlOk z.2) : Mono (brS av rs) := by
  intro i o i' o' hi ho hd _ _ h
  unfold brS at *
  rw [List.any_eq_true] at h ⊢
  obtain ⟨x, hx, h⟩ := h
  exact ⟨x, hx, brk_mono hv (hr x hx) hi ho hd h⟩
theorem Rdy.mono {G : Gt} {a : Nat → Nat} {S : St} {ra : Nat → Nat} {av : Nat → Nat → Int32} {rs : List (Nat × Rl)} {wl wr : va_W} (h : Rdy G a S ra av rs wl wr) (hW : WS S) : Mono (brS av rs) := by
  refine Mono_rs (fun k j h1 h2 h3 => ?_) h.2.1
  rw [h.2.2.2.2.1 k j h1 h2 h3]
  exact ⟨(hW.2.2.2.2.2.1 k j).1, (hW.2.2.2.2.2.1 k j).2.1⟩
/-- what a search needs of the masks -/
theorem pcN_14 (m : Nat) : pcN m < 15 := Nat.lt_succ_of_le (ctB_le _ 14)
theorem opc_15 (n i o : Nat) : opc n i o < 15 := pcN_14 _
theorem gvL_lt {on : Bool} {wv n : Nat} : ∀ (ts : List Lit) (acc : Nat), (∀ t ∈ ts, 1 ≤ t.1 ∧ t.1 ≤ n) → acc < 2 ^ n → gvL on wv ts acc < 2 ^ n := by
  intro ts
  induction ts with
  | nil => intro acc _ h; exact h
  | cons t ts ih =>
    intro acc ht h
    refine ih _ (fun x hx => ht x (List.mem_cons_of_mem _ hx)) ?_
    obtain ⟨h1, h2⟩ := ht t List.mem_cons_self
    split
    · exact Nat.or_lt_two_pow h (Nat.pow_lt_pow_right (by decide) (by omega))
    · exact h
theorem gv0_n (on : Bool) (n : Nat) : gv0 on n < 2 ^ n := by
  unfold gv0
  split
  · rename_i h
    rw [Bool.and_eq_true, decide_eq_true_eq] at h
    exact Nat.one_lt_two_pow (by omega)
  · exact Nat.two_pow_pos n
/-- the mask of the choices that hold as `on` says, without those in wv -/
def gvN (S : St) (on : Bool) (wv : Nat) : Nat := gvL on wv (sCh S) (gv0 on (sN S))
theorem gvN_lt {S : St} (hW : WS S) (on : Bool) (wv : Nat) : gvN S on wv < 2 ^ sN S := gvL_lt _ _ hW.2.2.2.2.2.2.2.1 (gv0_n _ _)
