/-! the rules on total choices say what the reference's checks say -/
theorem brS_ru {av : Nat → Nat → Int32} {rs : List (Nat × Rl)} {L : List Rl} (h : rs.map (·.2) = L) (i o : Nat) : brS av rs i o = L.any (fun r => brk av r i o) := by
  unfold brS
  rw [← h, List.any_map]
  rfl
theorem tr_any {av : Nat → Nat → Int32} {n x : Nat} {pa ki : Nat → Nat} (hpa : ∀ j, 2 ≤ j → j ≤ n → 1 ≤ pa j ∧ pa j ≤ n) : ∀ m, m ≤ n → (trR pa ki m).any (fun r => brk av r x ((2 ^ n - 1) ^^^ x)) = !alB (trP n pa ki (rvN n x)) (m + 1) := by
  intro m
  induction m with
  | zero => intro _; rfl
  | succ m ih =>
    intro hm
    rw [trR, List.any_append, ih (by omega)]
    show _ = !(alB (trP n pa ki (rvN n x)) (m + 1) && trP n pa ki (rvN n x) (m + 1))
    rw [Bool.not_and]
    congr 1
    unfold trP
    by_cases h1 : 1 ≤ m
    · obtain ⟨p1, p2⟩ := hpa (m + 1) (by omega) hm
      rw [if_pos h1, List.any_cons, brk_E (by show 1 ≤ m + 1; omega) hm p1 p2, decide_eq_false (show ¬ m + 1 < 2 by omega), Bool.false_or]
      by_cases hk : ki (m + 1) = 0
      · rw [if_pos hk, List.any_cons, List.any_nil, brk_E p1 p2 (by show 1 ≤ m + 1; omega) hm, decide_eq_true hk]
        simp only [hld, if_true, Bool.false_eq_true, if_false]
        cases tb n (rvN n x) (pa (m + 1)) <;> cases tb n (rvN n x) (m + 1) <;> rfl
      · rw [if_neg hk, List.any_nil, decide_eq_false hk]
        simp only [hld, if_true, Bool.false_eq_true, if_false]
        cases tb n (rvN n x) (pa (m + 1)) <;> cases tb n (rvN n x) (m + 1) <;> rfl
    · rw [if_neg h1, decide_eq_true (show m + 1 < 2 by omega)]
      rfl
theorem hld_ng (n X : Nat) (t : Lit) : hld n X (ng t) = !hld n X t := by
  unfold hld ng
  cases t.2 <;> simp
theorem fo_any {av : Nat → Nat → Int32} {x : Nat} {S : St} (hW : WS S) : ∀ m, m ≤ sNf S → (foRs S m).any (fun r => brk av r x ((2 ^ sN S - 1) ^^^ x)) = !alB (fun k => foP (sN S) (rvN (sN S) x) (sFo S k)) m := by
  intro m
  induction m with
  | zero => intro _; rfl
  | succ m ih =>
    intro hm
    rw [foRs, List.any_append, ih (by omega)]
    show _ = !(alB (fun k => foP (sN S) (rvN (sN S) x) (sFo S k)) m && foP (sN S) (rvN (sN S) x) (sFo S m))
    rw [Bool.not_and]
    congr 1
    obtain ⟨-, q1, q2, q3, q4⟩ := hW.2.2.2.2.1 m (by omega)
    generalize sFo S m = q at *
    obtain ⟨op, t, u⟩ := q
    unfold foR1 foP
    have n1 : 1 ≤ (ng t).1 := q1
    have n2 : (ng t).1 ≤ sN S := q2
    have n3 : 1 ≤ (ng u).1 := q3
    have n4 : (ng u).1 ≤ sN S := q4
    by_cases h0 : op = 0
    · rw [if_pos h0, if_pos h0, List.any_cons, List.any_nil, brk_E n1 n2 q3 q4, hld_ng, Bool.or_false]
    · rw [if_neg h0, if_neg h0]
      by_cases h1 : op = 1
      · rw [if_pos h1, if_pos h1, List.any_cons, List.any_nil, brk_E n1 n2 n3 n4, hld_ng, hld_ng, Bool.or_false]
      · rw [if_neg h1, if_neg h1]
        by_cases h2 : op = 2
        · rw [if_pos h2, if_pos h2, List.any_cons, List.any_nil, brk_E q1 q2 q3 q4, Bool.or_false]
        · rw [if_neg h2, if_neg h2, List.any_cons, List.any_cons, List.any_nil, brk_E n1 n2 q3 q4, brk_E q1 q2 n3 n4, hld_ng, hld_ng]
          show _ = !(hld (sN S) (rvN (sN S) x) t == hld (sN S) (rvN (sN S) x) u)
          cases hld (sN S) (rvN (sN S) x) t <;> cases hld (sN S) (rvN (sN S) x) u <;> rfl
theorem pc_and {n x : Nat} {pa ki : Nat → Nat} {g : Nat} (hn : n ≤ 14) : pcN (x &&& gmN pa ki g (n + 1)) = ctB (gcP n pa ki (rvN n x) g) (n + 1) := by
  rw [ctB_sh]
  show ctB _ 14 = 0 + _
  rw [Nat.zero_add, ← ctB_cut 14 hn]
  refine ctB_congr (fun j _ => ?_)
  rw [Nat.testBit_and, gmN_tb]
  by_cases h : j < n
  · rw [decide_eq_true h, decide_eq_true (show j + 1 < n + 1 by omega), Bool.true_and, Bool.true_and]
    show _ = (gbP pa ki g (j + 1) && tb n (rvN n x) (j + 1))
    rw [tb_rv (by omega) (by omega), Nat.add_sub_cancel, Bool.and_comm]
  · rw [decide_eq_false h, decide_eq_false (show ¬ j + 1 < n + 1 by omega), Bool.false_and, Bool.and_false, Bool.false_and]
theorem cp_and {n x mk : Nat} (hn : n ≤ 14) (hmk : mk < 2 ^ n) : mk &&& (16383 ^^^ ((2 ^ n - 1) ^^^ x)) = x &&& mk := by
  apply Nat.eq_of_testBit_eq
  intro j
  rw [Nat.testBit_and, Nat.testBit_and, Nat.testBit_xor, cp_tb]
  by_cases h : j < n
  · rw [tb_ones j (by omega), decide_eq_true h, Bool.true_xor, Bool.true_xor, Bool.not_not, Bool.and_comm]
  · rw [tb_no hmk (by omega), Bool.false_and, Bool.and_false]
theorem cn_any {av : Nat → Nat → Int32} {n x : Nat} {pa ki : Nat → Nat} {gr : Nat → Option (Nat × Nat)} (hn : n ≤ 14) : ∀ m, m ≤ n → (cnR pa ki gr n m).any (fun r => brk av r x ((2 ^ n - 1) ^^^ x)) = !alB (grP n pa ki gr (rvN n x)) (m + 1) := by
  intro m
  induction m with
  | zero => intro _; rfl
  | succ m ih =>
    intro hm
    rw [cnR, List.any_append, ih (by omega)]
    show _ = !(alB (grP n pa ki gr (rvN n x)) (m + 1) && grP n pa ki gr (rvN n x) (m + 1))
    rw [Bool.not_and]
    congr 1
    unfold grP cnR1
    rw [decide_eq_false (show ¬ m + 1 < 1 by omega), Bool.false_or]
    cases hg : gr (m + 1) with
    | none => rfl
    | some z =>
      show (brk av (rC (m + 1) (gmN pa ki (m + 1) (n + 1)) z.1 z.2) x _ || false) = !(!tb n (rvN n x) (m + 1) || (decide (z.1 ≤ ctB (gcP n pa ki (rvN n x) (m + 1)) (n + 1)) && decide (ctB (gcP n pa ki (rvN n x) (m + 1)) (n + 1) ≤ z.2)))
      rw [Bool.or_false]
      show (x.testBit (m + 1 - 1) && (decide (z.2 < pcN (x &&& gmN pa ki (m + 1) (n + 1))) || decide (pcN (gmN pa ki (m + 1) (n + 1) &&& (16383 ^^^ ((2 ^ n - 1) ^^^ x))) < z.1))) = _
      rw [cp_and hn (gmN_lt _ _ _ _), pc_and hn, tb_rv (by omega) hm]
      generalize ctB (gcP n pa ki (rvN n x) (m + 1)) (n + 1) = c
      cases x.testBit (m + 1 - 1) with
      | false => rfl
      | true =>
        by_cases h1 : z.2 < c
        · rw [decide_eq_true h1, decide_eq_false (show ¬ c ≤ z.2 by omega)]; simp
        · by_cases h2 : c < z.1
          · rw [decide_eq_true h2, decide_eq_false (show ¬ z.1 ≤ c by omega)]; simp
          · rw [decide_eq_false h1, decide_eq_false h2, decide_eq_true (show z.1 ≤ c by omega), decide_eq_true (show c ≤ z.2 by omega)]; rfl
