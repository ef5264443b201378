theorem su_in {v : Nat → Int32} {n x j : Nat} (h1 : 1 ≤ j) (h2 : j ≤ n) : suB v x ((2 ^ n - 1) ^^^ x) j = x.testBit (j - 1) := by
  unfold suB
  rw [decide_eq_true h1, Bool.true_and, cp_tb, decide_eq_true (show j - 1 < n by omega), Bool.true_xor, Bool.not_not]
  cases x.testBit (j - 1) <;> rfl
theorem su_no {v : Nat → Int32} {n x j : Nat} (hx : x < 2 ^ n) (h2 : n < j) (hv : v j = 0) : suB v x ((2 ^ n - 1) ^^^ x) j = false := by
  unfold suB
  rw [cp_tb, tb_no hx (show n ≤ j - 1 by omega), hv]
  simp
theorem su_sm {S : St} (hW : WS S) {av : Nat → Nat → Int32} (hv : avOk S av) {k x : Nat} (hk : k < 4) (hx : x < 2 ^ sN S) : suI (av k) x ((2 ^ sN S - 1) ^^^ x) 15 = smI (sN S) (sAt S k) (rvN (sN S) x) (sN S + 1) := by
  have hn := hW.1
  have lo : ∀ j, j ≤ sN S + 1 → suI (av k) x ((2 ^ sN S - 1) ^^^ x) j = smI (sN S) (sAt S k) (rvN (sN S) x) j := by
    intro j
    induction j with
    | zero => intro _; rfl
    | succ j ih =>
      intro hj
      rw [suI, smI, ih (by omega)]
      by_cases h0 : 1 ≤ j
      · rw [su_in h0 (by omega), tb_rv h0 (by omega), decide_eq_true h0, Bool.true_and, hv k j hk h0 (by omega)]
      · have e1 : suB (av k) x ((2 ^ sN S - 1) ^^^ x) j = false := by unfold suB; rw [decide_eq_false h0, Bool.false_and]
        rw [e1, decide_eq_false h0, Bool.false_and]; rfl
  have up : ∀ d, sN S + 1 + d ≤ 15 → suI (av k) x ((2 ^ sN S - 1) ^^^ x) (sN S + 1 + d) = suI (av k) x ((2 ^ sN S - 1) ^^^ x) (sN S + 1) := by
    intro d
    induction d with
    | zero => intro _; rfl
    | succ d ih =>
      intro hd
      show (if suB (av k) x ((2 ^ sN S - 1) ^^^ x) (sN S + 1 + d) then _ else suI (av k) x ((2 ^ sN S - 1) ^^^ x) (sN S + 1 + d)) = _
      rw [su_no hx (by omega) (by rw [hv k _ hk (by omega) (by omega)]; exact (hW.2.2.2.2.2.1 k _).2.2 (Or.inr (by omega))), if_neg (by decide)]
      exact ih (by omega)
  have := up (14 - sN S) (by omega)
  rw [show sN S + 1 + (14 - sN S) = 15 by omega] at this
  rw [this]
  exact lo _ (Nat.le_refl _)
theorem sm_any {S : St} (hW : WS S) {av : Nat → Nat → Int32} (hv : avOk S av) {x : Nat} (hx : x < 2 ^ sN S) : ∀ m, m ≤ 4 → (smR (sLm S) m).any (fun r => brk av r x ((2 ^ sN S - 1) ^^^ x)) = !alB (liP (sN S) (sAt S) (sLm S) (rvN (sN S) x)) m := by
  intro m
  induction m with
  | zero => intro _; rfl
  | succ m ih =>
    intro hm
    rw [smR, List.any_append, ih (by omega)]
    show _ = !(alB (liP (sN S) (sAt S) (sLm S) (rvN (sN S) x)) m && liP (sN S) (sAt S) (sLm S) (rvN (sN S) x) m)
    rw [Bool.not_and]
    congr 1
    unfold liP smR1
    cases hl : sLm S m with
    | none => rfl
    | some v =>
      show (decide (v < suI (av m) x ((2 ^ sN S - 1) ^^^ x) 15) || false) = !decide (smI (sN S) (sAt S m) (rvN (sN S) x) (sN S + 1) ≤ v)
      rw [su_sm hW hv (by omega) hx, Bool.or_false]
      by_cases h : v < smI (sN S) (sAt S m) (rvN (sN S) x) (sN S + 1)
      · rw [decide_eq_true h, decide_eq_false (Int32.not_le.mpr h)]; rfl
      · rw [decide_eq_false h, decide_eq_true (Int32.not_lt.mp h)]; rfl
/-- the checks on a total choice -/
theorem ok_br {S : St} (hW : WS S) {av : Nat → Nat → Int32} (hv : avOk S av) {rs : List (Nat × Rl)} (hr : rs.map (·.2) = ruS S) {x : Nat} (hx : x < 2 ^ sN S) : okS S (rvN (sN S) x) = ((decide (sN S = 0) || x.testBit 0) && !brS av rs x ((2 ^ sN S - 1) ^^^ x)) := by
  have hn := hW.1
  rw [brS_ru hr]
  unfold ruS
  rw [List.any_append, List.any_append, List.any_append, tr_any (fun j h1 h2 => by have := hW.2.1 j (by omega) h2; exact ⟨this.2.1 (by omega), by omega⟩) _ (Nat.le_refl _), cn_any hn _ (Nat.le_refl _), fo_any hW _ (Nat.le_refl _), sm_any hW hv hx 4 (Nat.le_refl _)]
  unfold okS okTree tr2 tr1 okForm okLim
  have e : (decide (sN S = 0) || tb (sN S) (rvN (sN S) x) 1) = (decide (sN S = 0) || x.testBit 0) := by
    by_cases h0 : sN S = 0
    · rw [decide_eq_true h0]; rfl
    · rw [tb_rv (by omega) (by omega)]
  rw [e]
  cases (decide (sN S = 0) || x.testBit 0) <;> cases alB (trP (sN S) (sPa S) (sKi S) (rvN (sN S) x)) (sN S + 1) <;> cases alB (grP (sN S) (sPa S) (sKi S) (sGr S) (rvN (sN S) x)) (sN S + 1) <;> cases alB (fun k => foP (sN S) (rvN (sN S) x) (sFo S k)) (sNf S) <;> cases alB (liP (sN S) (sAt S) (sLm S) (rvN (sN S) x)) 4 <;> rfl
