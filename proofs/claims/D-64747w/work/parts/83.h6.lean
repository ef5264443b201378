theorem fcG_cg {A A' N N' : Nat → Bool} {f : Nat} : ∀ (k g : Nat) (x : Int32), (∀ j, g ≤ j → j < g + k → A j = A' j ∧ N j = N' j) → fcG A N f k g x = fcG A' N' f k g x := by
  intro k
  induction k with
  | zero => intro g x _; rfl
  | succ k ih =>
    intro g x h
    obtain ⟨e1, e2⟩ := h g (Nat.le_refl _) (by omega)
    have ih1 := fun y => ih (g + 1) y (fun j h1 h2 => h j (by omega) (by omega))
    rw [fcG, fcG, e1, e2, ih1, ih1]
theorem fcG_0 {A N : Nat → Bool} {f : Nat} : ∀ (k g : Nat) (x : Int32), (∀ c, c < k → x ≠ nI c) → fcG A N f k g x = 0 := by
  intro k
  induction k with
  | zero => intro g x _; rfl
  | succ k ih =>
    intro g x h
    rw [fcG]
    have h0 : ¬ x = 0 := h 0 (by omega)
    have h1 : fcG A N f k (g + 1) (x - 1) = 0 := ih _ _ (fun c hc e => h (c + 1) (by omega) (by rw [← nI_1 c, ← e, Int32.sub_add_cancel]))
    have h2 : fcG A N f k (g + 1) x = 0 := ih _ _ (fun c hc => h c (by omega))
    rw [if_neg h0, h1, h2, ite_self]
theorem st_forces {S : St} (hW : WS S) {av : Nat → Nat → Int32} (hv : avOk S av) {rs : List (Nat × Rl)} (hr : rs.map (·.2) = ruS S) {f : Nat} (hf1 : 1 ≤ f) (hf2 : f ≤ sN S) (ix : Int32) : (if noS (sN S) (brS av rs) (gvN S true 0 ||| 2 ^ (f - 1)) (gvN S false 0) = true then 0 else fcG (fzA (sN S) (brS av rs) (gvN S true 0 ||| 2 ^ (f - 1)) (gvN S false 0)) (fzN (sN S) (brS av rs) (gvN S true 0 ||| 2 ^ (f - 1)) (gvN S false 0)) f (sN S) 1 ix) = stForces S (nI f) ix := by
  have hn := hW.1
  unfold stForces
  rw [(isF_iff hn).mpr ⟨f, hf1, hf2, rfl⟩, if_neg (show ¬ (!true) = true by decide), iN_nI (show f < 2 ^ 31 by omega), fz_0 hW hv hr hf1 hf2]
  cases hc : alB (fun x => !okF S f x) (2 ^ sN S) with
  | true => rw [if_pos rfl, if_pos (by rfl)]
  | false =>
    rw [if_neg (by decide), Bool.false_or]
    by_cases hi : ix < 0
    · rw [if_pos (by rw [decide_eq_true hi])]
      exact fcG_0 _ _ _ (fun c hc e => by rw [e] at hi; exact absurd hi (nI_pos (by omega)))
    · rw [if_neg (by rw [decide_eq_false hi]; decide)]
      exact fcG_cg _ _ _ (fun j h1 h2 => ⟨fz_A hW hv hr hf1 hf2 h1 (by omega), fz_N hW hv hr hf1 hf2 h1 (by omega)⟩)
