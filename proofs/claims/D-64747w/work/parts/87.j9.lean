theorem gnL_snoc {S : St} {B : Nat → Nat → Bool} (t : Lit) : ∀ (ts : List Lit) (g : Nat), gnL S B (ts ++ [t]) g = if noS (sN S) B (gvN S true (gnL S B ts g ||| 2 ^ (t.1 - 1))) (gvN S false (gnL S B ts g ||| 2 ^ (t.1 - 1))) then gnL S B ts g ||| 2 ^ (t.1 - 1) else gnL S B ts g := by
  intro ts
  induction ts with
  | nil => intro g; rfl
  | cons u ts ih => intro g; exact ih _
theorem ch_inj {S : St} (hW : WS S) {i j : Nat} (hi : i < (sCh S).length) (hj : j < (sCh S).length) : ((sCh S).getD i (0, true)).1 - 1 = ((sCh S).getD j (0, true)).1 - 1 ↔ i = j := by
  have hnd := hW.2.2.2.2.2.2.2.2.1
  have hch := hW.2.2.2.2.2.2.2.1
  have e : ∀ k (hk : k < (sCh S).length), (sCh S).getD k (0, true) = (sCh S)[k] := fun k hk => by rw [List.getD_eq_getElem?_getD, List.getElem?_eq_getElem hk]; rfl
  rw [e i hi, e j hj]
  have b1 := (hch _ (List.getElem_mem hi)).1
  have b2 := (hch _ (List.getElem_mem hj)).1
  constructor
  · intro h
    have hp := List.pairwise_iff_getElem.mp hnd
    rcases Nat.lt_trichotomy i j with h' | h' | h'
    · exact absurd (by rw [List.getElem_map, List.getElem_map]; omega) (hp i j (by rw [List.length_map]; exact hi) (by rw [List.length_map]; exact hj) h')
    · exact h'
    · exact absurd (by rw [List.getElem_map, List.getElem_map]; omega) (hp j i (by rw [List.length_map]; exact hj) (by rw [List.length_map]; exact hi) h')
  · rintro rfl; rfl
theorem gn_msk {S : St} (hW : WS S) {av : Nat → Nat → Int32} (hv : avOk S av) {rs : List (Nat × Rl)} (hr : rs.map (·.2) = ruS S) : ∀ k, k ≤ (sCh S).length → mskOk S (gnL S (brS av rs) ((sCh S).take k) 0) (gnN S k) := by
  intro k
  induction k with
  | zero => intro _; exact msk0 S
  | succ k ih =>
    intro hk
    have h0 := ih (by omega)
    have et : (sCh S).take (k + 1) = (sCh S).take k ++ [(sCh S).getD k (0, true)] := by
      rw [List.take_succ, List.getElem?_eq_getElem (by omega), List.getD_eq_getElem?_getD, List.getElem?_eq_getElem (by omega)]; rfl
    have h1 : mskOk S (gnL S (brS av rs) ((sCh S).take k) 0 ||| 2 ^ (((sCh S).getD k (0, true)).1 - 1)) (gnN S k ||| 2 ^ k) := by
      intro j hj
      rw [Nat.testBit_or, Nat.testBit_or, Nat.testBit_two_pow, Nat.testBit_two_pow, h0 j hj]
      congr 1
      exact decide_eq_decide.mpr (ch_inj hW (by omega) hj).symm
    rw [et, gnL_snoc, gnN, no_fs hW hv hr h1]
    cases (fsA S (gnN S k ||| 2 ^ k)).isNone with
    | true => exact h1
    | false => exact h0
