theorem whF_snoc {gn : Nat} (t : Lit) : ∀ ts : List Lit, whF gn (ts ++ [t]) = whF gn ts ++ (if gn.testBit (t.1 - 1) then [] else [litI t]) := by
  intro ts
  induction ts with
  | nil => show (if _ then _ else _) = _; split <;> simp [whF, *]
  | cons u ts ih =>
    show (if gn.testBit (u.1 - 1) then whF gn (ts ++ [t]) else litI u :: whF gn (ts ++ [t])) = (if gn.testBit (u.1 - 1) then whF gn ts else litI u :: whF gn ts) ++ _
    rw [ih]
    split <;> rfl
theorem wh_ok {S : St} {wv w : Nat} (hm : mskOk S wv w) : ∀ k, k ≤ (sCh S).length → (whL (sCh S) w k).map litI = whF wv ((sCh S).take k) := by
  intro k
  induction k with
  | zero => intro _; rfl
  | succ k ih =>
    intro hk
    have et : (sCh S).take (k + 1) = (sCh S).take k ++ [(sCh S).getD k (0, true)] := by
      rw [List.take_succ, List.getElem?_eq_getElem (by omega), List.getD_eq_getElem?_getD, List.getElem?_eq_getElem (by omega)]; rfl
    rw [et, whF_snoc, whL, hm k (by omega), ← ih (by omega)]
    split
    · rw [List.append_nil]
    · rw [List.map_append]; rfl
