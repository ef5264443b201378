/-! the state in plain words: S = (features, parents, kinds, groups, number of formulas, formulas, attributes, limits, choices, found, last, why) -/
abbrev St : Type := Nat × (Nat → Nat) × (Nat → Nat) × (Nat → Option (Nat × Nat)) × Nat × (Nat → Nat × Lit × Lit) × (Nat → Nat → Int32) × (Nat → Option Int32) × List Lit × List (Nat × Nat) × Option (Nat × Nat) × List Lit
abbrev sN (S : St) : Nat := S.1
abbrev sPa (S : St) : Nat → Nat := S.2.1
abbrev sKi (S : St) : Nat → Nat := S.2.2.1
abbrev sGr (S : St) : Nat → Option (Nat × Nat) := S.2.2.2.1
abbrev sNf (S : St) : Nat := S.2.2.2.2.1
abbrev sFo (S : St) : Nat → Nat × Lit × Lit := S.2.2.2.2.2.1
abbrev sAt (S : St) : Nat → Nat → Int32 := S.2.2.2.2.2.2.1
abbrev sLm (S : St) : Nat → Option Int32 := S.2.2.2.2.2.2.2.1
abbrev sCh (S : St) : List Lit := S.2.2.2.2.2.2.2.2.1
abbrev sFd (S : St) : List (Nat × Nat) := S.2.2.2.2.2.2.2.2.2.1
abbrev sVr (S : St) : Option (Nat × Nat) := S.2.2.2.2.2.2.2.2.2.2.1
abbrev sWy (S : St) : List Lit := S.2.2.2.2.2.2.2.2.2.2.2
/-- among the features 1..n those of kind 2 below g -/
def gbP (pa ki : Nat → Nat) (g k : Nat) : Bool := decide (1 ≤ k) && decide (pa k = g) && decide (ki k = 2)
def trP (n : Nat) (pa ki : Nat → Nat) (x f : Nat) : Bool := decide (f < 2) || ((tb n x (pa f) || !tb n x f) && (!decide (ki f = 0) || !tb n x (pa f) || tb n x f))
def gcP (n : Nat) (pa ki : Nat → Nat) (x f k : Nat) : Bool := gbP pa ki f k && tb n x k
def grP (n : Nat) (pa ki : Nat → Nat) (gr : Nat → Option (Nat × Nat)) (x f : Nat) : Bool := decide (f < 1) || (match gr f with
  | none => true
  | some q => !tb n x f || (decide (q.1 ≤ ctB (gcP n pa ki x f) (n + 1)) && decide (ctB (gcP n pa ki x f) (n + 1) ≤ q.2)))
def tr1 (n : Nat) (pa ki : Nat → Nat) (x j : Nat) : Bool := (decide (n = 0) || tb n x 1) && alB (trP n pa ki x) j
def tr2 (n : Nat) (pa ki : Nat → Nat) (gr : Nat → Option (Nat × Nat)) (x j : Nat) : Bool := tr1 n pa ki x (n + 1) && alB (grP n pa ki gr x) j
def okTree (n : Nat) (pa ki : Nat → Nat) (gr : Nat → Option (Nat × Nat)) (x : Nat) : Bool := tr2 n pa ki gr x (n + 1)
/-- a formula's sense: 0: implies, 1: not both, 2: one of both, 3: both or none -/
def foP (n x : Nat) (q : Nat × Lit × Lit) : Bool :=
  if q.1 = 0 then (!hld n x q.2.1 || hld n x q.2.2) else if q.1 = 1 then (!hld n x q.2.1 || !hld n x q.2.2) else if q.1 = 2 then (hld n x q.2.1 || hld n x q.2.2) else hld n x q.2.1 == hld n x q.2.2
def okForm (n nf : Nat) (fo : Nat → Nat × Lit × Lit) (x : Nat) : Bool := alB (fun k => foP n x (fo k)) nf
/-- the sum of an attribute over the features in x, of those below k -/
def smI (n : Nat) (v : Nat → Int32) (x : Nat) : Nat → Int32
  | 0 => 0
  | k + 1 => if decide (1 ≤ k) && tb n x k then smI n v x k + v k else smI n v x k
def liP (n : Nat) (at_ : Nat → Nat → Int32) (lm : Nat → Option Int32) (x w : Nat) : Bool := match lm w with
  | none => true
  | some v => decide (smI n (at_ w) x (n + 1) ≤ v)
def okLim (n : Nat) (at_ : Nat → Nat → Int32) (lm : Nat → Option Int32) (x : Nat) : Bool := alB (liP n at_ lm x) 4
def okS (S : St) (x : Nat) : Bool := okTree (sN S) (sPa S) (sKi S) (sGr S) x && okForm (sN S) (sNf S) (sFo S) x && okLim (sN S) (sAt S) (sLm S) x
/-- the set x keeps the choices but those whose places are in w -/
def chP (n : Nat) (ch : List Lit) (w x k : Nat) : Bool := w.testBit k || hld n x (ch.getD k (0, true))
def okCh (n : Nat) (ch : List Lit) (w x : Nat) : Bool := alB (chP n ch w x) ch.length
/-- those that satisfy P below k, the greatest first; the greatest; their number -/
def okL (P : Nat → Bool) : Nat → List Nat
  | 0 => []
  | k + 1 => if P k then k :: okL P k else okL P k
def fsN (P : Nat → Bool) : Nat → Option Nat
  | 0 => none
  | k + 1 => if P k then some k else fsN P k
theorem ctB_ge {P : Nat → Bool} {j n : Nat} (h : j ≤ n) : ctB P j ≤ ctB P n := by
  induction n with
  | zero => simp at h; rw [h]; exact Nat.le_refl _
  | succ n ih =>
    rcases Nat.lt_or_eq_of_le h with h | h
    · rw [ctB]; have := ih (by omega); omega
    · rw [h]; exact Nat.le_refl _
theorem tr1_exit {n : Nat} {pa ki : Nat → Nat} {x j : Nat} (h : j = n + 1 ∨ (n = 0 ∧ j = 2)) : tr1 n pa ki x j = tr1 n pa ki x (n + 1) := by
  rcases h with rfl | ⟨rfl, rfl⟩
  · rfl
  · simp [tr1, alB, trP]
