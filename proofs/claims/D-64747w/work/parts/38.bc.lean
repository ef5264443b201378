theorem pre_RVo {G : Gt} {A0 : Nat → Prop} {s : State} {H : Heap} {locs : List Loc} {w0 : va_W} {As : List Value} {b : Nat} {C : String} (hr : ∃ cell : Cell, H[b]? = some cell ∧ cell.vm.isStatics = false ∧ s.vm.findClass C = some cell.cls) (hG : GG G s) (hP : wP G w0 H) (hS : va_S A0 s.heap H locs) (hA0 : ∀ q, A0 q → gz G ≤ q) : PreV s H C b (PcR G (.ref b :: As) w0) As :=
  ⟨PcR.blind, hr, (pre_RS (As := .ref b :: As) hG hP hS hA0).2⟩
/-- counting bits -/
def bc1 (m : Nat) : Nat := m - ((m / 2) &&& 1431655765)
def bc2 (x : Nat) : Nat := (x &&& 858993459) + ((x / 4) &&& 858993459)
def bc3 (x : Nat) : Nat := (x + x / 16) &&& 252645135
def bc4 (x : Nat) : Nat := x + x / 256
def bc5 (x : Nat) : Nat := x + x / 65536
def bcK (m : Nat) : Bool := decide ((m / 2) &&& 1431655765 ≤ m) && decide (bc5 (bc4 (bc3 (bc2 (bc1 m)))) &&& 63 = ctB m.testBit 14)
def al2 (f : Nat → Bool) : Nat → Nat → Bool
  | 0, a => f a
  | k + 1, a => al2 f k (2 * a) && al2 f k (2 * a + 1)
theorem al2_spec {f : Nat → Bool} : ∀ k a, al2 f k a = true → ∀ m, m < 2 ^ k → f (a * 2 ^ k + m) = true := by
  intro k
  induction k with
  | zero =>
    intro a h m hm
    have : m = 0 := by simpa using hm
    subst this
    simpa [al2] using h
  | succ k ih =>
    intro a h m hm
    rw [al2, Bool.and_eq_true] at h
    rw [Nat.pow_succ] at hm
    by_cases h1 : m < 2 ^ k
    · have := ih _ h.1 m h1
      rw [show 2 * a * 2 ^ k + m = a * 2 ^ (k + 1) + m by rw [Nat.pow_succ, Nat.mul_comm 2 a, Nat.mul_assoc, Nat.mul_comm 2 (2 ^ k)]] at this
      exact this
    · have := ih _ h.2 (m - 2 ^ k) (by omega)
      rw [show (2 * a + 1) * 2 ^ k + (m - 2 ^ k) = a * 2 ^ (k + 1) + m by
        rw [Nat.pow_succ, Nat.add_mul, Nat.one_mul]
        have : 2 * a * 2 ^ k = a * (2 ^ k * 2) := by rw [Nat.mul_comm 2 a, Nat.mul_assoc, Nat.mul_comm 2 (2 ^ k)]
        omega] at this
      exact this
set_option maxRecDepth 100000 in
theorem bc_all : al2 bcK 14 0 = true := by decide +kernel
theorem bc_ok {m : Nat} (h : m < 16384) : (m / 2) &&& 1431655765 ≤ m ∧ bc5 (bc4 (bc3 (bc2 (bc1 m)))) &&& 63 = ctB m.testBit 14 := by
  have := al2_spec 14 0 bc_all m h
  rw [Nat.zero_mul, Nat.zero_add, bcK, Bool.and_eq_true, decide_eq_true_eq, decide_eq_true_eq] at this
  exact this
