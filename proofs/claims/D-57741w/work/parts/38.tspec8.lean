/-! the buffer, names and looks over the row -/
def byI (v s : Int32) : Int32 := (v >>> (s &&& 31)) &&& 255
def nzN (v s : Int32) : Nat := if byI v s = 0 then 0 else 1
def bnN (v : Int32) : Nat := nzN v 24 + nzN v 16 + nzN v 8 + nzN v 0
theorem nzN_I (v s : Int32) : (if byI v s = 0 then (0 : Int32) else 1) = nI (nzN v s) := by
  unfold nzN
  split <;> rfl
theorem nzN_le (v s : Int32) : nzN v s ≤ 1 := by
  unfold nzN
  split <;> omega
def foS (v s : Int32) (q : Nat × (Nat → Int32)) : Nat × (Nat → Int32) := if byI v s = 0 then q else (q.1 + 1, upd q.2 q.1 (byI v s))
def foV (v : Int32) (q : Nat × (Nat → Int32)) : Nat × (Nat → Int32) := foS v 0 (foS v 8 (foS v 16 (foS v 24 q)))
theorem foS_1 (v s : Int32) (q : Nat × (Nat → Int32)) : (foS v s q).1 = q.1 + nzN v s := by
  unfold foS nzN
  split <;> rfl
theorem foV_1 (v : Int32) (q : Nat × (Nat → Int32)) : (foV v q).1 = q.1 + bnN v := by
  unfold foV bnN
  rw [foS_1, foS_1, foS_1, foS_1]
  omega
/-- the buffer as a name: 0 if it is none -/
def wnK (b : Nat → Int32) : Nat → Nat → Int32 → Int32
  | 0, _, a => a
  | f + 1, k, a => if inI (b k) 97 122 = 0 ∨ k = 6 then 0 else wnK b f (k + 1) (32 * a + b k - 96)
def faK (S : Nat → Int32) (f k : Nat) (x : Int32) : Int32 := if hs S f (13 + k) = 1 then x else gI x (bI (hs S f (9 + k)))
def faI (S : Nat → Int32) (f : Nat) : Int32 := faK S f 3 (faK S f 2 (faK S f 1 (faK S f 0 (-1))))
/-- hours until it is off: how many pass -/
def huN (f : Nat) : Nat → (Nat → Int32) → Nat
  | 0, _ => 0
  | n + 1, S => if 2 < faI S f then 0 else 1 + huN f n (hour1S S)
def wgK (S : Nat → Int32) (k p : Nat) (x : Int32) : Int32 := if hs S (plS S p) (13 + k) = 1 ∨ hs S (plS S (p - 1)) (13 + k) = 1 then x else gI x (bI (hs S (plS S p) (9 + k) - hs S (plS S (p - 1)) (9 + k)))
def wgS (S : Nat → Int32) (k : Nat) : Nat → Int32
  | 0 => 0
  | n + 1 => wgK S k (n + 1) (wgS S k n)
def wfK (S : Nat → Int32) (p : Nat) (q : Int32 × Int32) : Int32 × Int32 := if q.2 < faI S (plS S p) then (nI (plS S p), faI S (plS S p)) else q
def wfS (S : Nat → Int32) : Nat → Int32 × Int32
  | 0 => (-1, -1)
  | n + 1 => wfK S n (wfS S n)
def lpS (S : Nat → Int32) (x : Int32) : Nat → Int32
  | 0 => 0
  | n + 1 => lpS S x n + (if hs S (n / 4) (17 + n % 4) < x then 1 else 0)
theorem div4 (n : Nat) (h : n < 2 ^ 31) : nI n / nI 4 = nI (n / 4) := pk_div h (by decide) (by decide)
theorem rem4 (n : Nat) (h : n < 2 ^ 31) : nI n - nI n / nI 4 * nI 4 = nI (n % 4) := pk_rem h (by decide) (by decide)
