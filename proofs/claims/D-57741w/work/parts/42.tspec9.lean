/-! chains, contradictions, means, what is written -/
/-- links of a chain: from reference r, with n counted -/
def lkK (S : Nat → Int32) : Nat → Int32 → Nat → Nat
  | 0, _, n => n
  | f + 1, r, n => if r < 0 ∨ 20 ≤ n then n else lkK S f (hs S r.toNatClampNeg 3) (n + 1)
def lkN (S : Nat → Int32) (f : Nat) : Nat := lkK S 20 (hs S f 3) 1
def wrK (S : Nat → Int32) (f k : Nat) (x : Int32) : Int32 := x + (if 2 * hs S f 4 < bI (hs S f (5 + k)) then 1 else 0)
def wrI (S : Nat → Int32) (f : Nat) : Int32 := wrK S f 3 (wrK S f 2 (wrK S f 1 (wrK S f 0 (if nI (lkN S f) = hs S f 4 then 0 else 1))))
def coK (S : Nat → Int32) (f : Nat) (x : Int32) : Int32 := x + (if hs S f 2 = 1 then wrI S f else 0)
def coS (S : Nat → Int32) : Nat → Int32
  | 0 => bI (S 5 - S 3 - S 7) + bI (S 6 - S 4 - S 8)
  | n + 1 => coK S n (coS S n)
/-- references are fiddlers or less than 0 -/
def lOk (S : Nat → Int32) : Prop := ∀ f, f < 10 → hs S f 3 < 0 ∨ ixl (hs S f 3) 10
def mdK (S : Nat → Int32) (p : Nat) (q : Nat × Int32) : Nat × Int32 := if hs S (p / 4) (13 + p % 4) = 1 then q else (q.1 + 1, q.2 + bI (hs S (p / 4) (9 + p % 4)))
def mdS (S : Nat → Int32) : Nat → Nat × Int32
  | 0 => (0, 0)
  | n + 1 => mdK S n (mdS S n)
theorem mdS_le (S : Nat → Int32) : ∀ n, (mdS S n).1 ≤ n
  | 0 => Nat.le_refl _
  | n + 1 => by
    have := mdS_le S n
    show (mdK S n (mdS S n)).1 ≤ n + 1
    unfold mdK
    split
    · omega
    · show (mdS S n).1 + 1 ≤ _; omega
/-- letters of a name: a number with digits of 5 bits -/
def ltN : Nat → Nat → Nat
  | 0, _ => 0
  | f + 1, x => if x = 0 then 0 else 1 + ltN f (x / 32)
def ltD (x i : Nat) : Nat := x / 2 ^ (5 * (ltN 6 x - 1 - i)) % 32 + 96
/-- what is written: how many, and the ints -/
abbrev tO : Type := Nat × (Nat → Int32)
def wrO (c : Int32) (q : tO) : tO := (q.1 + 1, upd q.2 q.1 c)
def wnO (x : Nat) : Nat → Nat → tO → tO
  | 0, _, q => q
  | f + 1, i, q => wnO x f (i + 1) (wrO (nI (ltD x i)) q)
def spO (q : tO) : tO := if q.1 = 0 then q else wrO 32 q
theorem ltN_le : ∀ f x, ltN f x ≤ f
  | 0, _ => Nat.le_refl _
  | f + 1, x => by
    unfold ltN
    split
    · omega
    · have := ltN_le f (x / 32); omega
theorem shr5 (x : Nat) (h : x < 2 ^ 31) : nI x >>> ((5 : Int32) &&& 31) = nI (x / 32) := pk_shrN h _ 5 (by decide)
theorem s_l9 : ∀ n, n < 32 → ((nI n &&& 31).toBitVec.smod 32).toNat = n := by decide +kernel
theorem letD {x j : Nat} (h : x < 2 ^ 31) (hs : 5 * (ltN 6 x - 1 - j) < 32) : (nI x >>> (nI (5 * (ltN 6 x - 1 - j)) &&& 31)) &&& 31 = nI (x / 2 ^ (5 * (ltN 6 x - 1 - j)) % 32) := by
  rw [pk_shrN h _ (5 * (ltN 6 x - 1 - j)) (s_l9 _ hs)]
  exact pk_andN (Nat.lt_of_le_of_lt (Nat.div_le_self _ _) (by omega)) 5 (by decide)
/-- the digits of a number below 1000 -/
def nuO (y : Nat) (q : tO) : tO :=
  if y < 10 then wrO (nI (48 + y / 1 % 10)) q
  else if y < 100 then wrO (nI (48 + y / 1 % 10)) (wrO (nI (48 + y / 10 % 10)) q)
  else wrO (nI (48 + y / 1 % 10)) (wrO (nI (48 + y / 10 % 10)) (wrO (nI (48 + y / 100 % 10)) q))
theorem nuO_le (y : Nat) (q : tO) : (nuO y q).1 ≤ q.1 + 3 := by
  unfold nuO
  split
  · show q.1 + 1 ≤ _; omega
  · split
    · show q.1 + 1 + 1 ≤ _; omega
    · show q.1 + 1 + 1 + 1 ≤ _; omega
theorem wnO_1 (x : Nat) : ∀ f i (q : tO), (wnO x f i q).1 = q.1 + f
  | 0, _, _ => rfl
  | f + 1, i, q => by
    show (wnO x f (i + 1) (wrO (nI (ltD x i)) q)).1 = _
    rw [wnO_1 x f (i + 1)]
    show q.1 + 1 + f = _
    omega
theorem spO_le (q : tO) : (spO q).1 ≤ q.1 + 1 := by
  unfold spO
  split
  · omega
  · exact Nat.le_refl _
def nmN (S : Nat → Int32) (f : Nat) : Nat := (hs S f 0).toNatClampNeg
/-- names are numbers of at most 30 bits; deviations are bounded -/
def nOk (S : Nat → Int32) : Prop := ∀ f, f < 10 → hs S f 0 = nI (nmN S f) ∧ nmN S f < 2 ^ 30
def dvN (S : Nat → Int32) (f k : Nat) : Nat := (bI (hs S f (9 + k))).toNatClampNeg
def dOk (S : Nat → Int32) : Prop := ∀ f k, f < 10 → k < 4 → bI (hs S f (9 + k)) = nI (dvN S f k) ∧ dvN S f k ≤ 999
def roO (S : Nat → Int32) (p : Nat) (q : tO) : tO :=
  let q1 := wnO (nmN S (plS S p)) (ltN 6 (nmN S (plS S p))) 0 (spO q)
  if hs S (plS S p) 2 = 1 then wrO 42 q1 else q1
def roW (S : Nat → Int32) : Nat → tO → tO
  | 0, q => q
  | n + 1, q => roO S n (roW S n q)
theorem roW_le (S : Nat → Int32) : ∀ n (q : tO), (roW S n q).1 ≤ q.1 + 8 * n
  | 0, q => Nat.le_refl _
  | n + 1, q => by
    have a := roW_le S n q
    show (roO S n (roW S n q)).1 ≤ _
    generalize roW S n q = w at a ⊢
    have b := spO_le w
    have c := wnO_1 (nmN S (plS S n)) (ltN 6 (nmN S (plS S n))) 0 (spO w)
    have d := ltN_le 6 (nmN S (plS S n))
    unfold roO
    split
    · show (wnO _ _ _ _).1 + 1 ≤ _; omega
    · show (wnO _ _ _ _).1 ≤ _; omega
def wsO (S : Nat → Int32) (f k : Nat) (q : tO) : tO :=
  let q1 := wrO 58 (wrO ((tWords k).toInt32 + 96) (spO q))
  if hs S f (13 + k) = 1 then wrO 120 q1
  else nuO (dvN S f k) (if hs S f (9 + k) < 0 then wrO 45 q1 else q1)
theorem wsO_le (S : Nat → Int32) (f k : Nat) (q : tO) : (wsO S f k q).1 ≤ q.1 + 7 := by
  have b := spO_le q
  unfold wsO
  split
  · show (spO q).1 + 1 + 1 + 1 ≤ _; omega
  · have c := nuO_le (dvN S f k) (if hs S f (9 + k) < 0 then wrO 45 (wrO 58 (wrO ((tWords k).toInt32 + 96) (spO q))) else wrO 58 (wrO ((tWords k).toInt32 + 96) (spO q)))
    refine Nat.le_trans c ?_
    split
    · show (spO q).1 + 1 + 1 + 1 + 3 ≤ _; omega
    · show (spO q).1 + 1 + 1 + 3 ≤ _; omega
