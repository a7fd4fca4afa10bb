/-! WHAT THE REFERENCE COMPUTES, on the row S: in the words of its own text -/
def hs (S : Nat → Int32) (f w : Nat) : Int32 := S (70 + 21 * f + w)
def su (S : Nat → Int32) (f w : Nat) (v : Int32) : Nat → Int32 := upd S (70 + 21 * f + w) v
def bI (v : Int32) : Int32 := if v < 0 then -v else v
def gI (a b : Int32) : Int32 := if b < a then a else b
def clI (x : Int32) : Int32 := if 999 < x then 999 else if x < -999 then -999 else x
def flI (b : Prop) [Decidable b] : Int32 := if b then 1 else 0
def inI (x lo hi : Int32) : Int32 := if lo ≤ x ∧ x ≤ hi then 1 else 0
def shiftsS (S : Nat → Int32) (f k : Nat) (c : Int32) : Nat → Int32 := su S f (9 + k) (clI (hs S f (9 + k) + c))
def turnsS (S : Nat → Int32) (f k : Nat) (c : Int32) : Nat → Int32 :=
  let S1 := upd S 16 (S 16 + 1)
  let S2 := if 150 < c then upd (su S1 f (13 + k) 1) 18 (su S1 f (13 + k) 1 18 + 1) else shiftsS (shiftsS S1 f k c) f k (-gI 0 (3 - hs S f (17 + k)))
  su S2 f (17 + k) (gI 0 (hs S f (17 + k) - 1))
def forgivesS (S : Nat → Int32) (f k : Nat) : Nat → Int32 :=
  let S1 := upd S (30 + (S 19).toNatClampNeg) (nI (4 * f + k))
  let S2 := upd S1 19 (S1 19 + 1)
  upd S2 17 (S2 17 + 1)
/-- a reference: none is the fork -/
def rI (r : Option Nat) : Int32 := match r with
  | none => -2
  | some f => nI f
def difS (S : Nat → Int32) (f k : Nat) (r : Option Nat) : Int32 := hs S f (9 + k) - (match r with
  | none => 0
  | some q => hs S q (9 + k))
def behS (S : Nat → Int32) (f k : Nat) (r : Option Nat) : Int32 := if hs S f (13 + k) = 1 then 4 else if 2 < bI (difS S f k r) then 5 else 0
def tunesS (S : Nat → Int32) (f k : Nat) (r : Option Nat) (left : Int32) : Int32 × (Nat → Int32) :=
  if hs S f (13 + k) = 1 then (2, S)
  else if bI (difS S f k r) ≤ 2 then (0, if difS S f k r = 0 then S else forgivesS S f k)
  else if left ≤ 0 then (3, S)
  else (behS (turnsS S f k (-difS S f k r)) f k r, turnsS S f k (-difS S f k r))
/-- one string of a fiddler's round: the row, and why it isn't in tune -/
def tfK (f : Nat) (r : Option Nat) (b : Int32) (k : Nat) (q : (Nat → Int32) × Int32) : (Nat → Int32) × Int32 :=
  ((tunesS q.1 f k r (hs q.1 f 1 - q.1 16 + b)).2, if q.2 = 0 then (tunesS q.1 f k r (hs q.1 f 1 - q.1 16 + b)).1 else q.2)
def chS (S : Nat → Int32) (r : Option Nat) (y : Int32) : Int32 := if y = 0 then (match r with
  | none => 1
  | some q => 1 + hs S q 4) else 0
def cpK (f k : Nat) (S : Nat → Int32) : Nat → Int32 := su S f (5 + k) (hs S f (9 + k))
def tfS (S : Nat → Int32) (f : Nat) (r : Option Nat) : (Nat → Int32) × Int32 :=
  let q := tfK f r (S 16) 3 (tfK f r (S 16) 2 (tfK f r (S 16) 1 (tfK f r (S 16) 0 (S, 0))))
  let S1 := su q.1 f 2 (if q.2 = 0 then 1 else 0)
  let S2 := su S1 f 3 (rI r)
  let S3 := su S2 f 4 (chS S2 r q.2)
  (cpK f 3 (cpK f 2 (cpK f 1 (cpK f 0 S3))), q.2)
/-- forgetting the first n fiddlers' last round -/
def fgK (f : Nat) (S : Nat → Int32) : Nat → Int32 := su (su (su S f 2 0) f 3 (-1)) f 4 0
def fgS (n : Nat) (S : Nat → Int32) : Nat → Int32 := match n with
  | 0 => S
  | n + 1 => fgK n (fgS n S)
def fgY (n : Nat) (Y : Nat → Int32) : Nat → Int32 := match n with
  | 0 => Y
  | n + 1 => upd (fgY n Y) n 1
/-- the fiddler at a place -/
def plS (S : Nat → Int32) (p : Nat) : Nat := (S (20 + p)).toNatClampNeg
def roK (p : Nat) (q : (Nat → Int32) × (Nat → Int32) × Option Nat) : (Nat → Int32) × (Nat → Int32) × Option Nat :=
  let f := plS q.1 p
  let t := tfS q.1 f q.2.2
  (t.1, upd q.2.1 f t.2, if hs t.1 f 2 = 1 then some f else q.2.2)
def roS (n : Nat) (q : (Nat → Int32) × (Nat → Int32) × Option Nat) : (Nat → Int32) × (Nat → Int32) × Option Nat := match n with
  | 0 => q
  | n + 1 => roK n (roS n q)
def itS (n : Nat) (S : Nat → Int32) : Int32 := match n with
  | 0 => 0
  | n + 1 => itS n S + hs S n 2
def manyS (S : Nat → Int32) : Nat := (S 13).toNatClampNeg
def rowS (S : Nat → Int32) : Nat := (S 14).toNatClampNeg
def ro0 (S Y : Nat → Int32) : (Nat → Int32) × (Nat → Int32) :=
  let S1 := upd (upd S 15 (S 15 + 1)) 19 0
  (fgS (manyS S1) S1, fgY (manyS S1) Y)
/-- a round: the row and the obstacles behind it -/
def roundS (S Y : Nat → Int32) : (Nat → Int32) × (Nat → Int32) :=
  let q := roS (rowS (ro0 S Y).1) ((ro0 S Y).1, (ro0 S Y).2, none)
  (q.1, q.2.1)
def roundI (S Y : Nat → Int32) : Int32 := itS (manyS (roundS S Y).1) (roundS S Y).1
def hoK (f : Nat) (w : Int32) (k : Nat) (S : Nat → Int32) : Nat → Int32 :=
  if hs S f (13 + k) = 1 then S else
  let S1 := shiftsS S f k (-w * S (9 + k))
  shiftsS S1 f k (-gI 0 (5 - hs S1 f (17 + k)))
def hoF (f : Nat) (w : Int32) (S : Nat → Int32) : Nat → Int32 := hoK f w 3 (hoK f w 2 (hoK f w 1 (hoK f w 0 S)))
def hoS (n : Nat) (w : Int32) (S : Nat → Int32) : Nat → Int32 := match n with
  | 0 => S
  | n + 1 => hoF n w (hoS n w S)
def wmS (S : Nat → Int32) : Int32 := if S 1 < S 2 then 1 else if S 2 < S 1 then -1 else 0
def hour1S (S : Nat → Int32) : Nat → Int32 :=
  let S1 := upd S 0 (S 0 + 1)
  let S2 := upd S1 1 (S1 1 + wmS S1)
  hoS (manyS S2) (wmS S1) S2
def hoursS (n : Nat) (S : Nat → Int32) : Nat → Int32 := match n with
  | 0 => S
  | n + 1 => hour1S (hoursS n S)
/-- the first n: a fiddler of that name, a place of that fiddler -/
def namS (S : Nat → Int32) (nm : Int32) (n i : Nat) : Option Nat := match n with
  | 0 => none
  | n + 1 => if hs S i 0 = nm then some i else namS S nm n (i + 1)
def plcS (S : Nat → Int32) (x : Int32) (n i : Nat) : Option Nat := match n with
  | 0 => none
  | n + 1 => if S (20 + i) = x then some i else plcS S x n (i + 1)
def oI (o : Option Nat) : Int32 := match o with
  | none => -1
  | some i => nI i
theorem hs_def (S : Nat → Int32) (f w : Nat) : hs S f w = S (70 + 21 * f + w) := rfl
theorem inI_1 {x lo hi : Int32} : inI x lo hi = 0 ↔ ¬ (lo ≤ x ∧ x ≤ hi) := by
  unfold inI
  split <;> simp_all
def shK (p : Nat) (S : Nat → Int32) : Nat → Int32 := upd S (20 + p) (S (20 + p + 1))
def shS (n i : Nat) (S : Nat → Int32) : Nat → Int32 := match n with
  | 0 => S
  | n + 1 => shS n (i + 1) (shK i S)
def leS (S : Nat → Int32) (p : Nat) : Nat → Int32 :=
  let S1 := shS (rowS S - 1 - p) p S
  upd S1 14 (S1 14 - 1)
def joS (S : Nat → Int32) (f : Nat) : Nat → Int32 :=
  let S1 := upd S (20 + rowS S) (nI f)
  upd S1 14 (S1 14 + 1)
def chalkS (S : Nat → Int32) (f k : Nat) : Nat → Int32 :=
  let S1 := su S f (17 + k) 9
  let S2 := upd S1 3 (S1 3 - 1)
  upd S2 7 (S2 7 + 1)
def replS (S : Nat → Int32) (f k : Nat) : Nat → Int32 :=
  let S1 := su S f (13 + k) 0
  let S2 := su S1 f (9 + k) (-120)
  let S3 := upd S2 4 (S2 4 - 1)
  upd S3 8 (S3 8 + 1)
def swapS (S : Nat → Int32) (p q : Nat) (one other : Int32) : Nat → Int32 := upd (upd S (20 + p) other) (20 + q) one
def grK (f k : Nat) (S : Nat → Int32) : Nat → Int32 := su S f (17 + k) 9
/-- a fiddler comes: number f, at the end of the row -/
def comesS (S : Nat → Int32) (nm pat : Int32) : Nat → Int32 :=
  let f := manyS S
  let S1 := upd S 13 (S 13 + 1)
  let S2 := su (su (su S1 f 0 nm) f 1 pat) f 3 (-1)
  let S3 := grK f 3 (grK f 2 (grK f 1 (grK f 0 S2)))
  let S4 := upd S3 (20 + rowS S) (nI f)
  upd S4 14 (S4 14 + 1)
def storesS (S : Nat → Int32) : Nat → Int32 :=
  let S1 := upd S 5 (S 3)
  upd S1 6 (S1 4)
