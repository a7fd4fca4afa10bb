/-! LINKED MAPS: nodes one behind another; the base heap holds the rest -/
def nup (f : Nat → Nat) (i v : Nat) : Nat → Nat := fun j => if j = i then v else f j
def eup (f : Nat → xE) (i : Nat) (e : xE) : Nat → xE := fun j => if j = i then e else f j
theorem nup_s {f : Nat → Nat} {i v : Nat} : nup f i v i = v := if_pos rfl
theorem nup_n {f : Nat → Nat} {i v j : Nat} (h : j ≠ i) : nup f i v j = f j := if_neg h
theorem va_up_s {f : Nat → Option Nat} {i : Nat} {v : Option Nat} : va_up f i v i = v := if_pos rfl
theorem va_up_n {f : Nat → Option Nat} {i j : Nat} {v : Option Nat} (h : j ≠ i) : va_up f i v j = f j := if_neg h
def mN (B : xA) (N : Nat → Nat) (nd : Nat → xE) : Nat → xA
  | 0 => B
  | c + 1 => xup (mN B N nd c) (N c) (nd c)
theorem mN_2 {B : xA} {N : Nat → Nat} {nd : Nat → xE} : ∀ c, (mN B N nd c).2 = B.2
  | 0 => rfl
  | c + 1 => mN_2 c
theorem mN_out {B : xA} {N : Nat → Nat} {nd : Nat → xE} {r : Nat} : ∀ {c}, (∀ j, j < c → r ≠ N j) → (mN B N nd c).1 r = B.1 r
  | 0, _ => rfl
  | c + 1, h => (xup_ne (h c (Nat.lt_succ_self _))).trans (mN_out (fun j hj => h j (Nat.lt_succ_of_lt hj)))
theorem mN_at {B : xA} {N : Nat → Nat} {nd : Nat → xE} : ∀ {c j : Nat}, (∀ i k, i < k → k < c → N i ≠ N k) → j < c → (mN B N nd c).1 (N j) = some (nd j)
  | 0, j, _, h => absurd h (Nat.not_lt_zero _)
  | c + 1, j, hI, h => by
    by_cases hj : j = c
    · subst hj
      exact xup_self
    · exact (xup_ne (hI j c (by omega) (Nat.lt_succ_self _))).trans (mN_at (fun i k h1 h2 => hI i k h1 (Nat.lt_succ_of_lt h2)) (by omega))
theorem mN_cg {B : xA} {N N' : Nat → Nat} {nd nd' : Nat → xE} : ∀ {c : Nat}, (∀ j, j < c → N' j = N j ∧ nd' j = nd j) → mN B N' nd' c = mN B N nd c
  | 0, _ => rfl
  | c + 1, h => by
    show xup (mN B N' nd' c) (N' c) (nd' c) = xup (mN B N nd c) (N c) (nd c)
    rw [mN_cg (fun j hj => h j (Nat.lt_succ_of_lt hj)), (h c (Nat.lt_succ_self _)).1, (h c (Nat.lt_succ_self _)).2]
theorem mN_upo {B : xA} {N : Nat → Nat} {nd : Nat → xE} {r : Nat} {e : xE} : ∀ {c}, (∀ j, j < c → r ≠ N j) → xup (mN B N nd c) r e = mN (xup B r e) N nd c
  | 0, _ => rfl
  | c + 1, h => by
    show xup (xup (mN B N nd c) (N c) (nd c)) r e = xup (mN (xup B r e) N nd c) (N c) (nd c)
    rw [xup_comm (Ne.symm (h c (Nat.lt_succ_self _))), mN_upo (fun j hj => h j (Nat.lt_succ_of_lt hj))]
theorem mN_up {B : xA} {N : Nat → Nat} {nd : Nat → xE} {e : xE} : ∀ {c j : Nat}, (∀ i k, i < k → k < c → N i ≠ N k) → j < c → xup (mN B N nd c) (N j) e = mN B N (eup nd j e) c
  | 0, j, _, h => absurd h (Nat.not_lt_zero _)
  | c + 1, j, hI, h => by
    by_cases hj : j = c
    · subst hj
      show xup (xup (mN B N nd j) (N j) (nd j)) (N j) e = xup (mN B N (eup nd j e) j) (N j) (eup nd j e j)
      rw [xup_xup, show eup nd j e j = e from if_pos rfl, mN_cg (N' := N) (nd' := eup nd j e) (N := N) (nd := nd) (fun k hk => ⟨rfl, if_neg (by omega)⟩)]
    · show xup (xup (mN B N nd c) (N c) (nd c)) (N j) e = xup (mN B N (eup nd j e) c) (N c) (eup nd j e c)
      rw [xup_comm (Ne.symm (hI j c (by omega) (Nat.lt_succ_self _))), mN_up (fun i k h1 h2 => hI i k h1 (Nat.lt_succ_of_lt h2)) (by omega), show eup nd j e c = nd c from if_neg (by omega)]
theorem mN_id {B : xA} {N : Nat → Nat} {nd : Nat → xE} : ∀ {c : Nat}, (∀ j, j < c → B.1 (N j) = some (nd j)) → mN B N nd c = B
  | 0, _ => rfl
  | c + 1, h => by
    show xup (mN B N nd c) (N c) (nd c) = B
    rw [mN_id (fun j hj => h j (Nat.lt_succ_of_lt hj))]
    exact xup_id (h c (Nat.lt_succ_self _))
theorem mN_bp {B : xA} {N : Nat → Nat} {nd : Nat → xE} {n : Nat} : ∀ c, xbp (mN B N nd c) n = mN (xbp B n) N nd c
  | 0 => rfl
  | c + 1 => by
    show xbp (xup (mN B N nd c) (N c) (nd c)) n = xup (mN (xbp B n) N nd c) (N c) (nd c)
    rw [← mN_bp c]
    rfl
theorem xal_bp {A : xA} {e : xE} {n : Nat} : xal A e n = xup (xbp A n) A.2.1 e := rfl
theorem xbp_up {A : xA} {a n : Nat} {e : xE} : xbp (xup A a e) n = xup (xbp A n) a e := rfl
/-! the map's cells -/
abbrev LF : UInt32 := 1061158912
abbrev xLm (T es : Option Nat) (c : Nat) (mc : Int32) (th : Nat) (ks vs hd tl : Option Nat) : xE := .inr (12, [va_rf T, va_rf es, .int (nI c), .int mc, .int (nI th), .float LF, va_rf ks, va_rf vs, va_rf hd, va_rf tl, .int 0, .int 0])
abbrev xNd (h k v : Nat) (nx bf af : Option Nat) : xE := .inr (17, [.int (nI h), .ref k, .ref v, va_rf nx, va_rf bf, va_rf af])
def mnd (H K V : Nat → Nat) (NX BF AF : Nat → Option Nat) : Nat → xE := fun j => xNd (H j) (K j) (V j) (NX j) (BF j) (AF j)
def mS (B : xA) (m T n : Nat) (mo : xE) (tf : Nat → Option Nat) (N H K V : Nat → Nat) (NX BF AF : Nat → Option Nat) (c : Nat) : xA := mN (xup (xup B T (xQa 6 n tf)) m mo) N (mnd H K V NX BF AF) c
def mD (nx m T : Nat) (N : Nat → Nat) (c : Nat) : Prop := m ≠ T ∧ (∀ j, j < c → N j ≠ m ∧ N j ≠ T ∧ N j < nx) ∧ (∀ i k, i < k → k < c → N i ≠ N k) ∧ m < nx ∧ T < nx
section MS
variable {B : xA} {m T n c : Nat} {mo : xE} {tf : Nat → Option Nat} {N H K V : Nat → Nat} {NX BF AF : Nat → Option Nat} {nx : Nat}
theorem mS_2 : (mS B m T n mo tf N H K V NX BF AF c).2 = B.2 := mN_2 c
theorem mS_m (hD : mD nx m T N c) : (mS B m T n mo tf N H K V NX BF AF c).1 m = some mo := (mN_out (fun j hj => Ne.symm (hD.2.1 j hj).1)).trans xup_self
theorem mS_T (hD : mD nx m T N c) : (mS B m T n mo tf N H K V NX BF AF c).1 T = some (xQa 6 n tf) := (mN_out (fun j hj => Ne.symm (hD.2.1 j hj).2.1)).trans ((xup_ne (Ne.symm hD.1)).trans xup_self)
theorem mS_N (hD : mD nx m T N c) {j : Nat} (hj : j < c) : (mS B m T n mo tf N H K V NX BF AF c).1 (N j) = some (xNd (H j) (K j) (V j) (NX j) (BF j) (AF j)) := mN_at hD.2.2.1 hj
theorem mS_o (hD : mD nx m T N c) {r : Nat} (h1 : r ≠ m) (h2 : r ≠ T) (h3 : ∀ j, j < c → r ≠ N j) : (mS B m T n mo tf N H K V NX BF AF c).1 r = B.1 r := (mN_out h3).trans ((xup_ne h1).trans (xup_ne h2))
theorem mS_wm (hD : mD nx m T N c) {mo' : xE} : xup (mS B m T n mo tf N H K V NX BF AF c) m mo' = mS B m T n mo' tf N H K V NX BF AF c := by
  unfold mS
  rw [mN_upo (fun j hj => Ne.symm (hD.2.1 j hj).1), xup_xup]
theorem mS_wT (hD : mD nx m T N c) {tf' : Nat → Option Nat} : xup (mS B m T n mo tf N H K V NX BF AF c) T (xQa 6 n tf') = mS B m T n mo tf' N H K V NX BF AF c := by
  unfold mS
  rw [mN_upo (fun j hj => Ne.symm (hD.2.1 j hj).2.1), xup_comm hD.1, xup_xup]
theorem mnd_e {H K V : Nat → Nat} {NX BF AF NX' BF' AF' : Nat → Option Nat} {j : Nat} (h : ∀ i, i ≠ j → NX' i = NX i ∧ BF' i = BF i ∧ AF' i = AF i) : eup (mnd H K V NX BF AF) j (xNd (H j) (K j) (V j) (NX' j) (BF' j) (AF' j)) = mnd H K V NX' BF' AF' := by
  funext i
  unfold eup
  by_cases hi : i = j
  · rw [if_pos hi, hi]
    rfl
  · rw [if_neg hi]
    unfold mnd
    rw [(h i hi).1, (h i hi).2.1, (h i hi).2.2]
theorem mS_wN (hD : mD nx m T N c) {j : Nat} (hj : j < c) {NX' BF' AF' : Nat → Option Nat} (h : ∀ i, i ≠ j → NX' i = NX i ∧ BF' i = BF i ∧ AF' i = AF i) : xup (mS B m T n mo tf N H K V NX BF AF c) (N j) (xNd (H j) (K j) (V j) (NX' j) (BF' j) (AF' j)) = mS B m T n mo tf N H K V NX' BF' AF' c := by
  unfold mS
  rw [mN_up hD.2.2.1 hj, mnd_e h]
theorem mS_wn (hD : mD nx m T N c) {j : Nat} (hj : j < c) {o : Option Nat} : xup (mS B m T n mo tf N H K V NX BF AF c) (N j) (xNd (H j) (K j) (V j) o (BF j) (AF j)) = mS B m T n mo tf N H K V (va_up NX j o) BF AF c := by
  have h := mS_wN (B := B) (n := n) (mo := mo) (tf := tf) (H := H) (K := K) (V := V) (NX := NX) (BF := BF) (AF := AF) hD hj (NX' := va_up NX j o) (BF' := BF) (AF' := AF) (fun i hi => ⟨va_up_n hi, rfl, rfl⟩)
  rw [va_up_s] at h
  exact h
theorem mS_wb (hD : mD nx m T N c) {j : Nat} (hj : j < c) {o : Option Nat} : xup (mS B m T n mo tf N H K V NX BF AF c) (N j) (xNd (H j) (K j) (V j) (NX j) o (AF j)) = mS B m T n mo tf N H K V NX (va_up BF j o) AF c := by
  have h := mS_wN (B := B) (n := n) (mo := mo) (tf := tf) (H := H) (K := K) (V := V) (NX := NX) (BF := BF) (AF := AF) hD hj (NX' := NX) (BF' := va_up BF j o) (AF' := AF) (fun i hi => ⟨rfl, va_up_n hi, rfl⟩)
  rw [va_up_s] at h
  exact h
theorem mS_wa (hD : mD nx m T N c) {j : Nat} (hj : j < c) {o : Option Nat} : xup (mS B m T n mo tf N H K V NX BF AF c) (N j) (xNd (H j) (K j) (V j) (NX j) (BF j) o) = mS B m T n mo tf N H K V NX BF (va_up AF j o) c := by
  have h := mS_wN (B := B) (n := n) (mo := mo) (tf := tf) (H := H) (K := K) (V := V) (NX := NX) (BF := BF) (AF := AF) hD hj (NX' := NX) (BF' := BF) (AF' := va_up AF j o) (fun i hi => ⟨rfl, rfl, va_up_n hi⟩)
  rw [va_up_s] at h
  exact h
/-- a node more -/
theorem mS_al (hD : mD B.2.1 m T N c) {h k v : Nat} {nx0 bf af : Option Nat} : xal (mS B m T n mo tf N H K V NX BF AF c) (xNd h k v nx0 bf af) 6 = mS (xbp B 6) m T n mo tf (nup N c B.2.1) (nup H c h) (nup K c k) (nup V c v) (va_up NX c nx0) (va_up BF c bf) (va_up AF c af) (c + 1) := by
  rw [xal_bp, mS_2]
  unfold mS
  rw [mN_bp, xbp_up, xbp_up]
  show _ = xup (mN _ _ _ c) (nup N c B.2.1 c) (mnd _ _ _ _ _ _ c)
  rw [nup_s, mN_cg (N' := nup N c B.2.1) (N := N) (nd := mnd H K V NX BF AF) (fun j hj => ⟨nup_n (by omega), by unfold mnd; rw [nup_n (by omega), nup_n (by omega), nup_n (by omega), va_up_n (by omega), va_up_n (by omega), va_up_n (by omega)]⟩)]
  unfold mnd
  rw [nup_s, nup_s, nup_s, va_up_s, va_up_s, va_up_s]
theorem mD_al (hD : mD nx m T N c) : mD (nx + 1) m T (nup N c nx) (c + 1) := by
  obtain ⟨h1, h2, h3, h4, h5⟩ := hD
  refine ⟨h1, fun j hj => ?_, fun i k hi hk => ?_, by omega, by omega⟩
  · by_cases hc : j = c
    · subst hc
      rw [nup_s]
      exact ⟨by omega, by omega, by omega⟩
    · rw [nup_n hc]
      have := h2 j (by omega)
      exact ⟨this.1, this.2.1, by omega⟩
  · by_cases hc : k = c
    · subst hc
      rw [nup_s, nup_n (by omega)]
      have := (h2 i (by omega)).2.2
      omega
    · rw [nup_n hc, nup_n (by omega)]
      exact h3 i k hi (by omega)
theorem mS_id {A : xA} (h1 : A.1 m = some mo) (h2 : A.1 T = some (xQa 6 n tf)) (h3 : ∀ j, j < c → A.1 (N j) = some (xNd (H j) (K j) (V j) (NX j) (BF j) (AF j))) : mS A m T n mo tf N H K V NX BF AF c = A := by
  unfold mS
  rw [xup_id h2, xup_id h1]
  exact mN_id h3
/-- a base's cell elsewhere -/
theorem mS_wo (hD : mD nx m T N c) {r : Nat} {e : xE} (h1 : r ≠ m) (h2 : r ≠ T) (h3 : ∀ j, j < c → r ≠ N j) : xup (mS B m T n mo tf N H K V NX BF AF c) r e = mS (xup B r e) m T n mo tf N H K V NX BF AF c := by
  unfold mS
  rw [mN_upo h3, xup_comm (Ne.symm h1), xup_comm (Ne.symm h2)]
end MS
/-! chains: the first of a bucket from s on -/
def fst9 (H : Nat → Nat) (n i : Nat) : Nat → Nat → Option Nat
  | 0, _ => none
  | f + 1, s => if H s % n = i then some s else fst9 H n i f (s + 1)
theorem fst9_s {H : Nat → Nat} {n i : Nat} : ∀ {f s j : Nat}, fst9 H n i f s = some j → s ≤ j ∧ j < s + f ∧ H j % n = i ∧ ∀ k, s ≤ k → k < j → ¬ H k % n = i
  | 0, s, j, h => by simp [fst9] at h
  | f + 1, s, j, h => by
    unfold fst9 at h
    by_cases hi : H s % n = i
    · rw [if_pos hi] at h
      cases h
      exact ⟨Nat.le_refl _, by omega, hi, fun k h1 h2 => absurd h1 (by omega)⟩
    · rw [if_neg hi] at h
      obtain ⟨a, b, c, d⟩ := fst9_s h
      refine ⟨by omega, by omega, c, fun k h1 h2 => ?_⟩
      by_cases hk : k = s
      · subst hk; exact hi
      · exact d k (by omega) h2
theorem fst9_n {H : Nat → Nat} {n i : Nat} : ∀ {f s : Nat}, fst9 H n i f s = none → ∀ k, s ≤ k → k < s + f → ¬ H k % n = i
  | 0, s, h, k, h1, h2 => absurd h1 (by omega)
  | f + 1, s, h, k, h1, h2 => by
    unfold fst9 at h
    by_cases hi : H s % n = i
    · rw [if_pos hi] at h; cases h
    · rw [if_neg hi] at h
      by_cases hk : k = s
      · subst hk; exact hi
      · exact fst9_n h k (by omega) (by omega)
theorem fst9_is {H : Nat → Nat} {n i : Nat} {f s j : Nat} (h1 : s ≤ j) (h2 : j < s + f) (h3 : H j % n = i) (h4 : ∀ k, s ≤ k → k < j → ¬ H k % n = i) : fst9 H n i f s = some j := by
  cases e : fst9 H n i f s with
  | none => exact absurd h3 (fst9_n e j h1 h2)
  | some q =>
    obtain ⟨a, b, c, d⟩ := fst9_s e
    by_cases hq : q < j
    · exact absurd c (h4 q a hq)
    · by_cases hq2 : j < q
      · exact absurd h3 (d j h1 hq2)
      · rw [show q = j by omega]
theorem fst9_no {H : Nat → Nat} {n i : Nat} {f s : Nat} (h : ∀ k, s ≤ k → k < s + f → ¬ H k % n = i) : fst9 H n i f s = none := by
  cases e : fst9 H n i f s with
  | none => rfl
  | some q => exact absurd (fst9_s e).2.2.1 (h q (fst9_s e).1 (fst9_s e).2.1)
/-- the bucket's first, the chain's next -/
def bkF (H : Nat → Nat) (N : Nat → Nat) (n c : Nat) (i : Nat) : Option Nat := (fst9 H n i c 0).map N
def nxF (H : Nat → Nat) (N : Nat → Nat) (n c : Nat) (j : Nat) : Option Nat := (fst9 H n (H j % n) (c - 1 - j) (j + 1)).map N
def bfF (N : Nat → Nat) (j : Nat) : Option Nat := if j = 0 then none else some (N (j - 1))
def afF (N : Nat → Nat) (c j : Nat) : Option Nat := if j + 1 < c then some (N (j + 1)) else none
def hdF (N : Nat → Nat) (c : Nat) : Option Nat := if c = 0 then none else some (N 0)
def tlF (N : Nat → Nat) (c : Nat) : Option Nat := if c = 0 then none else some (N (c - 1))
/-- the linked map at m holds the c entries H, K, V -/
def LM (A : xA) (m T n c : Nat) (N H K V : Nat → Nat) (mc : Int32) (es ks vs : Option Nat) : Prop :=
  (n = 16 ∨ n = 32 ∨ n = 64) ∧ c ≤ n / 4 * 3 ∧ mD A.2.1 m T N c ∧
  A.1 m = some (xLm (some T) es c mc (n / 4 * 3) ks vs (hdF N c) (tlF N c)) ∧
  (∃ tf, A.1 T = some (xQa 6 n tf) ∧ ∀ i, i < n → tf i = bkF H N n c i) ∧
  (∀ j, j < c → A.1 (N j) = some (xNd (H j) (K j) (V j) (nxF H N n c j) (bfF N j) (afF N c j))) ∧
  (∀ j, j < c → H j < 40) ∧ ∀ i k, i < k → k < c → H i ≠ H k
/-- a node's cell changes: the map's cells are those -/
def lmF (m T : Nat) (N : Nat → Nat) (c r : Nat) : Prop := r = m ∨ r = T ∨ ∃ j, j < c ∧ r = N j
