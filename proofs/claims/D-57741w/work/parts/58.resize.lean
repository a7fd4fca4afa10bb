set_option maxRecDepth 100000
/-! THE TABLE GROWS: n to 2n -/
theorem xc2_q {L : List (Option Value)} {j : Nat} {o : Option Nat} (h : L[j]? = some (some (va_rf o))) : xc2 L (j + 1) = false := by
  unfold xc2
  simp only [h]
  cases o <;> rfl
theorem and_t {n h : Nat} (hn : n = 16 ∨ n = 32) (hh : h < 40) : nI h &&& nI n = if h % (2 * n) = h % n then 0 else nI n := by
  rcases hn with rfl | rfl
  · exact (by decide +kernel : ∀ h, h < 40 → nI h &&& nI 16 = if h % (2 * 16) = h % 16 then 0 else nI 16) h hh
  · exact (by decide +kernel : ∀ h, h < 40 → nI h &&& nI 32 = if h % (2 * 32) = h % 32 then 0 else nI 32) h hh
theorem sh1_n {n : Nat} (hn : n = 16 ∨ n = 32) : nI n <<< ((1 : Int32) &&& 31) = nI (2 * n) := by rcases hn with rfl | rfl <;> decide
theorem sh1_t {n : Nat} (hn : n = 16 ∨ n = 32) : nI (n / 4 * 3) <<< ((1 : Int32) &&& 31) = nI (2 * n / 4 * 3) := by rcases hn with rfl | rfl <;> decide
theorem mod_2 {n h : Nat} : h % (2 * n) % n = h % n := Nat.mod_mod_of_dvd h ⟨2, by omega⟩
theorem mod_h {n h i : Nat} (hn : 0 < n) (hi : h % n = i) : h % (2 * n) = i ∨ h % (2 * n) = i + n := by
  have h1 : h % (2 * n) % n = i := mod_2.trans hi
  have h2 : h % (2 * n) < 2 * n := Nat.mod_lt _ (by omega)
  by_cases h3 : h % (2 * n) < n
  · left
    rw [Nat.mod_eq_of_lt h3] at h1
    exact h1
  · right
    rw [Nat.mod_eq_sub_mod (by omega), Nat.mod_eq_of_lt (by omega)] at h1
    omega
/-- a part of a split bucket so far: its first, its last among those below jc -/
def rsP (H : Nat → Nat) (n i jc : Nat) (LH LT : Option Nat) : Prop := LH = fst9 H (2 * n) i jc 0 ∧ (∀ t, LT = some t → t < jc ∧ H t % (2 * n) = i ∧ ∀ k, t < k → k < jc → ¬ H k % (2 * n) = i) ∧ (LT = none → ∀ k, k < jc → ¬ H k % (2 * n) = i)
def rsI (H N : Nat → Nat) (n c i jc : Nat) (NX : Nat → Option Nat) (LH LT HH HT : Option Nat) : Prop :=
  rsP H n i jc LH LT ∧ rsP H n (i + n) jc HH HT ∧
  (∀ j, j < c → H j % n = i → j < jc → LT ≠ some j → HT ≠ some j → NX j = nxF H N (2 * n) c j) ∧
  (∀ j, j < c → H j % n = i → jc ≤ j → NX j = nxF H N n c j) ∧
  (∀ j, j < c → H j % n < i → NX j = nxF H N (2 * n) c j) ∧ ∀ j, j < c → i < H j % n → NX j = nxF H N n c j
theorem rsP_0 {H : Nat → Nat} {n i : Nat} : rsP H n i 0 none none := ⟨rfl, (fun t h => by cases h), fun _ k h => absurd h (Nat.not_lt_zero _)⟩
theorem rsP_y {H : Nat → Nat} {n i jc : Nat} {LH LT : Option Nat} (h : rsP H n i jc LH LT) (hj : H jc % (2 * n) = i) : rsP H n i (jc + 1) (if LT = none then some jc else LH) (some jc) := by
  obtain ⟨h1, h2, h3⟩ := h
  refine ⟨?_, fun t ht => by cases ht; exact ⟨Nat.lt_succ_self _, hj, fun k k1 k2 => by omega⟩, fun e => by cases e⟩
  cases LT with
  | none =>
    rw [if_pos rfl]
    exact (fst9_is (by omega) (by omega) hj (fun k _ k2 => h3 rfl k k2)).symm
  | some t =>
    rw [if_neg (by simp), h1]
    obtain ⟨t1, t2, t3⟩ := h2 t rfl
    cases e : fst9 H (2 * n) i jc 0 with
    | none => exact absurd t2 (fst9_n e t (by omega) (by omega))
    | some q =>
      obtain ⟨a, b, c, d⟩ := fst9_s e
      exact (fst9_is a (by omega) c d).symm
theorem rsP_n {H : Nat → Nat} {n i jc jn : Nat} {LH LT : Option Nat} (h : rsP H n i jc LH LT) (hl : jc ≤ jn) (hj : ∀ k, jc ≤ k → k < jn → ¬ H k % (2 * n) = i) : rsP H n i jn LH LT := by
  obtain ⟨h1, h2, h3⟩ := h
  refine ⟨?_, fun t ht => ?_, fun e k hk => ?_⟩
  · rw [h1]
    cases e : fst9 H (2 * n) i jc 0 with
    | none =>
      refine (fst9_no (fun k _ k2 => ?_)).symm
      by_cases hk : k < jc
      · exact fst9_n e k (by omega) (by omega)
      · exact hj k (by omega) (by omega)
    | some q =>
      obtain ⟨a, b, c, d⟩ := fst9_s e
      exact (fst9_is a (by omega) c d).symm
  · obtain ⟨t1, t2, t3⟩ := h2 t ht
    refine ⟨by omega, t2, fun k k1 k2 => ?_⟩
    by_cases hk : k < jc
    · exact t3 k k1 hk
    · exact hj k (by omega) k2
  · by_cases hk2 : k < jc
    · exact h3 e k hk2
    · exact hj k (by omega) hk
theorem not_2 {n h i : Nat} (hn : ¬ h % n = i) (hi : i < n) : ¬ h % (2 * n) = i := fun e => hn (by rw [← mod_2 (n := n), e, Nat.mod_eq_of_lt hi])
theorem not_2n {n h i : Nat} (hn : ¬ h % n = i) (hi : i < n) : ¬ h % (2 * n) = i + n := fun e => hn (by rw [← mod_2 (n := n), e, Nat.add_mod_right, Nat.mod_eq_of_lt hi])
/-- on to the next node of the bucket -/
theorem rsI_mv {H N : Nat → Nat} {n c i jc jn : Nat} {NX : Nat → Option Nat} {LH LT HH HT : Option Nat} (h : rsI H N n c i jc NX LH LT HH HT) (hi : i < n) (hl : jc ≤ jn) (hj : ∀ k, jc ≤ k → k < jn → ¬ H k % n = i) : rsI H N n c i jn NX LH LT HH HT := by
  obtain ⟨h1, h2, h3, h4, h5, h6⟩ := h
  refine ⟨rsP_n h1 hl (fun k a b => not_2 (hj k a b) hi), rsP_n h2 hl (fun k a b => not_2n (hj k a b) hi), fun j a b d e f => ?_, fun j a b d => h4 j a b (by omega), h5, h6⟩
  by_cases hk : j < jc
  · exact h3 j a b hk e f
  · exact absurd b (hj j (by omega) d)
/-- a node joins the low part -/
theorem rsI_lo0 {H N : Nat → Nat} {n c i jc : Nat} {NX : Nat → Option Nat} {LH HH HT : Option Nat} (h : rsI H N n c i jc NX LH none HH HT) (hn : 0 < n) (hj : H jc % (2 * n) = i) : rsI H N n c i (jc + 1) NX (some jc) (some jc) HH HT := by
  obtain ⟨h1, h2, h3, h4, h5, h6⟩ := h
  refine ⟨by have := rsP_y h1 hj; rwa [if_pos rfl] at this, rsP_n h2 (by omega) (fun k a b => by rw [show k = jc by omega, hj]; omega), fun j a b d e f => ?_, fun j a b d => h4 j a b (by omega), h5, h6⟩
  exact h3 j a b (by have : j ≠ jc := fun q => e (by rw [q]); omega) (by simp) f
theorem rsI_lo1 {H N : Nat → Nat} {n c i jc t : Nat} {NX : Nat → Option Nat} {LH HH HT : Option Nat} (h : rsI H N n c i jc NX LH (some t) HH HT) (hn : 0 < n) (hc : jc < c) (hi : i < n) (hj : H jc % (2 * n) = i) : rsI H N n c i (jc + 1) (va_up NX t (some (N jc))) LH (some jc) HH HT := by
  obtain ⟨h1, h2, h3, h4, h5, h6⟩ := h
  obtain ⟨t1, t2, t3⟩ := h1.2.1 t rfl
  have ti : H t % n = i := by rw [← mod_2 (n := n), t2, Nat.mod_eq_of_lt hi]
  refine ⟨by have := rsP_y h1 hj; rwa [if_neg (by simp)] at this, rsP_n h2 (by omega) (fun k a b => by rw [show k = jc by omega, hj]; omega), fun j a b d e f => ?_, fun j a b d => ?_, fun j a b => ?_, fun j a b => ?_⟩
  · by_cases hjt : j = t
    · subst hjt
      rw [va_up_s]
      unfold nxF
      rw [t2, fst9_is (j := jc) (by omega) (by omega) hj (fun k a b => t3 k (by omega) b)]
      rfl
    · rw [va_up_n hjt]
      exact h3 j a b (by have : j ≠ jc := fun q => e (by rw [q]); omega) (fun q => hjt (Option.some.inj q).symm) f
  · rw [va_up_n (by omega)]
    exact h4 j a b (by omega)
  · rw [va_up_n (fun q => by rw [q] at b; omega)]
    exact h5 j a b
  · rw [va_up_n (fun q => by rw [q] at b; omega)]
    exact h6 j a b
theorem rsI_hi0 {H N : Nat → Nat} {n c i jc : Nat} {NX : Nat → Option Nat} {LH LT HH : Option Nat} (h : rsI H N n c i jc NX LH LT HH none) (hn : 0 < n) (hj : H jc % (2 * n) = i + n) : rsI H N n c i (jc + 1) NX LH LT (some jc) (some jc) := by
  obtain ⟨h1, h2, h3, h4, h5, h6⟩ := h
  refine ⟨rsP_n h1 (by omega) (fun k a b => by rw [show k = jc by omega, hj]; omega), by have := rsP_y h2 hj; rwa [if_pos rfl] at this, fun j a b d e f => ?_, fun j a b d => h4 j a b (by omega), h5, h6⟩
  exact h3 j a b (by have : j ≠ jc := fun q => f (by rw [q]); omega) e (by simp)
theorem rsI_hi1 {H N : Nat → Nat} {n c i jc t : Nat} {NX : Nat → Option Nat} {LH LT HH : Option Nat} (h : rsI H N n c i jc NX LH LT HH (some t)) (hn : 0 < n) (hc : jc < c) (hi : i < n) (hj : H jc % (2 * n) = i + n) : rsI H N n c i (jc + 1) (va_up NX t (some (N jc))) LH LT HH (some jc) := by
  obtain ⟨h1, h2, h3, h4, h5, h6⟩ := h
  obtain ⟨t1, t2, t3⟩ := h2.2.1 t rfl
  have ti : H t % n = i := by rw [← mod_2 (n := n), t2, Nat.add_mod_right, Nat.mod_eq_of_lt hi]
  refine ⟨rsP_n h1 (by omega) (fun k a b => by rw [show k = jc by omega, hj]; omega), by have := rsP_y h2 hj; rwa [if_neg (by simp)] at this, fun j a b d e f => ?_, fun j a b d => ?_, fun j a b => ?_, fun j a b => ?_⟩
  · by_cases hjt : j = t
    · subst hjt
      rw [va_up_s]
      unfold nxF
      rw [t2, fst9_is (j := jc) (by omega) (by omega) hj (fun k a b => t3 k (by omega) b)]
      rfl
    · rw [va_up_n hjt]
      exact h3 j a b (by have : j ≠ jc := fun q => f (by rw [q]); omega) e (fun q => hjt (Option.some.inj q).symm)
  · rw [va_up_n (by omega)]
    exact h4 j a b (by omega)
  · rw [va_up_n (fun q => by rw [q] at b; omega)]
    exact h5 j a b
  · rw [va_up_n (fun q => by rw [q] at b; omega)]
    exact h6 j a b
/-- the end of a part: its last has no next -/
def rsE (NX : Nat → Option Nat) (LT : Option Nat) : Nat → Option Nat := match LT with
  | none => NX
  | some t => va_up NX t none
def rsT (N : Nat → Nat) (TN : Nat → Option Nat) (i : Nat) (LH LT : Option Nat) : Nat → Option Nat := match LT with
  | none => TN
  | some _ => va_up TN i (LH.map N)
/-- the outer loop's state at bucket i -/
def rsO (H N : Nat → Nat) (n c i : Nat) (TO TN NX : Nat → Option Nat) : Prop :=
  (∀ k, i ≤ k → k < n → TO k = bkF H N n c k) ∧ (∀ r, r < 2 * n → r % n < i → TN r = bkF H N (2 * n) c r) ∧ (∀ r, r < 2 * n → i ≤ r % n → TN r = none) ∧
  (∀ j, j < c → H j % n < i → NX j = nxF H N (2 * n) c j) ∧ ∀ j, j < c → i ≤ H j % n → NX j = nxF H N n c j
theorem rsP_bk {H N : Nat → Nat} {n i c : Nat} {LH LT : Option Nat} {TN : Nat → Option Nat} (h : rsP H n i c LH LT) (h0 : TN i = none) : rsT N TN i LH LT i = bkF H N (2 * n) c i := by
  obtain ⟨h1, h2, h3⟩ := h
  unfold bkF
  rw [← h1]
  cases LT with
  | none =>
    show TN i = _
    rw [h0, h1, fst9_no (fun k _ k2 => h3 rfl k (by omega))]
    rfl
  | some t => exact va_up_s
theorem rsT_n {N : Nat → Nat} {TN : Nat → Option Nat} {i r : Nat} {LH LT : Option Nat} (h : r ≠ i) : rsT N TN i LH LT r = TN r := by
  cases LT with
  | none => rfl
  | some t => exact va_up_n h
theorem rsE_n {NX : Nat → Option Nat} {LT : Option Nat} {j : Nat} (h : LT ≠ some j) : rsE NX LT j = NX j := by
  cases LT with
  | none => rfl
  | some t => exact va_up_n (fun q => h (by rw [q]))
theorem rsE_s {H N : Nat → Nat} {n c i j : Nat} {NX : Nat → Option Nat} {LH LT : Option Nat} (h : rsP H n i c LH LT) (e : LT = some j) : rsE NX LT j = nxF H N (2 * n) c j := by
  obtain ⟨t1, t2, t3⟩ := h.2.1 j e
  rw [e]
  show va_up NX j none j = _
  rw [va_up_s]
  unfold nxF
  rw [t2, fst9_no (fun k a b => t3 k (by omega) (by omega))]
  rfl
theorem rs_end {H N : Nat → Nat} {n c i : Nat} {TO TN NX NX0 : Nat → Option Nat} {LH LT HH HT : Option Nat} {x : Option Nat} (hO : rsO H N n c i TO TN NX0) (hn : 0 < n) (hi : i < n) (h : rsI H N n c i c NX LH LT HH HT) : rsO H N n c (i + 1) (va_up TO i x) (rsT N (rsT N TN i LH LT) (i + n) HH HT) (rsE (rsE NX LT) HT) := by
  obtain ⟨h1, h2, h3, h4, h5, h6⟩ := h
  obtain ⟨o1, o2, o3, o4, o5⟩ := hO
  have ei : i % n = i := Nat.mod_eq_of_lt hi
  have ein : (i + n) % n = i := by rw [Nat.add_mod_right, ei]
  refine ⟨fun k a b => by rw [va_up_n (by omega)]; exact o1 k (by omega) b, fun r a b => ?_, fun r a b => ?_, fun j a b => ?_, fun j a b => ?_⟩
  · by_cases e1 : r = i + n
    · rw [e1]
      exact rsP_bk h2 (by rw [rsT_n (by omega)]; exact o3 _ (by omega) (by omega))
    · rw [rsT_n e1]
      by_cases e2 : r = i
      · rw [e2]
        exact rsP_bk h1 (o3 _ (by omega) (by omega))
      · rw [rsT_n e2]
        refine o2 r a ?_
        have q := mod_h (n := n) (h := r) hn rfl
        rw [Nat.mod_eq_of_lt a] at q
        omega
  · rw [rsT_n (fun e => by rw [e, ein] at b; omega), rsT_n (fun e => by rw [e, ei] at b; omega)]
    exact o3 r a (by omega)
  · by_cases e1 : HT = some j
    · exact rsE_s h2 e1
    · rw [rsE_n e1]
      by_cases e2 : LT = some j
      · exact rsE_s h1 e2
      · rw [rsE_n e2]
        by_cases e3 : H j % n = i
        · exact h3 j a e3 a e2 e1
        · exact h5 j a (by omega)
  · rw [rsE_n (fun e => by
      obtain ⟨t1, t2, t3⟩ := h2.2.1 j e
      have : H j % n = i := by rw [← mod_2 (n := n), t2, ein]
      omega), rsE_n (fun e => by
      obtain ⟨t1, t2, t3⟩ := h1.2.1 j e
      have : H j % n = i := by rw [← mod_2 (n := n), t2, ei]
      omega)]
    exact h6 j a (by omega)
theorem rsO_0 {H N : Nat → Nat} {n c i : Nat} {TO TN NX : Nat → Option Nat} (hO : rsO H N n c i TO TN NX) (hn : 0 < n) (h : fst9 H n i c 0 = none) : rsO H N n c (i + 1) TO TN NX := by
  obtain ⟨o1, o2, o3, o4, o5⟩ := hO
  have hno : ∀ k, k < c → ¬ H k % n = i := fun k hk => fst9_n h k (by omega) (by omega)
  refine ⟨fun k a b => o1 k (by omega) b, fun r a b => ?_, fun r a b => o3 r a (by omega), fun j a b => ?_, fun j a b => o5 j a (by omega)⟩
  · by_cases e : r % n = i
    · rw [o3 r a (by omega)]
      unfold bkF
      rw [fst9_no (fun k _ k2 q => hno k (by omega) (by rw [← mod_2 (n := n), q]; exact e))]
      rfl
    · exact o2 r a (by omega)
  · exact o4 j a (by have := hno j a; omega)
theorem rsO_1 {H N : Nat → Nat} {n c i j0 : Nat} {TO TN NX : Nat → Option Nat} {x : Option Nat} (hO : rsO H N n c i TO TN NX) (hn : 0 < n) (hi : i < n) (h : fst9 H n i c 0 = some j0) (h2 : fst9 H n i (c - 1 - j0) (j0 + 1) = none) : rsO H N n c (i + 1) (va_up TO i x) (va_up TN (H j0 % (2 * n)) (some (N j0))) NX := by
  obtain ⟨o1, o2, o3, o4, o5⟩ := hO
  obtain ⟨-, jc, ji, jn⟩ := fst9_s h
  have hno : ∀ k, k < c → k ≠ j0 → ¬ H k % n = i := fun k hk hk0 => by
    by_cases hlt : k < j0
    · exact jn k (by omega) hlt
    · exact fst9_n h2 k (by omega) (by omega)
  refine ⟨fun k a b => by rw [va_up_n (by omega)]; exact o1 k (by omega) b, fun r a b => ?_, fun r a b => ?_, fun j a b => ?_, fun j a b => o5 j a (by omega)⟩
  · by_cases e : r % n = i
    · by_cases e1 : r = H j0 % (2 * n)
      · rw [e1, va_up_s]
        unfold bkF
        rw [fst9_is (j := j0) (by omega) (by omega) rfl (fun k _ k2 q => hno k (by omega) (by omega) (by rw [← mod_2 (n := n), q, mod_2]; exact ji))]
        rfl
      · rw [va_up_n e1, o3 r a (by omega)]
        have hz : fst9 H (2 * n) r c 0 = none := fst9_no (fun k _ k2 q => by
          by_cases hk : k = j0
          · rw [hk] at q
            exact e1 q.symm
          · exact hno k (by omega) hk (by rw [← mod_2 (n := n), q]; exact e))
        unfold bkF
        rw [hz]
        rfl
    · rw [va_up_n (fun q => e (by rw [q, mod_2]; exact ji))]
      exact o2 r a (by omega)
  · rw [va_up_n (fun q => by rw [q, mod_2, ji] at b; omega)]
    exact o3 r a (by omega)
  · by_cases e : H j % n = i
    · have hj : j = j0 := Classical.byContradiction fun q => hno j a q e
      rw [hj, o5 j0 (by omega) (by omega)]
      unfold nxF
      rw [ji, h2, fst9_no (fun k k1 k2 q => hno k (by omega) (by omega) (by rw [← mod_2 (n := n), q, mod_2]; exact ji))]
    · exact o4 j a (by omega)
theorem rsI_00 {H N : Nat → Nat} {n c i : Nat} {TO TN NX : Nat → Option Nat} (hO : rsO H N n c i TO TN NX) : rsI H N n c i 0 NX none none none none := ⟨rsP_0, rsP_0, (fun j _ _ h => absurd h (Nat.not_lt_zero _)), (fun j a b _ => hO.2.2.2.2 j a (by omega)), hO.2.2.2.1, fun j a b => hO.2.2.2.2 j a (by omega)⟩
theorem rsP_h {H : Nat → Nat} {n i jc t : Nat} {LH : Option Nat} (h : rsP H n i jc LH (some t)) : ∃ q, q < jc ∧ LH = some q := by
  obtain ⟨h1, h2, -⟩ := h
  obtain ⟨t1, t2, t3⟩ := h2 t rfl
  cases e : fst9 H (2 * n) i jc 0 with
  | none => exact absurd t2 (fst9_n e t (by omega) (by omega))
  | some q => exact ⟨q, by have := (fst9_s e).2.1; omega, h1.trans e⟩
theorem rs_in {g : xG} {B : xA} {m T n c : Nat} {mc : Int32} {es ks vs : Option Nat} {N H K V : Nat → Nat} {BF AF : Nat → Option Nat} {Q : Outcome → xA → Prop} {i : Nat} {TO TN : Nat → Option Nat} (hn : n = 16 ∨ n = 32) (hD1 : mD (xup (xbp B (2 * n)) B.2.1 (xQa 6 (2 * n) fun _ => none)).2.1 m T N c) (h5 : ∀ j, j < c → H j < 40) (hi : i < n)
    (kont : ∀ (NX : Nat → Option Nat) (LH LT HH HT : Option Nat), rsI H N n c i c NX LH LT HH HT → xW g iJ4_resize 1 309 [some (.ref m), some (.ref T), some (.int (nI n)), some (.int (nI (n / 4 * 3))), some (.int (nI (2 * n))), some (.int (nI (2 * n / 4 * 3))), some (.ref B.2.1), some (.int (nI i)), some .null, some (va_rf (LH.map N)), some (va_rf (LT.map N)), some (va_rf (HH.map N)), some (va_rf (HT.map N)), some .null] [] (mS (xup (xbp B (2 * n)) B.2.1 (xQa 6 (2 * n) TN)) m T n (xLm (some B.2.1) es c mc (2 * n / 4 * 3) ks vs (hdF N c) (tlF N c)) TO N H K V NX BF AF c) Q) :
    ∀ f jc NX LH LT HH HT X13, c - jc ≤ f → jc < c → H jc % n = i → rsI H N n c i jc NX LH LT HH HT → xW g iJ4_resize 1 235 [some (.ref m), some (.ref T), some (.int (nI n)), some (.int (nI (n / 4 * 3))), some (.int (nI (2 * n))), some (.int (nI (2 * n / 4 * 3))), some (.ref B.2.1), some (.int (nI i)), some (.ref (N jc)), some (va_rf (LH.map N)), some (va_rf (LT.map N)), some (va_rf (HH.map N)), some (va_rf (HT.map N)), X13] [] (mS (xup (xbp B (2 * n)) B.2.1 (xQa 6 (2 * n) TN)) m T n (xLm (some B.2.1) es c mc (2 * n / 4 * 3) ks vs (hdF N c) (tlF N c)) TO N H K V NX BF AF c) Q := by
  intro f
  induction f with
  | zero => intro jc NX LH LT HH HT X13 k1 k2; omega
  | succ f ih =>
    intro jc NX LH LT HH HT X13 k1 k2 k3 hI
    have hjc : jc < c := k2
    have h0 : 0 < n := by omega
    have e3 : NX jc = nxF H N n c jc := hI.2.2.2.1 jc k2 k3 (Nat.le_refl _)
    cases e1 : fst9 H n (H jc % n) (c - 1 - jc) (jc + 1) with
    | none =>
      have en : NX jc = none := by rw [e3]; unfold nxF; rw [e1]; rfl
      have hmv : ∀ k, jc + 1 ≤ k → k < c → ¬ H k % n = i := fun k a b => by rw [← k3]; exact fst9_n e1 k a (by omega)
      rcases mod_h h0 k3 with p0 | p0
      · cases LT with
        | none =>
          refine x_aload dJ4_resize_235 rfl ?_
          refine x_get fgJ4_177_17 dJ4_resize_237 (Or.inl (mS_N hD1 hjc)) rfl ?_
          refine x_topv (show va_rf (NX jc) = .null by rw [en]; rfl) ?_
          refine x_astoreN dJ4_resize_240 (by decide) (xc2_q (j := 12) rfl) ?_
          refine x_aload dJ4_resize_242 rfl ?_
          refine x_get fgJ4_168_17 dJ4_resize_244 (Or.inl (mS_N hD1 hjc)) rfl ?_
          refine x_iload_n dJ4_resize_247 rfl ?_
          refine x_iand dJ4_resize_248 ?_
          refine x_top (y := 0) (by rw [and_t hn (h5 jc hjc), if_pos (by rw [p0, k3])]) ?_
          refine x_if_neF dJ4_resize_249 278 (by decide) rfl ?_
          refine x_aloadN dJ4_resize_252 rfl ?_
          refine x_nn_F dJ4_resize_254 ?_
          refine x_aload dJ4_resize_257 rfl ?_
          refine x_astore dJ4_resize_259 (by decide) rfl ?_
          refine x_goto (tgt := 271) dJ4_resize_261 (by decide) ?_
          refine x_aload dJ4_resize_271 rfl ?_
          refine x_astore dJ4_resize_273 (by decide) rfl ?_
          refine x_goto (tgt := 301) dJ4_resize_275 (by decide) ?_
          refine x_aloadN dJ4_resize_301 rfl ?_
          refine x_dup dJ4_resize_303 rfl ?_
          refine x_astoreN dJ4_resize_304 (by decide) rfl ?_
          refine x_nn_F dJ4_resize_306 ?_
          have hI2 := rsI_lo0 hI h0 p0
          exact kont _ (some jc) (some jc) HH HT (rsI_mv hI2 hi (by omega) hmv)
        | some t =>
          have ht : t < c := by have := (hI.1.2.1 t rfl).1; omega
          refine x_aload dJ4_resize_235 rfl ?_
          refine x_get fgJ4_177_17 dJ4_resize_237 (Or.inl (mS_N hD1 hjc)) rfl ?_
          refine x_topv (show va_rf (NX jc) = .null by rw [en]; rfl) ?_
          refine x_astoreN dJ4_resize_240 (by decide) (xc2_q (j := 12) rfl) ?_
          refine x_aload dJ4_resize_242 rfl ?_
          refine x_get fgJ4_168_17 dJ4_resize_244 (Or.inl (mS_N hD1 hjc)) rfl ?_
          refine x_iload_n dJ4_resize_247 rfl ?_
          refine x_iand dJ4_resize_248 ?_
          refine x_top (y := 0) (by rw [and_t hn (h5 jc hjc), if_pos (by rw [p0, k3])]) ?_
          refine x_if_neF dJ4_resize_249 278 (by decide) rfl ?_
          refine x_aload dJ4_resize_252 rfl ?_
          refine x_nn_T (tgt := 264) dJ4_resize_254 (by decide) ?_
          refine x_aload dJ4_resize_264 rfl ?_
          refine x_aload dJ4_resize_266 rfl ?_
          refine x_put fpJ4_177_17 dJ4_resize_268 (mS_N hD1 ht) ⟨rfl, rfl⟩ (by exact Nat.le_of_ble_eq_true rfl) ?_
          refine xW.eqA (mS_wn (o := some (N jc)) hD1 ht) ?_
          refine x_aload dJ4_resize_271 rfl ?_
          refine x_astore dJ4_resize_273 (by decide) (xc2_q (j := 9) rfl) ?_
          refine x_goto (tgt := 301) dJ4_resize_275 (by decide) ?_
          refine x_aloadN dJ4_resize_301 rfl ?_
          refine x_dup dJ4_resize_303 rfl ?_
          refine x_astoreN dJ4_resize_304 (by decide) rfl ?_
          refine x_nn_F dJ4_resize_306 ?_
          have hI2 := rsI_lo1 hI h0 hjc hi p0
          exact kont _ LH (some jc) HH HT (rsI_mv hI2 hi (by omega) hmv)
      · cases HT with
        | none =>
          refine x_aload dJ4_resize_235 rfl ?_
          refine x_get fgJ4_177_17 dJ4_resize_237 (Or.inl (mS_N hD1 hjc)) rfl ?_
          refine x_topv (show va_rf (NX jc) = .null by rw [en]; rfl) ?_
          refine x_astoreN dJ4_resize_240 (by decide) rfl ?_
          refine x_aload dJ4_resize_242 rfl ?_
          refine x_get fgJ4_168_17 dJ4_resize_244 (Or.inl (mS_N hD1 hjc)) rfl ?_
          refine x_iload_n dJ4_resize_247 rfl ?_
          refine x_iand dJ4_resize_248 ?_
          refine x_top (y := nI n) (by rw [and_t hn (h5 jc hjc), if_neg (by rw [p0, k3]; omega)]) ?_
          refine x_if_neT (tgt := 278) dJ4_resize_249 (by decide) (nI_ne0 h0 (by omega)) ?_
          refine x_aloadN dJ4_resize_278 rfl ?_
          refine x_nn_F dJ4_resize_280 ?_
          refine x_aload dJ4_resize_283 rfl ?_
          refine x_astore dJ4_resize_285 (by decide) (xc2_q (j := 10) rfl) ?_
          refine x_goto (tgt := 297) dJ4_resize_287 (by decide) ?_
          refine x_aload dJ4_resize_297 rfl ?_
          refine x_astore dJ4_resize_299 (by decide) rfl ?_
          refine x_aloadN dJ4_resize_301 rfl ?_
          refine x_dup dJ4_resize_303 rfl ?_
          refine x_astoreN dJ4_resize_304 (by decide) rfl ?_
          refine x_nn_F dJ4_resize_306 ?_
          have hI2 := rsI_hi0 hI h0 p0
          exact kont _ LH LT (some jc) (some jc) (rsI_mv hI2 hi (by omega) hmv)
        | some t =>
          have ht : t < c := by have := (hI.2.1.2.1 t rfl).1; omega
          refine x_aload dJ4_resize_235 rfl ?_
          refine x_get fgJ4_177_17 dJ4_resize_237 (Or.inl (mS_N hD1 hjc)) rfl ?_
          refine x_topv (show va_rf (NX jc) = .null by rw [en]; rfl) ?_
          refine x_astoreN dJ4_resize_240 (by decide) rfl ?_
          refine x_aload dJ4_resize_242 rfl ?_
          refine x_get fgJ4_168_17 dJ4_resize_244 (Or.inl (mS_N hD1 hjc)) rfl ?_
          refine x_iload_n dJ4_resize_247 rfl ?_
          refine x_iand dJ4_resize_248 ?_
          refine x_top (y := nI n) (by rw [and_t hn (h5 jc hjc), if_neg (by rw [p0, k3]; omega)]) ?_
          refine x_if_neT (tgt := 278) dJ4_resize_249 (by decide) (nI_ne0 h0 (by omega)) ?_
          refine x_aload dJ4_resize_278 rfl ?_
          refine x_nn_T (tgt := 290) dJ4_resize_280 (by decide) ?_
          refine x_aload dJ4_resize_290 rfl ?_
          refine x_aload dJ4_resize_292 rfl ?_
          refine x_put fpJ4_177_17 dJ4_resize_294 (mS_N hD1 ht) ⟨rfl, rfl⟩ (by exact Nat.le_of_ble_eq_true rfl) ?_
          refine xW.eqA (mS_wn (o := some (N jc)) hD1 ht) ?_
          refine x_aload dJ4_resize_297 rfl ?_
          refine x_astore dJ4_resize_299 (by decide) (xc2_q (j := 11) rfl) ?_
          refine x_aloadN dJ4_resize_301 rfl ?_
          refine x_dup dJ4_resize_303 rfl ?_
          refine x_astoreN dJ4_resize_304 (by decide) rfl ?_
          refine x_nn_F dJ4_resize_306 ?_
          have hI2 := rsI_hi1 hI h0 hjc hi p0
          exact kont _ LH LT HH (some jc) (rsI_mv hI2 hi (by omega) hmv)
    | some jn =>
      have en : NX jc = some (N jn) := by rw [e3]; unfold nxF; rw [e1]; rfl
      obtain ⟨n1, n2, n3, n4⟩ := fst9_s e1
      have hjn : jn < c := by omega
      have hmv : ∀ k, jc + 1 ≤ k → k < jn → ¬ H k % n = i := fun k a b => by rw [← k3]; exact n4 k a b
      rcases mod_h h0 k3 with p0 | p0
      · cases LT with
        | none =>
          refine x_aload dJ4_resize_235 rfl ?_
          refine x_get fgJ4_177_17 dJ4_resize_237 (Or.inl (mS_N hD1 hjc)) rfl ?_
          refine x_topv (show va_rf (NX jc) = .ref (N jn) by rw [en]; rfl) ?_
          refine x_astore dJ4_resize_240 (by decide) (xc2_q (j := 12) rfl) ?_
          refine x_aload dJ4_resize_242 rfl ?_
          refine x_get fgJ4_168_17 dJ4_resize_244 (Or.inl (mS_N hD1 hjc)) rfl ?_
          refine x_iload_n dJ4_resize_247 rfl ?_
          refine x_iand dJ4_resize_248 ?_
          refine x_top (y := 0) (by rw [and_t hn (h5 jc hjc), if_pos (by rw [p0, k3])]) ?_
          refine x_if_neF dJ4_resize_249 278 (by decide) rfl ?_
          refine x_aloadN dJ4_resize_252 rfl ?_
          refine x_nn_F dJ4_resize_254 ?_
          refine x_aload dJ4_resize_257 rfl ?_
          refine x_astore dJ4_resize_259 (by decide) rfl ?_
          refine x_goto (tgt := 271) dJ4_resize_261 (by decide) ?_
          refine x_aload dJ4_resize_271 rfl ?_
          refine x_astore dJ4_resize_273 (by decide) rfl ?_
          refine x_goto (tgt := 301) dJ4_resize_275 (by decide) ?_
          refine x_aload dJ4_resize_301 rfl ?_
          refine x_dup dJ4_resize_303 rfl ?_
          refine x_astore dJ4_resize_304 (by decide) rfl ?_
          refine x_nn_T (tgt := 235) dJ4_resize_306 (by decide) ?_
          have hI2 := rsI_lo0 hI h0 p0
          exact ih jn _ (some jc) (some jc) HH HT _ (by omega) hjn (by rw [n3, k3]) (rsI_mv hI2 hi n1 hmv)
        | some t =>
          have ht : t < c := by have := (hI.1.2.1 t rfl).1; omega
          refine x_aload dJ4_resize_235 rfl ?_
          refine x_get fgJ4_177_17 dJ4_resize_237 (Or.inl (mS_N hD1 hjc)) rfl ?_
          refine x_topv (show va_rf (NX jc) = .ref (N jn) by rw [en]; rfl) ?_
          refine x_astore dJ4_resize_240 (by decide) (xc2_q (j := 12) rfl) ?_
          refine x_aload dJ4_resize_242 rfl ?_
          refine x_get fgJ4_168_17 dJ4_resize_244 (Or.inl (mS_N hD1 hjc)) rfl ?_
          refine x_iload_n dJ4_resize_247 rfl ?_
          refine x_iand dJ4_resize_248 ?_
          refine x_top (y := 0) (by rw [and_t hn (h5 jc hjc), if_pos (by rw [p0, k3])]) ?_
          refine x_if_neF dJ4_resize_249 278 (by decide) rfl ?_
          refine x_aload dJ4_resize_252 rfl ?_
          refine x_nn_T (tgt := 264) dJ4_resize_254 (by decide) ?_
          refine x_aload dJ4_resize_264 rfl ?_
          refine x_aload dJ4_resize_266 rfl ?_
          refine x_put fpJ4_177_17 dJ4_resize_268 (mS_N hD1 ht) ⟨rfl, rfl⟩ (by exact Nat.le_of_ble_eq_true rfl) ?_
          refine xW.eqA (mS_wn (o := some (N jc)) hD1 ht) ?_
          refine x_aload dJ4_resize_271 rfl ?_
          refine x_astore dJ4_resize_273 (by decide) (xc2_q (j := 9) rfl) ?_
          refine x_goto (tgt := 301) dJ4_resize_275 (by decide) ?_
          refine x_aload dJ4_resize_301 rfl ?_
          refine x_dup dJ4_resize_303 rfl ?_
          refine x_astore dJ4_resize_304 (by decide) rfl ?_
          refine x_nn_T (tgt := 235) dJ4_resize_306 (by decide) ?_
          have hI2 := rsI_lo1 hI h0 hjc hi p0
          exact ih jn _ LH (some jc) HH HT _ (by omega) hjn (by rw [n3, k3]) (rsI_mv hI2 hi n1 hmv)
      · cases HT with
        | none =>
          refine x_aload dJ4_resize_235 rfl ?_
          refine x_get fgJ4_177_17 dJ4_resize_237 (Or.inl (mS_N hD1 hjc)) rfl ?_
          refine x_topv (show va_rf (NX jc) = .ref (N jn) by rw [en]; rfl) ?_
          refine x_astore dJ4_resize_240 (by decide) rfl ?_
          refine x_aload dJ4_resize_242 rfl ?_
          refine x_get fgJ4_168_17 dJ4_resize_244 (Or.inl (mS_N hD1 hjc)) rfl ?_
          refine x_iload_n dJ4_resize_247 rfl ?_
          refine x_iand dJ4_resize_248 ?_
          refine x_top (y := nI n) (by rw [and_t hn (h5 jc hjc), if_neg (by rw [p0, k3]; omega)]) ?_
          refine x_if_neT (tgt := 278) dJ4_resize_249 (by decide) (nI_ne0 h0 (by omega)) ?_
          refine x_aloadN dJ4_resize_278 rfl ?_
          refine x_nn_F dJ4_resize_280 ?_
          refine x_aload dJ4_resize_283 rfl ?_
          refine x_astore dJ4_resize_285 (by decide) (xc2_q (j := 10) rfl) ?_
          refine x_goto (tgt := 297) dJ4_resize_287 (by decide) ?_
          refine x_aload dJ4_resize_297 rfl ?_
          refine x_astore dJ4_resize_299 (by decide) rfl ?_
          refine x_aload dJ4_resize_301 rfl ?_
          refine x_dup dJ4_resize_303 rfl ?_
          refine x_astore dJ4_resize_304 (by decide) rfl ?_
          refine x_nn_T (tgt := 235) dJ4_resize_306 (by decide) ?_
          have hI2 := rsI_hi0 hI h0 p0
          exact ih jn _ LH LT (some jc) (some jc) _ (by omega) hjn (by rw [n3, k3]) (rsI_mv hI2 hi n1 hmv)
        | some t =>
          have ht : t < c := by have := (hI.2.1.2.1 t rfl).1; omega
          refine x_aload dJ4_resize_235 rfl ?_
          refine x_get fgJ4_177_17 dJ4_resize_237 (Or.inl (mS_N hD1 hjc)) rfl ?_
          refine x_topv (show va_rf (NX jc) = .ref (N jn) by rw [en]; rfl) ?_
          refine x_astore dJ4_resize_240 (by decide) rfl ?_
          refine x_aload dJ4_resize_242 rfl ?_
          refine x_get fgJ4_168_17 dJ4_resize_244 (Or.inl (mS_N hD1 hjc)) rfl ?_
          refine x_iload_n dJ4_resize_247 rfl ?_
          refine x_iand dJ4_resize_248 ?_
          refine x_top (y := nI n) (by rw [and_t hn (h5 jc hjc), if_neg (by rw [p0, k3]; omega)]) ?_
          refine x_if_neT (tgt := 278) dJ4_resize_249 (by decide) (nI_ne0 h0 (by omega)) ?_
          refine x_aload dJ4_resize_278 rfl ?_
          refine x_nn_T (tgt := 290) dJ4_resize_280 (by decide) ?_
          refine x_aload dJ4_resize_290 rfl ?_
          refine x_aload dJ4_resize_292 rfl ?_
          refine x_put fpJ4_177_17 dJ4_resize_294 (mS_N hD1 ht) ⟨rfl, rfl⟩ (by exact Nat.le_of_ble_eq_true rfl) ?_
          refine xW.eqA (mS_wn (o := some (N jc)) hD1 ht) ?_
          refine x_aload dJ4_resize_297 rfl ?_
          refine x_astore dJ4_resize_299 (by decide) (xc2_q (j := 11) rfl) ?_
          refine x_aload dJ4_resize_301 rfl ?_
          refine x_dup dJ4_resize_303 rfl ?_
          refine x_astore dJ4_resize_304 (by decide) rfl ?_
          refine x_nn_T (tgt := 235) dJ4_resize_306 (by decide) ?_
          have hI2 := rsI_hi1 hI h0 hjc hi p0
          exact ih jn _ LH LT HH (some jc) _ (by omega) hjn (by rw [n3, k3]) (rsI_mv hI2 hi n1 hmv)
theorem hs_T2 {B : xA} {m T n c : Nat} {mo : xE} {TN TO : Nat → Option Nat} {N H K V : Nat → Nat} {NX BF AF : Nat → Option Nat} (hD : mD B.2.1 m T N c) : (mS (xup (xbp B (2 * n)) B.2.1 (xQa 6 (2 * n) TN)) m T n mo TO N H K V NX BF AF c).1 B.2.1 = some (xQa 6 (2 * n) TN) := (mS_o (nx := B.2.1) hD (Ne.symm (Nat.ne_of_lt hD.2.2.2.1)) (Ne.symm (Nat.ne_of_lt hD.2.2.2.2)) (fun j hj => Ne.symm (Nat.ne_of_lt (hD.2.1 j hj).2.2))).trans xup_self
theorem hs_w2 {B : xA} {m T n c : Nat} {mo : xE} {TN TN' TO : Nat → Option Nat} {N H K V : Nat → Nat} {NX BF AF : Nat → Option Nat} (hD : mD B.2.1 m T N c) : xup (mS (xup (xbp B (2 * n)) B.2.1 (xQa 6 (2 * n) TN)) m T n mo TO N H K V NX BF AF c) B.2.1 (xQa 6 (2 * n) TN') = mS (xup (xbp B (2 * n)) B.2.1 (xQa 6 (2 * n) TN')) m T n mo TO N H K V NX BF AF c := by
  rw [mS_wo (nx := B.2.1) hD (Ne.symm (Nat.ne_of_lt hD.2.2.2.1)) (Ne.symm (Nat.ne_of_lt hD.2.2.2.2)) (fun j hj => Ne.symm (Nat.ne_of_lt (hD.2.1 j hj).2.2)), xup_xup]
theorem mD_1 {B : xA} {m T n c : Nat} {N : Nat → Nat} {e : xE} (hD : mD B.2.1 m T N c) : mD (xup (xbp B n) B.2.1 e).2.1 m T N c := ⟨hD.1, fun j hj => ⟨(hD.2.1 j hj).1, (hD.2.1 j hj).2.1, Nat.lt_succ_of_lt (hD.2.1 j hj).2.2⟩, hD.2.2.1, Nat.lt_succ_of_lt hD.2.2.2.1, Nat.lt_succ_of_lt hD.2.2.2.2⟩
theorem rs_fin {B : xA} {m T n c : Nat} {mo : xE} {TN TO : Nat → Option Nat} {N H K V : Nat → Nat} {NX BF AF : Nat → Option Nat} (hD : mD B.2.1 m T N c) : mS (xup (xbp B (2 * n)) B.2.1 (xQa 6 (2 * n) TN)) m T n mo TO N H K V NX BF AF c = mS (xup (xbp B (2 * n)) T (xQa 6 n TO)) m B.2.1 (2 * n) mo TN N H K V NX BF AF c := by
  unfold mS
  rw [xup_comm (a := B.2.1) (b := T) (Ne.symm (Nat.ne_of_lt hD.2.2.2.2))]
theorem rs_309 {g : xG} {B : xA} {m T n c : Nat} {mc : Int32} {es ks vs : Option Nat} {N H K V : Nat → Nat} {BF AF : Nat → Option Nat} {Q : Outcome → xA → Prop} {i : Nat} {TO TN NX : Nat → Option Nat} {LH LT HH HT : Option Nat} (hn : n = 16 ∨ n = 32) (hD : mD B.2.1 m T N c) (hi : i < n) (hI : rsI H N n c i c NX LH LT HH HT)
    (kont : ∀ (NX' TN' : Nat → Option Nat), NX' = rsE (rsE NX LT) HT → TN' = rsT N (rsT N TN i LH LT) (i + n) HH HT → ∀ x8 x9 x10 x11 x12 x13, xW g iJ4_resize 1 347 [some (.ref m), some (.ref T), some (.int (nI n)), some (.int (nI (n / 4 * 3))), some (.int (nI (2 * n))), some (.int (nI (2 * n / 4 * 3))), some (.ref B.2.1), some (.int (nI i)), x8, x9, x10, x11, x12, x13] [] (mS (xup (xbp B (2 * n)) B.2.1 (xQa 6 (2 * n) TN')) m T n (xLm (some B.2.1) es c mc (2 * n / 4 * 3) ks vs (hdF N c) (tlF N c)) TO N H K V NX' BF AF c) Q) : xW g iJ4_resize 1 309 [some (.ref m), some (.ref T), some (.int (nI n)), some (.int (nI (n / 4 * 3))), some (.int (nI (2 * n))), some (.int (nI (2 * n / 4 * 3))), some (.ref B.2.1), some (.int (nI i)), some .null, some (va_rf (LH.map N)), some (va_rf (LT.map N)), some (va_rf (HH.map N)), some (va_rf (HT.map N)), some .null] [] (mS (xup (xbp B (2 * n)) B.2.1 (xQa 6 (2 * n) TN)) m T n (xLm (some B.2.1) es c mc (2 * n / 4 * 3) ks vs (hdF N c) (tlF N c)) TO N H K V NX BF AF c) Q := by
  have hD1 : mD (xup (xbp B (2 * n)) B.2.1 (xQa 6 (2 * n) TN)).2.1 m T N c := mD_1 hD
  obtain ⟨hP1, hP2, -⟩ := hI
  cases LT with
  | none =>
    refine x_aloadN dJ4_resize_309 rfl ?_
    refine x_n_T (tgt := 327) dJ4_resize_311 (by decide) ?_
    cases HT with
    | none =>
      refine x_aloadN dJ4_resize_327 rfl ?_
      refine x_n_T (tgt := 347) dJ4_resize_329 (by decide) ?_
      exact kont _ _ rfl rfl _ _ _ _ _ _
    | some u =>
      obtain ⟨q2, hq2, rfl⟩ := rsP_h hP2
      have hu : u < c := (hP2.2.1 u rfl).1
      refine x_aload dJ4_resize_327 rfl ?_
      refine x_n_F dJ4_resize_329 ?_
      refine x_aload dJ4_resize_332 rfl ?_
      refine x_null dJ4_resize_334 ?_
      refine x_put fpJ4_177_17 dJ4_resize_335 (mS_N hD1 hu) ⟨rfl, rfl⟩ (by exact Nat.le_of_ble_eq_true rfl) ?_
      refine xW.eqA (mS_wn (o := none) hD1 hu) ?_
      refine x_aload dJ4_resize_338 rfl ?_
      refine x_iload dJ4_resize_340 rfl ?_
      refine x_iload_n dJ4_resize_342 rfl ?_
      refine x_iadd dJ4_resize_343 ?_
      refine x_top (y := nI (i + n)) (nI_add i n) ?_
      refine x_aload dJ4_resize_344 rfl ?_
      refine x_ast dJ4_resize_346 (t := 6) rfl (hs_T2 hD) (Or.inl (mS_N hD1 hq2)) (cl1 := (RJ32, TJ32, 6)) rfl (Or.inr q4321) (vp_in_nI (n := i + n) (by omega) (by omega)) ?_
      rw [show (nI (i + n)).toNatClampNeg = i + n from nI_clamp (by have := hi; omega)]
      refine xW.eqA (hs_w2 hD) ?_
      exact kont _ _ rfl rfl _ _ _ _ _ _
  | some t =>
    obtain ⟨q, hq, rfl⟩ := rsP_h hP1
    have ht : t < c := (hP1.2.1 t rfl).1
    refine x_aload dJ4_resize_309 rfl ?_
    refine x_n_F dJ4_resize_311 ?_
    refine x_aload dJ4_resize_314 rfl ?_
    refine x_null dJ4_resize_316 ?_
    refine x_put fpJ4_177_17 dJ4_resize_317 (mS_N hD1 ht) ⟨rfl, rfl⟩ (by exact Nat.le_of_ble_eq_true rfl) ?_
    refine xW.eqA (mS_wn (o := none) hD1 ht) ?_
    refine x_aload dJ4_resize_320 rfl ?_
    refine x_iload dJ4_resize_322 rfl ?_
    refine x_aload dJ4_resize_324 rfl ?_
    refine x_ast dJ4_resize_326 (t := 6) rfl (hs_T2 hD) (Or.inl (mS_N hD1 hq)) (cl1 := (RJ32, TJ32, 6)) rfl (Or.inr q4321) (vp_in_nI (n := i) (by omega) (by omega)) ?_
    rw [show (nI (i)).toNatClampNeg = i from nI_clamp (by have := hi; omega)]
    refine xW.eqA (hs_w2 hD) ?_
    cases HT with
    | none =>
      refine x_aloadN dJ4_resize_327 rfl ?_
      refine x_n_T (tgt := 347) dJ4_resize_329 (by decide) ?_
      exact kont _ _ rfl rfl _ _ _ _ _ _
    | some u =>
      obtain ⟨q2, hq2, rfl⟩ := rsP_h hP2
      have hu : u < c := (hP2.2.1 u rfl).1
      refine x_aload dJ4_resize_327 rfl ?_
      refine x_n_F dJ4_resize_329 ?_
      refine x_aload dJ4_resize_332 rfl ?_
      refine x_null dJ4_resize_334 ?_
      refine x_put fpJ4_177_17 dJ4_resize_335 (mS_N hD1 hu) ⟨rfl, rfl⟩ (by exact Nat.le_of_ble_eq_true rfl) ?_
      refine xW.eqA (mS_wn (o := none) hD1 hu) ?_
      refine x_aload dJ4_resize_338 rfl ?_
      refine x_iload dJ4_resize_340 rfl ?_
      refine x_iload_n dJ4_resize_342 rfl ?_
      refine x_iadd dJ4_resize_343 ?_
      refine x_top (y := nI (i + n)) (nI_add i n) ?_
      refine x_aload dJ4_resize_344 rfl ?_
      refine x_ast dJ4_resize_346 (t := 6) rfl (hs_T2 hD) (Or.inl (mS_N hD1 hq2)) (cl1 := (RJ32, TJ32, 6)) rfl (Or.inr q4321) (vp_in_nI (n := i + n) (by omega) (by omega)) ?_
      rw [show (nI (i + n)).toNatClampNeg = i + n from nI_clamp (by have := hi; omega)]
      refine xW.eqA (hs_w2 hD) ?_
      exact kont _ _ rfl rfl _ _ _ _ _ _
theorem rs_out (g : xG) (B : xA) (m T n c : Nat) (mc : Int32) (es ks vs : Option Nat) (N H K V : Nat → Nat) (BF AF : Nat → Option Nat) (hn : n = 16 ∨ n = 32) (hD : mD B.2.1 m T N c) (h5 : ∀ j, j < c → H j < 40) : ∀ f i TO TN NX x8 x9 x10 x11 x12 x13, f + i = n → rsO H N n c i TO TN NX → xW g iJ4_resize 1 151 [some (.ref m), some (.ref T), some (.int (nI n)), some (.int (nI (n / 4 * 3))), some (.int (nI (2 * n))), some (.int (nI (2 * n / 4 * 3))), some (.ref B.2.1), some (.int (nI i)), x8, x9, x10, x11, x12, x13] [] (mS (xup (xbp B (2 * n)) B.2.1 (xQa 6 (2 * n) TN)) m T n (xLm (some B.2.1) es c mc (2 * n / 4 * 3) ks vs (hdF N c) (tlF N c)) TO N H K V NX BF AF c) (xRs fun w A' => w = some (.ref B.2.1) ∧ ∃ NX' tf' TOx, A' = mS (xup (xbp B (2 * n)) T (xQa 6 n TOx)) m B.2.1 (2 * n) (xLm (some B.2.1) es c mc (2 * n / 4 * 3) ks vs (hdF N c) (tlF N c)) tf' N H K V NX' BF AF c ∧ (∀ i, i < 2 * n → tf' i = bkF H N (2 * n) c i) ∧ ∀ j, j < c → NX' j = nxF H N (2 * n) c j) := by
  intro f
  induction f with
  | zero =>
    intro i TO TN NX x8 x9 x10 x11 x12 x13 hk hO
    have e : i = n := by omega
    subst e
    have hD1 : mD (xup (xbp B (2 * i)) B.2.1 (xQa 6 (2 * i) TN)).2.1 m T N c := mD_1 hD
    refine x_iload dJ4_resize_151 rfl ?_
    refine x_iload_n dJ4_resize_153 rfl ?_
    refine x_icmp_geT (tgt := 353) dJ4_resize_154 (by decide) (nI_le (Nat.le_refl _) (by omega)) ?_
    refine x_aload dJ4_resize_353 rfl ?_
    exact x_areturn dJ4_resize_355 rfl (Or.inr ⟨_, rfl⟩) (Or.inr ⟨_, rfl⟩) ⟨_, rfl, rfl, NX, TN, TO, rs_fin hD, (fun r hr => hO.2.1 r hr (Nat.mod_lt _ (by omega))), fun j hj => hO.2.2.2.1 j hj (Nat.mod_lt _ (by omega))⟩
  | succ f ih =>
    intro i TO TN NX x8 x9 x10 x11 x12 x13 hk hO
    have hi : i < n := by omega
    have h0 : 0 < n := by omega
    have hD1 : mD (xup (xbp B (2 * n)) B.2.1 (xQa 6 (2 * n) TN)).2.1 m T N c := mD_1 hD
    cases e0 : fst9 H n i c 0 with
    | none =>
      have eb : TO i = none := by rw [hO.1 i (Nat.le_refl _) hi]; unfold bkF; rw [e0]; rfl
      refine x_iload dJ4_resize_151 rfl ?_
      refine x_iload_n dJ4_resize_153 rfl ?_
      refine x_icmp_geF dJ4_resize_154 353 (by decide) (nI_ge hi (by omega)) ?_
      refine x_aload_n dJ4_resize_157 rfl ?_
      refine x_iload dJ4_resize_158 rfl ?_
      refine x_ald dJ4_resize_160 (t := 6) rfl (Or.inl (mS_T hD1)) (vp_in_nI (n := i) (by omega) (by omega)) ?_
      refine x_topv (show va_rf (TO (nI i).toNatClampNeg) = .null by rw [nI_clamp (by omega), eb]; rfl) ?_
      refine x_dup dJ4_resize_161 rfl ?_
      refine x_astoreN dJ4_resize_162 (by decide) rfl ?_
      refine x_n_T (tgt := 347) dJ4_resize_164 (by decide) ?_
      refine x_iinc (v := nI (i + 1)) dJ4_resize_347 rfl (nI_1 _) (by decide) rfl ?_
      refine x_goto (tgt := 151) dJ4_resize_350 (by decide) ?_
      exact ih (i + 1) _ _ _ _ _ _ _ _ _ (by omega) (rsO_0 hO h0 e0)
    | some j0 =>
      have eb : TO i = some (N j0) := by rw [hO.1 i (Nat.le_refl _) hi]; unfold bkF; rw [e0]; rfl
      obtain ⟨-, j0b, j0i, j0n⟩ := fst9_s e0
      have j0l : j0 < c := by omega
      have ex : NX j0 = nxF H N n c j0 := hO.2.2.2.2 j0 j0l (by omega)
      cases e1 : fst9 H n i (c - 1 - j0) (j0 + 1) with
      | none =>
        have en : NX j0 = none := by rw [ex]; unfold nxF; rw [j0i, e1]; rfl
        have hm : H j0 % (2 * n) < 2 * n := Nat.mod_lt _ (by omega)
        refine x_iload dJ4_resize_151 rfl ?_
        refine x_iload_n dJ4_resize_153 rfl ?_
        refine x_icmp_geF dJ4_resize_154 353 (by decide) (nI_ge hi (by omega)) ?_
        refine x_aload_n dJ4_resize_157 rfl ?_
        refine x_iload dJ4_resize_158 rfl ?_
        refine x_ald dJ4_resize_160 (t := 6) rfl (Or.inl (mS_T hD1)) (vp_in_nI (n := i) (by omega) (by omega)) ?_
        refine x_topv (show va_rf (TO (nI i).toNatClampNeg) = .ref (N j0) by rw [nI_clamp (by omega), eb]; rfl) ?_
        refine x_dup dJ4_resize_161 rfl ?_
        refine x_astore dJ4_resize_162 (by decide) rfl ?_
        refine x_n_F dJ4_resize_164 ?_
        refine x_aload_n dJ4_resize_167 rfl ?_
        refine x_iload dJ4_resize_168 rfl ?_
        refine x_null dJ4_resize_170 ?_
        refine x_astN dJ4_resize_171 (t := 6) rfl (mS_T hD1) (vp_in_nI (n := i) (by omega) (by omega)) ?_
        rw [show (nI i).toNatClampNeg = i from nI_clamp (by omega)]
        refine xW.eqA (mS_wT hD1) ?_
        refine x_aload dJ4_resize_172 rfl ?_
        refine x_get fgJ4_177_17 dJ4_resize_174 (Or.inl (mS_N hD1 j0l)) rfl ?_
        refine x_topv (show va_rf (NX j0) = .null by rw [en]; rfl) ?_
        refine x_nn_F dJ4_resize_177 ?_
        refine x_aload dJ4_resize_180 rfl ?_
        refine x_aload dJ4_resize_182 rfl ?_
        refine x_get fgJ4_168_17 dJ4_resize_184 (Or.inl (mS_N hD1 j0l)) rfl ?_
        refine x_iload dJ4_resize_187 rfl ?_
        refine x_iconst (v := 1) dJ4_resize_189 rfl ?_
        refine x_isub dJ4_resize_190 ?_
        refine x_top (y := nI (2 * n) - 1) rfl ?_
        refine x_iand dJ4_resize_191 ?_
        refine x_top (y := nI (H j0 % (2 * n))) (by rw [Int32.and_comm]; exact and_n (by omega) (by have := h5 j0 j0l; omega)) ?_
        refine x_aload dJ4_resize_192 rfl ?_
        refine x_ast dJ4_resize_194 (t := 6) rfl (hs_T2 hD) (Or.inl (mS_N hD1 j0l)) (cl1 := (RJ32, TJ32, 6)) rfl (Or.inr q4321) (vp_in_nI (n := H j0 % (2 * n)) hm (by omega)) ?_
        rw [show (nI (H j0 % (2 * n))).toNatClampNeg = H j0 % (2 * n) from nI_clamp (by have := hm; omega)]
        refine xW.eqA (hs_w2 hD) ?_
        refine x_goto (tgt := 347) dJ4_resize_195 (by decide) ?_
        refine x_iinc (v := nI (i + 1)) dJ4_resize_347 rfl (nI_1 _) (by decide) rfl ?_
        refine x_goto (tgt := 151) dJ4_resize_350 (by decide) ?_
        exact ih (i + 1) _ _ _ _ _ _ _ _ _ (by omega) (rsO_1 hO h0 hi e0 e1)
      | some j1 =>
        have en : NX j0 = some (N j1) := by rw [ex]; unfold nxF; rw [j0i, e1]; rfl
        refine x_iload dJ4_resize_151 rfl ?_
        refine x_iload_n dJ4_resize_153 rfl ?_
        refine x_icmp_geF dJ4_resize_154 353 (by decide) (nI_ge hi (by omega)) ?_
        refine x_aload_n dJ4_resize_157 rfl ?_
        refine x_iload dJ4_resize_158 rfl ?_
        refine x_ald dJ4_resize_160 (t := 6) rfl (Or.inl (mS_T hD1)) (vp_in_nI (n := i) (by omega) (by omega)) ?_
        refine x_topv (show va_rf (TO (nI i).toNatClampNeg) = .ref (N j0) by rw [nI_clamp (by omega), eb]; rfl) ?_
        refine x_dup dJ4_resize_161 rfl ?_
        refine x_astore dJ4_resize_162 (by decide) rfl ?_
        refine x_n_F dJ4_resize_164 ?_
        refine x_aload_n dJ4_resize_167 rfl ?_
        refine x_iload dJ4_resize_168 rfl ?_
        refine x_null dJ4_resize_170 ?_
        refine x_astN dJ4_resize_171 (t := 6) rfl (mS_T hD1) (vp_in_nI (n := i) (by omega) (by omega)) ?_
        rw [show (nI i).toNatClampNeg = i from nI_clamp (by omega)]
        refine xW.eqA (mS_wT hD1) ?_
        refine x_aload dJ4_resize_172 rfl ?_
        refine x_get fgJ4_177_17 dJ4_resize_174 (Or.inl (mS_N hD1 j0l)) rfl ?_
        refine x_topv (show va_rf (NX j0) = .ref (N j1) by rw [en]; rfl) ?_
        refine x_nn_T (tgt := 198) dJ4_resize_177 (by decide) ?_
        refine x_aload dJ4_resize_198 rfl ?_
        refine x_instN dJ4_resize_200 q1471 (Or.inl (mS_N hD1 j0l)) (q := (RJ32, TJ32, 6)) rfl (by decide) ?_
        refine x_if_eqT (tgt := 223) dJ4_resize_203 (by decide) (by decide) ?_
        refine x_null dJ4_resize_223 ?_
        refine x_astoreN dJ4_resize_224 (by decide) rfl ?_
        refine x_null dJ4_resize_226 ?_
        refine x_astoreN dJ4_resize_227 (by decide) rfl ?_
        refine x_null dJ4_resize_229 ?_
        refine x_astoreN dJ4_resize_230 (by decide) rfl ?_
        refine x_null dJ4_resize_232 ?_
        refine x_astoreN dJ4_resize_233 (by decide) rfl ?_
        refine rs_in hn hD1 h5 hi (fun NX9 LH LT HH HT hI9 => ?_) (c - j0) j0 NX none none none none _ (Nat.le_refl _) j0l j0i (rsI_mv (rsI_00 hO) hi (Nat.zero_le _) (fun k _ k2 => j0n k (Nat.zero_le _) k2))
        refine rs_309 hn hD hi hI9 (fun NX8 TN8 a1 a2 x8 x9 x10 x11 x12 x13 => ?_)
        subst a1
        subst a2
        refine x_iinc (v := nI (i + 1)) dJ4_resize_347 rfl (nI_1 _) (by decide) rfl ?_
        refine x_goto (tgt := 151) dJ4_resize_350 (by decide) ?_
        exact ih (i + 1) _ _ _ _ _ _ _ _ _ (by omega) (rs_end hO h0 hi hI9)
theorem mS_alT {B : xA} {m T n c k : Nat} {mo e : xE} {tf : Nat → Option Nat} {N H K V : Nat → Nat} {NX BF AF : Nat → Option Nat} (hD : mD B.2.1 m T N c) : xal (mS B m T n mo tf N H K V NX BF AF c) e k = mS (xup (xbp B k) B.2.1 e) m T n mo tf N H K V NX BF AF c := by
  rw [xal_bp, mS_2]
  unfold mS
  rw [mN_bp, xbp_up, xbp_up, mN_upo (fun j hj => Ne.symm (Nat.ne_of_lt (hD.2.1 j hj).2.2)), xup_comm (Nat.ne_of_lt hD.2.2.2.1), xup_comm (Nat.ne_of_lt hD.2.2.2.2)]
theorem c_J4_resize (g : xG) (B : xA) (m T n c : Nat) (mc : Int32) (es ks vs : Option Nat) (tf : Nat → Option Nat) (N H K V : Nat → Nat) (NX BF AF : Nat → Option Nat) (hn : n = 16 ∨ n = 32) (hD : mD B.2.1 m T N c) (h1 : ∀ i, i < n → tf i = bkF H N n c i) (h2 : ∀ j, j < c → NX j = nxF H N n c j) (h5 : ∀ j, j < c → H j < 40) (h6 : ∀ i k, i < k → k < c → H i ≠ H k) : xC g iJ4_resize 1 [.ref m] (mS B m T n (xLm (some T) es c mc (n / 4 * 3) ks vs (hdF N c) (tlF N c)) tf N H K V NX BF AF c) (xRs fun w A' => w = some (.ref B.2.1) ∧ ∃ NX' tf' TOx, A' = mS (xup (xbp B (2 * n)) T (xQa 6 n TOx)) m B.2.1 (2 * n) (xLm (some B.2.1) es c mc (2 * n / 4 * 3) ks vs (hdF N c) (tlF N c)) tf' N H K V NX' BF AF c ∧ (∀ i, i < 2 * n → tf' i = bkF H N (2 * n) c i) ∧ ∀ j, j < c → NX' j = nxF H N (2 * n) c j) := by
  have h0 : 0 < n := by omega
  show xW g _ _ 0 [some (.ref m), none, none, none, none, none, none, none, none, none, none, none, none, none] [] _ _
  refine x_aload_n dJ4_resize_0 rfl ?_
  refine x_get fgJ4_105_12 dJ4_resize_1 (Or.inl (mS_m hD)) rfl ?_
  refine x_astore_n dJ4_resize_4 (by decide) rfl ?_
  refine x_aload_n dJ4_resize_5 rfl ?_
  refine x_nn_T (tgt := 13) dJ4_resize_6 (by decide) ?_
  refine x_aload_n dJ4_resize_13 rfl ?_
  refine x_alen dJ4_resize_14 (Or.inl (mS_T hD)) (t := 6) rfl (v := nI n) rfl ?_
  refine x_istore_n dJ4_resize_15 (by decide) rfl ?_
  refine x_aload_n dJ4_resize_16 rfl ?_
  refine x_get fgJ4_88_12 dJ4_resize_17 (Or.inl (mS_m hD)) rfl ?_
  refine x_istore_n dJ4_resize_20 (by decide) rfl ?_
  refine x_iconst (v := 0) dJ4_resize_21 rfl ?_
  refine x_istore dJ4_resize_22 (by decide) rfl ?_
  refine x_iload_n dJ4_resize_24 rfl ?_
  refine x_if_leF dJ4_resize_25 67 (by decide) (nI_nle h0 (by omega)) ?_
  refine x_iload_n dJ4_resize_28 rfl ?_
  refine x_ldc (v := 1073741824) q649 dJ4_resize_29 ?_
  refine x_icmp_ltT (tgt := 42) dJ4_resize_31 (by decide) (by rcases hn with rfl | rfl <;> decide) ?_
  refine x_iload_n dJ4_resize_42 rfl ?_
  refine x_iconst (v := 1) dJ4_resize_43 rfl ?_
  refine x_ishl dJ4_resize_44 ?_
  refine x_top (y := nI (2 * n)) (sh1_n hn) ?_
  refine x_dup dJ4_resize_45 rfl ?_
  refine x_istore dJ4_resize_46 (by decide) rfl ?_
  refine x_ldc (v := 1073741824) q649 dJ4_resize_48 ?_
  refine x_icmp_geF dJ4_resize_50 85 (by decide) (by rcases hn with rfl | rfl <;> decide) ?_
  refine x_iload_n dJ4_resize_53 rfl ?_
  refine x_bipush (v := 16) dJ4_resize_54 (by decide) ?_
  refine x_icmp_ltF dJ4_resize_56 85 (by decide) (by rcases hn with rfl | rfl <;> decide) ?_
  refine x_iload_n dJ4_resize_59 rfl ?_
  refine x_iconst (v := 1) dJ4_resize_60 rfl ?_
  refine x_ishl dJ4_resize_61 ?_
  refine x_top (y := nI (2 * n / 4 * 3)) (sh1_t hn) ?_
  refine x_istore dJ4_resize_62 (by decide) rfl ?_
  refine x_goto (tgt := 85) dJ4_resize_64 (by decide) ?_
  refine x_iload dJ4_resize_85 rfl ?_
  refine x_if_neT (tgt := 125) dJ4_resize_87 (by decide) (nI_ne0 (by omega) (by omega)) ?_
  refine x_aload_n dJ4_resize_125 rfl ?_
  refine x_iload dJ4_resize_126 rfl ?_
  refine x_put fpJ4_88_12 dJ4_resize_128 (mS_m hD) ⟨rfl, rfl⟩ (by exact Nat.le_of_ble_eq_true rfl) ?_
  refine xW.eqA (mS_wm hD) ?_
  refine x_iload dJ4_resize_131 rfl ?_
  refine x_newq (t := 6) rfl q1469 q1470 dJ4_resize_133 (nI_pos (by omega)) (N' := 2 * n) (nI_clamp (by omega)) (by omega) ?_
  refine xW.eqA (mS_alT hD) ?_
  rw [mS_2]
  have hD1 := mD_1 (n := 2 * n) (e := xQa 6 (2 * n) fun _ => none) hD
  refine x_astore dJ4_resize_136 (by decide) rfl ?_
  refine x_aload_n dJ4_resize_138 rfl ?_
  refine x_aload dJ4_resize_139 rfl ?_
  refine x_put fpJ4_105_12 dJ4_resize_141 (mS_m hD1) ⟨rfl, rfl⟩ (by exact Nat.le_of_ble_eq_true rfl) ?_
  refine xW.eqA (mS_wm hD1) ?_
  refine x_aload_n dJ4_resize_144 rfl ?_
  refine x_n_F dJ4_resize_145 ?_
  refine x_iconst (v := 0) dJ4_resize_148 rfl ?_
  refine x_istore dJ4_resize_149 (by decide) rfl ?_
  exact rs_out g B m T n c mc es ks vs N H K V BF AF hn hD h5 n 0 tf (fun _ => none) NX _ _ _ _ _ _ (by omega) ⟨fun k _ hk => h1 k hk, fun r _ h => absurd h (Nat.not_lt_zero _), fun _ _ _ => rfl, fun j _ h => absurd h (Nat.not_lt_zero _), fun j hj _ => h2 j hj⟩
theorem f_16 : FP.fmul (FP.i2f 16) 1061158912 = 1094713344 := by decide +kernel
theorem f_12 : FP.f2i 1094713344 = 12 := by decide +kernel
theorem f_lt : Op.cmpValue (FP.fcmp 1094713344 1317011456) .g = -1 := by decide +kernel
theorem c_J4_resize0 (g : xG) (A : xA) (m : Nat) (mc : Int32) (es ks vs : Option Nat) (hp : A.1 m = some (.inr (12, [.null, va_rf es, .int 0, .int mc, .int 0, .float LF, va_rf ks, va_rf vs, .null, .null, .int 0, .int 0]))) (hlt : m < A.2.1) : xC g iJ4_resize 1 [.ref m] A (xRet (some (.ref A.2.1)) (ov (xbp A 16) [(A.2.1, xQa 6 16 fun _ => none), (m, .inr (12, [.ref A.2.1, va_rf es, .int 0, .int mc, .int 12, .float LF, va_rf ks, va_rf vs, .null, .null, .int 0, .int 0]))])) := by
  show xW g _ _ 0 [some (.ref m), none, none, none, none, none, none, none, none, none, none, none, none, none] [] _ _
  refine xW.at1 hp ?_
  have hD : ovD [m] := ovD_1
  have hL : ovL A.2.1 [m] := fun b hb => by simp at hb; omega
  refine x_aload_n dJ4_resize_0 rfl ?_
  refine x_get fgJ4_105_12 dJ4_resize_1 (Or.inl (ov_at hD (i := 0) rfl)) rfl ?_
  refine x_astore_nN dJ4_resize_4 (by decide) rfl ?_
  refine x_aload_nN dJ4_resize_5 rfl ?_
  refine x_nn_F dJ4_resize_6 ?_
  refine x_iconst (v := 0) dJ4_resize_9 rfl ?_
  refine x_goto (tgt := 15) dJ4_resize_10 (by decide) ?_
  refine x_istore_n dJ4_resize_15 (by decide) rfl ?_
  refine x_aload_n dJ4_resize_16 rfl ?_
  refine x_get fgJ4_88_12 dJ4_resize_17 (Or.inl (ov_at hD (i := 0) rfl)) rfl ?_
  refine x_istore_n dJ4_resize_20 (by decide) rfl ?_
  refine x_iconst (v := 0) dJ4_resize_21 rfl ?_
  refine x_istore dJ4_resize_22 (by decide) rfl ?_
  refine x_iload_n dJ4_resize_24 rfl ?_
  refine x_if_leT (tgt := 67) dJ4_resize_25 (by decide) (by decide) ?_
  refine x_iload_n dJ4_resize_67 rfl ?_
  refine x_if_leT (tgt := 77) dJ4_resize_68 (by decide) (by decide) ?_
  refine x_bipush (v := 16) dJ4_resize_77 (by decide) ?_
  refine x_istore dJ4_resize_79 (by decide) rfl ?_
  refine x_bipush (v := 12) dJ4_resize_81 (by decide) ?_
  refine x_istore dJ4_resize_83 (by decide) rfl ?_
  refine x_iload dJ4_resize_85 rfl ?_
  refine x_if_neT (tgt := 125) dJ4_resize_87 (by decide) (by decide) ?_
  refine x_aload_n dJ4_resize_125 rfl ?_
  refine x_iload dJ4_resize_126 rfl ?_
  refine v_put hD (i := 0) rfl fpJ4_88_12 dJ4_resize_128 ⟨rfl, rfl⟩ (by exact Nat.le_of_ble_eq_true rfl) ?_
  refine x_iload dJ4_resize_131 rfl ?_
  refine v_newq (t := 6) rfl q1469 q1470 dJ4_resize_133 (by decide) (N' := 16) (by decide) (by decide) ?_
  have hD1_1 := ovD_cons hL hD
  have hL1_1 := ovL_cons hL
  refine x_astore dJ4_resize_136 (by decide) rfl ?_
  refine x_aload_n dJ4_resize_138 rfl ?_
  refine x_aload dJ4_resize_139 rfl ?_
  refine v_put hD1_1 (i := 1) rfl fpJ4_105_12 dJ4_resize_141 ⟨rfl, rfl⟩ (by exact Nat.le_of_ble_eq_true rfl) ?_
  refine x_aload_nN dJ4_resize_144 rfl ?_
  refine x_n_T (tgt := 353) dJ4_resize_145 (by decide) ?_
  refine x_aload dJ4_resize_353 rfl ?_
  exact x_areturn dJ4_resize_355 rfl (Or.inr ⟨_, rfl⟩) (Or.inr ⟨_, rfl⟩) ⟨rfl, rfl⟩
theorem c_J4_resize16 (g : xG) (A : xA) (m : Nat) (mc : Int32) (es ks vs : Option Nat) (hp : A.1 m = some (.inr (12, [.null, va_rf es, .int 0, .int mc, .int 16, .float LF, va_rf ks, va_rf vs, .null, .null, .int 0, .int 0]))) (hlt : m < A.2.1) : xC g iJ4_resize 1 [.ref m] A (xRet (some (.ref A.2.1)) (ov (xbp A 16) [(A.2.1, xQa 6 16 fun _ => none), (m, .inr (12, [.ref A.2.1, va_rf es, .int 0, .int mc, .int 12, .float LF, va_rf ks, va_rf vs, .null, .null, .int 0, .int 0]))])) := by
  show xW g _ _ 0 [some (.ref m), none, none, none, none, none, none, none, none, none, none, none, none, none] [] _ _
  refine xW.at1 hp ?_
  have hD : ovD [m] := ovD_1
  have hL : ovL A.2.1 [m] := fun b hb => by simp at hb; omega
  refine x_aload_n dJ4_resize_0 rfl ?_
  refine x_get fgJ4_105_12 dJ4_resize_1 (Or.inl (ov_at hD (i := 0) rfl)) rfl ?_
  refine x_astore_nN dJ4_resize_4 (by decide) rfl ?_
  refine x_aload_nN dJ4_resize_5 rfl ?_
  refine x_nn_F dJ4_resize_6 ?_
  refine x_iconst (v := 0) dJ4_resize_9 rfl ?_
  refine x_goto (tgt := 15) dJ4_resize_10 (by decide) ?_
  refine x_istore_n dJ4_resize_15 (by decide) rfl ?_
  refine x_aload_n dJ4_resize_16 rfl ?_
  refine x_get fgJ4_88_12 dJ4_resize_17 (Or.inl (ov_at hD (i := 0) rfl)) rfl ?_
  refine x_istore_n dJ4_resize_20 (by decide) rfl ?_
  refine x_iconst (v := 0) dJ4_resize_21 rfl ?_
  refine x_istore dJ4_resize_22 (by decide) rfl ?_
  refine x_iload_n dJ4_resize_24 rfl ?_
  refine x_if_leT (tgt := 67) dJ4_resize_25 (by decide) (by decide) ?_
  refine x_iload_n dJ4_resize_67 rfl ?_
  refine x_if_leF dJ4_resize_68 77 (by decide) (by decide) ?_
  refine x_iload_n dJ4_resize_71 rfl ?_
  refine x_istore dJ4_resize_72 (by decide) rfl ?_
  refine x_goto (tgt := 85) dJ4_resize_74 (by decide) ?_
  refine x_iload dJ4_resize_85 rfl ?_
  refine x_if_neF dJ4_resize_87 125 (by decide) rfl ?_
  refine x_iload dJ4_resize_90 rfl ?_
  refine x_i2f dJ4_resize_92 ?_
  refine x_aload_n dJ4_resize_93 rfl ?_
  refine x_get fgJ4_81_12 dJ4_resize_94 (Or.inl (ov_at hD (i := 0) rfl)) rfl ?_
  refine x_fmul dJ4_resize_97 (by rw [f_16]; unfold vf_n32; decide) ?_
  refine x_topv (w := .float 1094713344) (congrArg Value.float f_16) ?_
  refine x_fstore dJ4_resize_98 (by decide) rfl ?_
  refine x_iload dJ4_resize_100 rfl ?_
  refine x_ldc (v := 1073741824) q649 dJ4_resize_102 ?_
  refine x_icmp_geF dJ4_resize_104 121 (by decide) (by decide) ?_
  refine x_fload dJ4_resize_107 rfl ?_
  refine x_ldcf q1468 dJ4_resize_109 ?_
  refine x_fcmp dJ4_resize_111 ?_
  refine x_top (y := -1) f_lt ?_
  refine x_if_geF dJ4_resize_112 121 (by decide) (by decide) ?_
  refine x_fload dJ4_resize_115 rfl ?_
  refine x_f2i dJ4_resize_117 ?_
  refine x_top (y := 12) f_12 ?_
  refine x_goto (tgt := 123) dJ4_resize_118 (by decide) ?_
  refine x_istore dJ4_resize_123 (by decide) rfl ?_
  refine x_aload_n dJ4_resize_125 rfl ?_
  refine x_iload dJ4_resize_126 rfl ?_
  refine v_put hD (i := 0) rfl fpJ4_88_12 dJ4_resize_128 ⟨rfl, rfl⟩ (by exact Nat.le_of_ble_eq_true rfl) ?_
  refine x_iload dJ4_resize_131 rfl ?_
  refine v_newq (t := 6) rfl q1469 q1470 dJ4_resize_133 (by decide) (N' := 16) (by decide) (by decide) ?_
  have hD1_1 := ovD_cons hL hD
  have hL1_1 := ovL_cons hL
  refine x_astore dJ4_resize_136 (by decide) rfl ?_
  refine x_aload_n dJ4_resize_138 rfl ?_
  refine x_aload dJ4_resize_139 rfl ?_
  refine v_put hD1_1 (i := 1) rfl fpJ4_105_12 dJ4_resize_141 ⟨rfl, rfl⟩ (by exact Nat.le_of_ble_eq_true rfl) ?_
  refine x_aload_nN dJ4_resize_144 rfl ?_
  refine x_n_T (tgt := 353) dJ4_resize_145 (by decide) ?_
  refine x_aload dJ4_resize_353 rfl ?_
  exact x_areturn dJ4_resize_355 rfl (Or.inr ⟨_, rfl⟩) (Or.inr ⟨_, rfl⟩) ⟨rfl, rfl⟩
