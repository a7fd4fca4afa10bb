/-! A HALL ON THE HEAP: tags tell whose a cell is -/
def hst (τ : Nat → Nat) (A : xA) (τ' : Nat → Nat) (A' : xA) (c s : Nat) : Prop := xBd A A' c s ∧ (∀ r, r < A.2.1 → τ' r = τ r) ∧ ∀ r, r < A.2.1 → τ r = 0 → A'.1 r = A.1 r
theorem hst.rf {τ : Nat → Nat} {A : xA} : hst τ A τ A 0 0 := ⟨⟨Nat.le_refl _, Nat.le_refl _, Nat.le_refl _⟩, fun _ _ => rfl, fun _ _ _ => rfl⟩
theorem hst.tr {τ τ' τ'' : Nat → Nat} {A A' A'' : xA} {c s c' s' : Nat} (h : hst τ A τ' A' c s) (k : hst τ' A' τ'' A'' c' s') : hst τ A τ'' A'' (c + c') (s + s') := by
  obtain ⟨⟨a1, a2, a3⟩, a4, a5⟩ := h
  obtain ⟨⟨b1, b2, b3⟩, b4, b5⟩ := k
  exact ⟨⟨by omega, by omega, by omega⟩, fun r hr => (b4 r (by omega)).trans (a4 r hr), fun r hr h0 => (b5 r (by omega) ((a4 r hr).trans h0)).trans (a5 r hr h0)⟩
theorem hst.le {τ τ' : Nat → Nat} {A A' : xA} {c s c' s' : Nat} (h : hst τ A τ' A' c s) (h1 : c ≤ c') (h2 : s ≤ s') : hst τ A τ' A' c' s' := ⟨⟨h.1.1, by have := h.1.2.1; omega, by have := h.1.2.2; omega⟩, h.2⟩
/-- tags: what comes from nx on has tag t -/
def tgU (τ : Nat → Nat) (nx t : Nat) : Nat → Nat := fun r => if r < nx then τ r else t
theorem tgU_o {τ : Nat → Nat} {nx t r : Nat} (h : r < nx) : tgU τ nx t r = τ r := if_pos h
theorem tgU_n {τ : Nat → Nat} {nx t r : Nat} (h : nx ≤ r) : tgU τ nx t r = t := if_neg (by omega)
/-- an immutable cell: of tag 0 on the heap, or a constant -/
def xZ (g : xG) (τ : Nat → Nat) (A : xA) (a : Nat) (e : xE) : Prop := (τ a = 0 ∧ a < A.2.1 ∧ A.1 a = some e) ∨ xcw g a e
theorem xZ.at {g : xG} {τ : Nat → Nat} {A : xA} {a : Nat} {e : xE} (h : xZ g τ A a e) : xAt g A a e := h.imp (fun k => k.2.2) id
theorem xZ.fr {g : xG} {τ τ' : Nat → Nat} {A A' : xA} {a : Nat} {e : xE} (h : xZ g τ A a e) (hx : A.2.1 ≤ A'.2.1) (ht : ∀ r, r < A.2.1 → τ' r = τ r) (h0 : ∀ r, r < A.2.1 → τ r = 0 → A'.1 r = A.1 r) : xZ g τ' A' a e := h.imp (fun k => ⟨(ht a k.2.1).trans k.1, Nat.lt_of_lt_of_le k.2.1 hx, (h0 a k.2.1 k.1).trans k.2.2⟩) id
/-- a cell of tag t -/
def xT (τ : Nat → Nat) (t : Nat) (A : xA) (a : Nat) (e : xE) : Prop := τ a = t ∧ a < A.2.1 ∧ A.1 a = some e
theorem xT.fr {τ τ' : Nat → Nat} {t : Nat} {A A' : xA} {a : Nat} {e : xE} (h : xT τ t A a e) (hx : A.2.1 ≤ A'.2.1) (ht : ∀ r, r < A.2.1 → τ' r = τ r) (h0 : ∀ r, r < A.2.1 → τ r = t → A'.1 r = A.1 r) : xT τ' t A' a e := ⟨(ht a h.2.1).trans h.1, Nat.lt_of_lt_of_le h.2.1 hx, (h0 a h.2.1 h.1).trans h.2.2⟩
/-- the name of number v -/
def nmV (f : Nat → Int32) : Nat → Nat
  | 0 => 0
  | n + 1 => 32 * nmV f n + ((f n).toNatClampNeg - 96)
def Nm (g : xG) (τ : Nat → Nat) (A : xA) (a : Nat) (v : Int32) : Prop := ∃ (b len : Nat) (f : Nat → Int32) (hz hy : Int32), xZ g τ A a (.inr (15, [.ref b, .int 0, .int hz, .int hy])) ∧ xZ g τ A b (.inl (1, len, .inl f)) ∧ 1 ≤ len ∧ len ≤ 6 ∧ (∀ i, i < len → ∃ c : Nat, 1 ≤ c ∧ c ≤ 26 ∧ f i = nI (96 + c)) ∧ v = nI (nmV f len)
theorem Nm.fr {g : xG} {τ τ' : Nat → Nat} {A A' : xA} {a : Nat} {v : Int32} (h : Nm g τ A a v) (hx : A.2.1 ≤ A'.2.1) (ht : ∀ r, r < A.2.1 → τ' r = τ r) (h0 : ∀ r, r < A.2.1 → τ r = 0 → A'.1 r = A.1 r) : Nm g τ' A' a v := by
  obtain ⟨b, len, f, hz, hy, k1, k2, k3⟩ := h
  exact ⟨b, len, f, hz, hy, k1.fr hx ht h0, k2.fr hx ht h0, k3⟩
/-- an array list of objects x, its cells of tag t -/
def hAl (E τ : Nat → Nat) (t : Nat) (A : xA) (l n : Nat) (x : Nat → Nat) : Prop := ∃ (mc : Int32) (ed cap : Nat) (f : Nat → Option Nat), xT τ t A l (xAl mc ed n) ∧ n ≤ cap ∧ (∀ i, i < n → f i = some (x i)) ∧ ((n = 0 ∧ cap = 0 ∧ ed = E 0) ∨ (cap = 10 ∧ xT τ t A ed (xQa 5 cap f)))
theorem hAl.fr {E τ τ' : Nat → Nat} {t : Nat} {A A' : xA} {l n : Nat} {x : Nat → Nat} (h : hAl E τ t A l n x) (hx : A.2.1 ≤ A'.2.1) (ht : ∀ r, r < A.2.1 → τ' r = τ r) (h0 : ∀ r, r < A.2.1 → τ r = t → A'.1 r = A.1 r) : hAl E τ' t A' l n x := by
  obtain ⟨mc, ed, cap, f, k1, k2, k3, k4⟩ := h
  exact ⟨mc, ed, cap, f, k1.fr hx ht h0, k2, k3, k4.imp id (fun k => ⟨k.1, k.2.fr hx ht h0⟩)⟩
theorem hAl.cg {E τ : Nat → Nat} {t : Nat} {A : xA} {l n : Nat} {x x' : Nat → Nat} (h : hAl E τ t A l n x) (hx : ∀ i, i < n → x' i = x i) : hAl E τ t A l n x' := by
  obtain ⟨mc, ed, cap, f, k1, k2, k3, k4⟩ := h
  exact ⟨mc, ed, cap, f, k1, k2, fun i hi => by rw [hx i hi]; exact k3 i hi, k4⟩
/-- a linked map, its cells of tag t, its views of tag 0 -/
def hMp (τ : Nat → Nat) (t : Nat) (A : xA) (m c : Nat) (N H K V : Nat → Nat) : Prop := ∃ (es ks vs : Option Nat), MP (fun r => τ r = t) A m c N H K V es ks vs ∧ (∀ w, es = some w → xT τ 0 A w (xVw 20 m)) ∧ (∀ w, ks = some w → xT τ 0 A w (xVw 23 m)) ∧ ∀ w, vs = some w → xT τ 0 A w (xVw 24 m)
theorem hMp.fr {τ τ' : Nat → Nat} {t : Nat} {A A' : xA} {m c : Nat} {N H K V : Nat → Nat} (h : hMp τ t A m c N H K V) (hx : A.2.1 ≤ A'.2.1) (ht : ∀ r, r < A.2.1 → τ' r = τ r) (h0 : ∀ r, r < A.2.1 → τ r = 0 → A'.1 r = A.1 r) (h1 : ∀ r, r < A.2.1 → τ r = t → A'.1 r = A.1 r) : hMp τ' t A' m c N H K V := by
  obtain ⟨es, ks, vs, k1, k2, k3, k4⟩ := h
  exact ⟨es, ks, vs, k1.fr hx h1 (fun r hr e => (ht r hr).trans e), fun w hw => (k2 w hw).fr hx ht h0, fun w hw => (k3 w hw).fr hx ht h0, fun w hw => (k4 w hw).fr hx ht h0⟩
/-- a key of number q -/
def hKy (g : xG) (τ : Nat → Nat) (A : xA) (a q : Nat) : Prop := xT τ 0 A a (.inr (4, [.int (nI (q / 4)), .int (nI (q % 4))]))
abbrev xHl (S : Nat → Int32) (st fl rl pm fs : Nat) : xE := .inr (2, [.int (S 0), .int (S 1), .int (S 2), .int (S 3), .int (S 4), .int (S 15), .int (S 16), .int (S 17), .int (S 18), .int (S 7), .int (S 8), .int (S 5), .int (S 6), .ref st, .ref fl, .ref rl, .ref pm, .ref fs])
/-- the shape σ: 0 the hall's own (0 itself, 1 stretches, 2 fiddlers, 3 row, 4 pegs, 5 forgiven, 6 its map); 1 fiddlers, 2 their tuned, 3 their names; 4 nodes, 5 keys, 6 pegs; 7 nodes, 8 numbers, 9 keys, 10 values of the forgiven -/
def hFd (g : xG) (τ : Nat → Nat) (σ : Nat → Nat → Nat) (tf : Nat → Nat → Int32) (S Y : Nat → Int32) (A : xA) (i : Nat) : Prop :=
  xT τ (20 + i) A (σ 1 i) (xFd (nI i) (hs S i 1) (σ 3 i) (σ 2 i) (hs S i 3) (hs S i 4) (Y i)) ∧ xT τ (40 + i) A (σ 2 i) (xI4 (tf i)) ∧ (0 < hs S i 4 → ∀ k, k < 4 → tf i k = hs S i (5 + k)) ∧ hs S i 2 = flI (0 < hs S i 4) ∧ (∃ pt : Nat, pt ≤ 8 ∧ hs S i 1 = nI pt) ∧ Nm g τ A (σ 3 i) (hs S i 0)
def hPg (g : xG) (τ : Nat → Nat) (σ : Nat → Nat → Nat) (S : Nat → Int32) (A : xA) (k : Nat) : Prop :=
  xT τ (100 + k) A (σ 6 k) (xPg (hs S (k / 4) (9 + k % 4)) (hs S (k / 4) (17 + k % 4)) (hs S (k / 4) (13 + k % 4))) ∧ hKy g τ A (σ 5 k) k ∧ (hs S (k / 4) (13 + k % 4) = 0 ∨ hs S (k / 4) (13 + k % 4) = 1) ∧ ∃ gr : Nat, gr ≤ 9 ∧ hs S (k / 4) (17 + k % 4) = nI gr
def fgN (S : Nat → Int32) : Nat := (S 19).toNatClampNeg
def HB (g : xG) (E τ : Nat → Nat) (σ : Nat → Nat → Nat) (tf : Nat → Nat → Int32) (S Y : Nat → Int32) (A : xA) : Prop :=
  xT τ 1 A (σ 0 0) (xHl S (σ 0 1) (σ 0 2) (σ 0 3) (σ 0 4) (σ 0 5)) ∧
  (∃ sf, xT τ 2 A (σ 0 1) (xI4 sf) ∧ ∀ k, k < 4 → sf k = S (9 + k)) ∧
  hAl E τ 3 A (σ 0 2) (manyS S) (σ 1) ∧ hAl E τ 4 A (σ 0 3) (rowS S) (fun p => σ 1 (plS S p)) ∧
  (∀ i, i < manyS S → hFd g τ σ tf S Y A i) ∧
  hMp τ 5 A (σ 0 4) (4 * manyS S) (σ 4) (fun j => j) (σ 5) (σ 6) ∧ (∀ k, k < 4 * manyS S → hPg g τ σ S A k) ∧
  xT τ 6 A (σ 0 5) (.inr (13, [.ref (σ 0 6)])) ∧ hMp τ 7 A (σ 0 6) (fgN S) (σ 7) (σ 8) (σ 9) (σ 10) ∧
  (∀ j, j < fgN S → hKy g τ A (σ 9 j) (σ 8 j) ∧ S (30 + j) = nI (σ 8 j)) ∧ rOk S ∧ S 19 = nI (fgN S) ∧ fgN S ≤ 40
theorem tOk_le {S : Nat → Int32} (h : tOk S) : manyS S ≤ 10 ∧ rowS S ≤ 10 := by
  exact ⟨h.1.2, h.2.1.2⟩
def tfU (tf : Nat → Nat → Int32) (f : Nat) (w : Nat → Int32) : Nat → Nat → Int32 := fun i => if i = f then w else tf i
theorem tfU_s {tf : Nat → Nat → Int32} {f : Nat} {w : Nat → Int32} : tfU tf f w f = w := if_pos rfl
theorem tfU_n {tf : Nat → Nat → Int32} {f i : Nat} {w : Nat → Int32} (h : i ≠ f) : tfU tf f w i = tf i := if_neg h
section HB
variable {g : xG} {E τ τ' : Nat → Nat} {σ : Nat → Nat → Nat} {tf : Nat → Nat → Int32} {S S' Y Y' : Nat → Int32} {A A' : xA}
theorem hFd.fr {i : Nat} (h : hFd g τ σ tf S Y A i) (hx : A.2.1 ≤ A'.2.1) (ht : ∀ r, r < A.2.1 → τ' r = τ r) (h0 : ∀ r, r < A.2.1 → τ r = 0 → A'.1 r = A.1 r) (h1 : ∀ r, r < A.2.1 → τ r = 20 + i ∨ τ r = 40 + i → A'.1 r = A.1 r) (hS : ∀ w, w < 9 → hs S' i w = hs S i w) (hY : Y' i = Y i) : hFd g τ' σ tf S' Y' A' i := by
  obtain ⟨k1, k2, k3, k4, k5⟩ := h
  unfold hFd
  rw [hS 1 (by omega), hS 3 (by omega), hS 4 (by omega), hS 2 (by omega), hS 0 (by omega), hY]
  exact ⟨k1.fr hx ht (fun r a b => h1 r a (Or.inl b)), k2.fr hx ht (fun r a b => h1 r a (Or.inr b)), fun c k hk => by rw [hS _ (by omega)]; exact k3 c k hk, k4, k5.1, k5.2.fr hx ht h0⟩
theorem hPg.fr {k : Nat} (h : hPg g τ σ S A k) (hx : A.2.1 ≤ A'.2.1) (ht : ∀ r, r < A.2.1 → τ' r = τ r) (h0 : ∀ r, r < A.2.1 → τ r = 0 → A'.1 r = A.1 r) (h1 : ∀ r, r < A.2.1 → τ r = 100 + k → A'.1 r = A.1 r) (hS : ∀ w, w = 9 + k % 4 ∨ w = 13 + k % 4 ∨ w = 17 + k % 4 → hs S' (k / 4) w = hs S (k / 4) w) : hPg g τ' σ S' A' k := by
  obtain ⟨k1, k2, k3, k4⟩ := h
  unfold hPg
  rw [hS _ (Or.inl rfl), hS _ (Or.inr (Or.inl rfl)), hS _ (Or.inr (Or.inr rfl))]
  exact ⟨k1.fr hx ht h1, xT.fr k2 hx ht h0, k3, k4⟩
/-- a hall stays if its cells stay -/
theorem HB.ext (h : HB g E τ σ tf S Y A) (hx : A.2.1 ≤ A'.2.1) (ht : ∀ r, r < A.2.1 → τ' r = τ r) (h0 : ∀ r, r < A.2.1 → A'.1 r = A.1 r) : HB g E τ' σ tf S Y A' := by
  obtain ⟨a1, ⟨sf, a2, a3⟩, a4, a5, a6, a7, a8, a9, a10, a11, a12⟩ := h
  have h1 : ∀ t r, r < A.2.1 → τ r = t → A'.1 r = A.1 r := fun _ r hr _ => h0 r hr
  exact ⟨a1.fr hx ht (h1 _), ⟨sf, a2.fr hx ht (h1 _), a3⟩, a4.fr hx ht (h1 _), a5.fr hx ht (h1 _), fun i hi => (a6 i hi).fr hx ht (h1 _) (fun r a _ => h0 r a) (fun _ _ => rfl) rfl, a7.fr hx ht (h1 _) (h1 _), fun k hk => (a8 k hk).fr hx ht (h1 _) (h1 _) (fun _ _ => rfl), a9.fr hx ht (h1 _), a10.fr hx ht (h1 _) (h1 _), fun j hj => ⟨xT.fr (a11 j hj).1 hx ht (h1 _), (a11 j hj).2⟩, a12⟩
theorem hst_up {a : Nat} {e : xE} (hne : τ a ≠ 0) : hst τ A τ (xup A a e) 0 0 := ⟨⟨Nat.le_refl _, Nat.le_refl _, Nat.le_refl _⟩, fun _ _ => rfl, fun r _ h0 => xup_ne (fun q => hne (by rw [← q]; exact h0))⟩
theorem xup_t {a t : Nat} {e : xE} (ha : τ a ≠ t) : ∀ r, r < A.2.1 → τ r = t → (xup A a e).1 r = A.1 r := fun r _ h => xup_ne (fun q => ha (by rw [← q]; exact h))
theorem manyS_eq (h : S' 13 = S 13) : manyS S' = manyS S := by unfold manyS; rw [h]
theorem rowS_eq (h : S' 14 = S 14) : rowS S' = rowS S := by unfold rowS; rw [h]
theorem fgN_eq (h : S' 19 = S 19) : fgN S' = fgN S := by unfold fgN; rw [h]
theorem rOk_eq (h : rOk S) (h1 : ∀ i, i = 13 ∨ i = 14 ∨ (20 ≤ i ∧ i < 30) → S' i = S i) : rOk S' := hdR.ok h1 h
/-- the hall's own numbers change -/
theorem HB.uh (h : HB g E τ σ tf S Y A) (hS : ∀ i, ¬ (i < 9 ∨ (15 ≤ i ∧ i < 19)) → S' i = S i) : HB g E τ σ tf S' Y (xup A (σ 0 0) (xHl S' (σ 0 1) (σ 0 2) (σ 0 3) (σ 0 4) (σ 0 5))) := by
  obtain ⟨a1, ⟨sf, a2, a3⟩, a4, a5, a6, a7, a8, a9, a10, a11, a12, a13, a14⟩ := h
  have ht : ∀ r, r < A.2.1 → τ r = τ r := fun _ _ => rfl
  have hx : A.2.1 ≤ (xup A (σ 0 0) (xHl S' (σ 0 1) (σ 0 2) (σ 0 3) (σ 0 4) (σ 0 5))).2.1 := Nat.le_refl _
  have t1 := a1.1
  have u := fun (t : Nat) (ht : 1 ≠ t) => xup_t (A := A) (e := xHl S' (σ 0 1) (σ 0 2) (σ 0 3) (σ 0 4) (σ 0 5)) (a := σ 0 0) (τ := τ) (t := t) (by rw [t1]; exact ht)
  have eb : ∀ i w, w < 21 → hs S' i w = hs S i w := fun i w hw => hS _ (by omega)
  unfold HB
  rw [manyS_eq (hS 13 (by omega)), rowS_eq (hS 14 (by omega)), fgN_eq (hS 19 (by omega))]
  refine ⟨⟨t1, a1.2.1, xup_self⟩, ⟨sf, a2.fr hx ht (u 2 (by omega)), fun k hk => (a3 k hk).trans (hS _ (by omega)).symm⟩, a4.fr hx ht (u 3 (by omega)), ?_, fun i hi => (a6 i hi).fr hx ht (u 0 (by omega)) (fun r a b => b.elim (u _ (by omega) r a) (u _ (by omega) r a)) (fun w hw => eb i w (by omega)) rfl, a7.fr hx ht (u 0 (by omega)) (u 5 (by omega)), fun k hk => (a8 k hk).fr hx ht (u 0 (by omega)) (u _ (by omega)) (fun w hw => eb _ _ (by omega)), a9.fr hx ht (u 6 (by omega)), a10.fr hx ht (u 0 (by omega)) (u 7 (by omega)), fun j hj => ⟨xT.fr (a11 j hj).1 hx ht (u 0 (by omega)), (hS _ (by omega)).trans (a11 j hj).2⟩, rOk_eq a12 (fun i hi => hS i (by omega)), (hS 19 (by omega)).trans a13, a14⟩
  have e : (fun p => σ 1 (plS S' p)) = fun p => σ 1 (plS S p) := by
    funext p
    unfold plS
    rw [hS _ (by omega)]
  rw [e]
  exact a5.fr hx ht (u 4 (by omega))
/-- a peg changes -/
theorem HB.up (h : HB g E τ σ tf S Y A) {f q : Nat} (hf : f < manyS S) (hq : q < 4) (hS : ∀ i, ¬ (i = 70 + 21 * f + (9 + q) ∨ i = 70 + 21 * f + (13 + q) ∨ i = 70 + 21 * f + (17 + q)) → S' i = S i) (hb : hs S' f (13 + q) = 0 ∨ hs S' f (13 + q) = 1) (hg : ∃ gr : Nat, gr ≤ 9 ∧ hs S' f (17 + q) = nI gr) : HB g E τ σ tf S' Y (xup A (σ 6 (4 * f + q)) (xPg (hs S' f (9 + q)) (hs S' f (17 + q)) (hs S' f (13 + q)))) := by
  obtain ⟨a1, ⟨sf, a2, a3⟩, a4, a5, a6, a7, a8, a9, a10, a11, a12, a13, a14⟩ := h
  obtain ⟨hm, hr⟩ := tOk_le a12.1
  generalize he : xPg (hs S' f (9 + q)) (hs S' f (17 + q)) (hs S' f (13 + q)) = e
  have ht : ∀ r, r < A.2.1 → τ r = τ r := fun _ _ => rfl
  have hx : A.2.1 ≤ (xup A (σ 6 (4 * f + q)) e).2.1 := Nat.le_refl _
  have k0 := a8 (4 * f + q) (by omega)
  have t1 := k0.1.1
  have u := fun (t : Nat) (ht : 100 + (4 * f + q) ≠ t) => xup_t (A := A) (e := e) (a := σ 6 (4 * f + q)) (τ := τ) (t := t) (by rw [t1]; exact ht)
  have eb : ∀ i w, w < 9 → hs S' i w = hs S i w := fun i w hw => hS _ (by omega)
  unfold HB
  rw [manyS_eq (hS 13 (by omega)), rowS_eq (hS 14 (by omega)), fgN_eq (hS 19 (by omega))]
  refine ⟨?_, ⟨sf, a2.fr hx ht (u 2 (by omega)), fun k hk => (a3 k hk).trans (hS _ (by omega)).symm⟩, a4.fr hx ht (u 3 (by omega)), ?_, fun i hi => (a6 i hi).fr hx ht (u 0 (by omega)) (fun r a b => b.elim (u _ (by omega) r a) (u _ (by omega) r a)) (fun w hw => eb i w (by omega)) rfl, a7.fr hx ht (u 0 (by omega)) (u 5 (by omega)), fun k hk => ?_, a9.fr hx ht (u 6 (by omega)), a10.fr hx ht (u 0 (by omega)) (u 7 (by omega)), fun j hj => ⟨xT.fr (a11 j hj).1 hx ht (u 0 (by omega)), (hS _ (by omega)).trans (a11 j hj).2⟩, rOk_eq a12 (fun i hi => hS i (by omega)), (hS 19 (by omega)).trans a13, a14⟩
  · have e2 : xHl S' (σ 0 1) (σ 0 2) (σ 0 3) (σ 0 4) (σ 0 5) = xHl S (σ 0 1) (σ 0 2) (σ 0 3) (σ 0 4) (σ 0 5) := by
      unfold xHl
      rw [hS 0 (by omega), hS 1 (by omega), hS 2 (by omega), hS 3 (by omega), hS 4 (by omega), hS 15 (by omega), hS 16 (by omega), hS 17 (by omega), hS 18 (by omega), hS 7 (by omega), hS 8 (by omega), hS 5 (by omega), hS 6 (by omega)]
    rw [e2]
    exact a1.fr hx ht (u 1 (by omega))
  · refine (a5.fr hx ht (u 4 (by omega))).cg (fun p hp => ?_)
    show σ 1 (plS S' p) = σ 1 (plS S p)
    unfold plS
    rw [hS _ (by omega)]
  · by_cases hkk : k = 4 * f + q
    · subst hkk
      have e1 : (4 * f + q) / 4 = f := by omega
      have e2 : (4 * f + q) % 4 = q := by omega
      unfold hPg
      rw [e1, e2, he]
      exact ⟨⟨t1, k0.1.2.1, xup_self⟩, xT.fr k0.2.1 hx ht (u 0 (by omega)), hb, hg⟩
    · exact (a8 k hk).fr hx ht (u 0 (by omega)) (u _ (by omega)) (fun w hw => hS _ (by omega))
/-- a fiddler's round changes -/
theorem HB.uf (h : HB g E τ σ tf S Y A) {f : Nat} (hf : f < manyS S) (hS : ∀ i, ¬ (70 + 21 * f + 2 ≤ i ∧ i < 70 + 21 * f + 9) → S' i = S i) (hY : ∀ i, i ≠ f → Y' i = Y i) (h1 : 0 < hs S' f 4 → ∀ k, k < 4 → tf f k = hs S' f (5 + k)) (h2 : hs S' f 2 = flI (0 < hs S' f 4)) : HB g E τ σ tf S' Y' (xup A (σ 1 f) (xFd (nI f) (hs S f 1) (σ 3 f) (σ 2 f) (hs S' f 3) (hs S' f 4) (Y' f))) := by
  obtain ⟨a1, ⟨sf, a2, a3⟩, a4, a5, a6, a7, a8, a9, a10, a11, a12, a13, a14⟩ := h
  obtain ⟨hm, hr⟩ := tOk_le a12.1
  generalize he : xFd (nI f) (hs S f 1) (σ 3 f) (σ 2 f) (hs S' f 3) (hs S' f 4) (Y' f) = e
  have ht : ∀ r, r < A.2.1 → τ r = τ r := fun _ _ => rfl
  have hx : A.2.1 ≤ (xup A (σ 1 f) e).2.1 := Nat.le_refl _
  have k0 := a6 f hf
  have t1 := k0.1.1
  have u := fun (t : Nat) (ht : 20 + f ≠ t) => xup_t (A := A) (e := e) (a := σ 1 f) (τ := τ) (t := t) (by rw [t1]; exact ht)
  unfold HB
  rw [manyS_eq (hS 13 (by omega)), rowS_eq (hS 14 (by omega)), fgN_eq (hS 19 (by omega))]
  refine ⟨?_, ⟨sf, a2.fr hx ht (u 2 (by omega)), fun k hk => (a3 k hk).trans (hS _ (by omega)).symm⟩, a4.fr hx ht (u 3 (by omega)), ?_, fun i hi => ?_, a7.fr hx ht (u 0 (by omega)) (u 5 (by omega)), fun k hk => (a8 k hk).fr hx ht (u 0 (by omega)) (u _ (by omega)) (fun w hw => hS _ (by omega)), a9.fr hx ht (u 6 (by omega)), a10.fr hx ht (u 0 (by omega)) (u 7 (by omega)), fun j hj => ⟨xT.fr (a11 j hj).1 hx ht (u 0 (by omega)), (hS _ (by omega)).trans (a11 j hj).2⟩, rOk_eq a12 (fun i hi => hS i (by omega)), (hS 19 (by omega)).trans a13, a14⟩
  · have e2 : xHl S' (σ 0 1) (σ 0 2) (σ 0 3) (σ 0 4) (σ 0 5) = xHl S (σ 0 1) (σ 0 2) (σ 0 3) (σ 0 4) (σ 0 5) := by
      unfold xHl
      rw [hS 0 (by omega), hS 1 (by omega), hS 2 (by omega), hS 3 (by omega), hS 4 (by omega), hS 15 (by omega), hS 16 (by omega), hS 17 (by omega), hS 18 (by omega), hS 7 (by omega), hS 8 (by omega), hS 5 (by omega), hS 6 (by omega)]
    rw [e2]
    exact a1.fr hx ht (u 1 (by omega))
  · refine (a5.fr hx ht (u 4 (by omega))).cg (fun p hp => ?_)
    show σ 1 (plS S' p) = σ 1 (plS S p)
    unfold plS
    rw [hS _ (by omega)]
  · by_cases hi2 : i = f
    · subst hi2
      obtain ⟨b1, b2, b3, b4, b5⟩ := k0
      unfold hFd
      rw [show hs S' i 1 = hs S i 1 from hS _ (by omega), show hs S' i 0 = hs S i 0 from hS _ (by omega), he]
      exact ⟨⟨t1, b1.2.1, xup_self⟩, b2.fr hx ht (u _ (by omega)), h1, h2, b5.1, b5.2.fr hx ht (u 0 (by omega))⟩
    · exact (a6 i hi).fr hx ht (u 0 (by omega)) (fun r a b => b.elim (u _ (by omega) r a) (u _ (by omega) r a)) (fun w hw => hS _ (by omega)) (hY i hi2)
/-- a tuned string is noted -/
theorem HB.ut (h : HB g E τ σ tf S Y A) {f : Nat} (hf : f < manyS S) (hc : ¬ 0 < hs S f 4) (w : Nat → Int32) : HB g E τ σ (tfU tf f w) S Y (xup A (σ 2 f) (xI4 w)) := by
  obtain ⟨a1, ⟨sf, a2, a3⟩, a4, a5, a6, a7, a8, a9, a10, a11, a12, a13, a14⟩ := h
  obtain ⟨hm, hr⟩ := tOk_le a12.1
  have ht : ∀ r, r < A.2.1 → τ r = τ r := fun _ _ => rfl
  have hx : A.2.1 ≤ (xup A (σ 2 f) (xI4 w)).2.1 := Nat.le_refl _
  have k0 := a6 f hf
  have t1 := k0.2.1.1
  have u := fun (t : Nat) (ht : 40 + f ≠ t) => xup_t (A := A) (e := xI4 w) (a := σ 2 f) (τ := τ) (t := t) (by rw [t1]; exact ht)
  refine ⟨a1.fr hx ht (u 1 (by omega)), ⟨sf, a2.fr hx ht (u 2 (by omega)), a3⟩, a4.fr hx ht (u 3 (by omega)), a5.fr hx ht (u 4 (by omega)), fun i hi => ?_, a7.fr hx ht (u 0 (by omega)) (u 5 (by omega)), fun k hk => (a8 k hk).fr hx ht (u 0 (by omega)) (u _ (by omega)) (fun w hw => rfl), a9.fr hx ht (u 6 (by omega)), a10.fr hx ht (u 0 (by omega)) (u 7 (by omega)), fun j hj => ⟨xT.fr (a11 j hj).1 hx ht (u 0 (by omega)), (a11 j hj).2⟩, a12, a13, a14⟩
  by_cases hi2 : i = f
  · subst hi2
    obtain ⟨b1, b2, b3, b4, b5⟩ := k0
    refine ⟨b1.fr hx ht (u _ (by omega)), ⟨t1, b2.2.1, ?_⟩, fun q => absurd q hc, b4, b5.1, b5.2.fr hx ht (u 0 (by omega))⟩
    rw [tfU_s]
    exact xup_self
  · have k1 := (a6 i hi).fr (S' := S) (Y' := Y) hx ht (u 0 (by omega)) (fun r a b => b.elim (u _ (by omega) r a) (u _ (by omega) r a)) (fun _ _ => rfl) rfl
    unfold hFd at k1 ⊢
    rw [tfU_n hi2]
    exact k1
/-- the forgiven change: the map anew -/
def sg7 (σ : Nat → Nat → Nat) (N H K V : Nat → Nat) : Nat → Nat → Nat
  | 7 => N
  | 8 => H
  | 9 => K
  | 10 => V
  | a => σ a
theorem HB.u7 (h : HB g E τ σ tf S Y A) (hx : A.2.1 ≤ A'.2.1) (ht : ∀ r, r < A.2.1 → τ' r = τ r) (h0 : ∀ r, r < A.2.1 → τ r ≠ 7 → A'.1 r = A.1 r) (hS : ∀ i, ¬ (i = 19 ∨ (30 ≤ i ∧ i < 70)) → S' i = S i) {N H K V : Nat → Nat} (h7 : hMp τ' 7 A' (σ 0 6) (fgN S') N H K V) (hk : ∀ j, j < fgN S' → hKy g τ' A' (K j) (H j) ∧ S' (30 + j) = nI (H j)) (h19 : S' 19 = nI (fgN S')) (h40 : fgN S' ≤ 40) : HB g E τ' (sg7 σ N H K V) tf S' Y A' := by
  obtain ⟨a1, ⟨sf, a2, a3⟩, a4, a5, a6, a7, a8, a9, -, -, a12, -, -⟩ := h
  obtain ⟨hm, hr⟩ := tOk_le a12.1
  have u := fun (t : Nat) (ht : t ≠ 7) r (hr : r < A.2.1) (e : τ r = t) => h0 r hr (by rw [e]; exact ht)
  unfold HB
  rw [manyS_eq (hS 13 (by omega)), rowS_eq (hS 14 (by omega))]
  refine ⟨?_, ⟨sf, a2.fr hx ht (u 2 (by omega)), fun k hk => (a3 k hk).trans (hS _ (by omega)).symm⟩, a4.fr hx ht (u 3 (by omega)), ?_, fun i hi => (a6 i hi).fr hx ht (u 0 (by omega)) (fun r a b => b.elim (u _ (by omega) r a) (u _ (by omega) r a)) (fun w hw => hS _ (by omega)) rfl, a7.fr hx ht (u 0 (by omega)) (u 5 (by omega)), fun k hk => (a8 k hk).fr hx ht (u 0 (by omega)) (u _ (by omega)) (fun w hw => hS _ (by omega)), a9.fr hx ht (u 6 (by omega)), h7, hk, rOk_eq a12 (fun i hi => hS i (by omega)), h19, h40⟩
  · have e2 : xHl S' (σ 0 1) (σ 0 2) (σ 0 3) (σ 0 4) (σ 0 5) = xHl S (σ 0 1) (σ 0 2) (σ 0 3) (σ 0 4) (σ 0 5) := by
      unfold xHl
      rw [hS 0 (by omega), hS 1 (by omega), hS 2 (by omega), hS 3 (by omega), hS 4 (by omega), hS 15 (by omega), hS 16 (by omega), hS 17 (by omega), hS 18 (by omega), hS 7 (by omega), hS 8 (by omega), hS 5 (by omega), hS 6 (by omega)]
    show xT τ' 1 A' (σ 0 0) (xHl S' (σ 0 1) (σ 0 2) (σ 0 3) (σ 0 4) (σ 0 5))
    rw [e2]
    exact a1.fr hx ht (u 1 (by omega))
  · refine (a5.fr hx ht (u 4 (by omega))).cg (fun p hp => ?_)
    show σ 1 (plS S' p) = σ 1 (plS S p)
    unfold plS
    rw [hS _ (by omega)]
/-- the pegs' views are made -/
theorem HB.u5 (h : HB g E τ σ tf S Y A) (hx : A.2.1 ≤ A'.2.1) (ht : ∀ r, r < A.2.1 → τ' r = τ r) (h0 : ∀ r, r < A.2.1 → τ r ≠ 5 → A'.1 r = A.1 r) (h5 : hMp τ' 5 A' (σ 0 4) (4 * manyS S) (σ 4) (fun j => j) (σ 5) (σ 6)) : HB g E τ' σ tf S Y A' := by
  obtain ⟨a1, ⟨sf, a2, a3⟩, a4, a5, a6, -, a8, a9, a10, a11, a12, a13, a14⟩ := h
  obtain ⟨hm, hr⟩ := tOk_le a12.1
  have u := fun (t : Nat) (ht : t ≠ 5) r (hr : r < A.2.1) (e : τ r = t) => h0 r hr (by rw [e]; exact ht)
  exact ⟨a1.fr hx ht (u 1 (by omega)), ⟨sf, a2.fr hx ht (u 2 (by omega)), a3⟩, a4.fr hx ht (u 3 (by omega)), a5.fr hx ht (u 4 (by omega)), fun i hi => (a6 i hi).fr hx ht (u 0 (by omega)) (fun r a b => b.elim (u _ (by omega) r a) (u _ (by omega) r a)) (fun _ _ => rfl) rfl, h5, fun k hk => (a8 k hk).fr hx ht (u 0 (by omega)) (u _ (by omega)) (fun _ _ => rfl), a9.fr hx ht (u 6 (by omega)), a10.fr hx ht (u 0 (by omega)) (u 7 (by omega)), fun j hj => ⟨xT.fr (a11 j hj).1 hx ht (u 0 (by omega)), (a11 j hj).2⟩, a12, a13, a14⟩
/-- the row changes -/
theorem HB.u4 (h : HB g E τ σ tf S Y A) (hx : A.2.1 ≤ A'.2.1) (ht : ∀ r, r < A.2.1 → τ' r = τ r) (h0 : ∀ r, r < A.2.1 → τ r ≠ 4 → A'.1 r = A.1 r) (hS : ∀ i, ¬ (i = 14 ∨ (20 ≤ i ∧ i < 30)) → S' i = S i) (hk : rOk S') (h4 : hAl E τ' 4 A' (σ 0 3) (rowS S') (fun p => σ 1 (plS S' p))) : HB g E τ' σ tf S' Y A' := by
  obtain ⟨a1, ⟨sf, a2, a3⟩, a4, -, a6, a7, a8, a9, a10, a11, a12, a13, a14⟩ := h
  obtain ⟨hm, hr⟩ := tOk_le a12.1
  have u := fun (t : Nat) (ht : t ≠ 4) r (hr : r < A.2.1) (e : τ r = t) => h0 r hr (by rw [e]; exact ht)
  unfold HB
  rw [manyS_eq (hS 13 (by omega)), fgN_eq (hS 19 (by omega))]
  refine ⟨?_, ⟨sf, a2.fr hx ht (u 2 (by omega)), fun k hk => (a3 k hk).trans (hS _ (by omega)).symm⟩, a4.fr hx ht (u 3 (by omega)), h4, fun i hi => (a6 i hi).fr hx ht (u 0 (by omega)) (fun r a b => b.elim (u _ (by omega) r a) (u _ (by omega) r a)) (fun w hw => hS _ (by omega)) rfl, a7.fr hx ht (u 0 (by omega)) (u 5 (by omega)), fun k hk => (a8 k hk).fr hx ht (u 0 (by omega)) (u _ (by omega)) (fun w hw => hS _ (by omega)), a9.fr hx ht (u 6 (by omega)), a10.fr hx ht (u 0 (by omega)) (u 7 (by omega)), fun j hj => ⟨xT.fr (a11 j hj).1 hx ht (u 0 (by omega)), (hS _ (by omega)).trans (a11 j hj).2⟩, hk, (hS 19 (by omega)).trans a13, a14⟩
  have e2 : xHl S' (σ 0 1) (σ 0 2) (σ 0 3) (σ 0 4) (σ 0 5) = xHl S (σ 0 1) (σ 0 2) (σ 0 3) (σ 0 4) (σ 0 5) := by
    unfold xHl
    rw [hS 0 (by omega), hS 1 (by omega), hS 2 (by omega), hS 3 (by omega), hS 4 (by omega), hS 15 (by omega), hS 16 (by omega), hS 17 (by omega), hS 18 (by omega), hS 7 (by omega), hS 8 (by omega), hS 5 (by omega), hS 6 (by omega)]
  rw [e2]
  exact a1.fr hx ht (u 1 (by omega))
end HB
