set_option maxRecDepth 100000
/-! OLD CELLS STAY BUT FOR THE VIEWS OF MAPS -/
abbrev x12 (f : Nat → Value) (u v w : Value) : xE := .inr (12, [f 0, u, f 2, f 3, f 4, f 5, v, w, f 8, f 9, f 10, f 11])
theorem x12_inj {f f' : Nat → Value} {u v w u' v' w' : Value} (h : x12 f u v w = x12 f' u' v' w') : u = u' ∧ v = v' ∧ w = w' ∧ ∀ x y z, x12 f x y z = x12 f' x y z := by
  injection h with h
  injection h with _ h
  injection h with z0 h
  injection h with z1 h
  injection h with z2 h
  injection h with z3 h
  injection h with z4 h
  injection h with z5 h
  injection h with z6 h
  injection h with z7 h
  injection h with z8 h
  injection h with z9 h
  injection h with z10 h
  injection h with z11 h
  refine ⟨z1, z6, z7, fun x y z => ?_⟩
  unfold x12
  rw [z0, z2, z3, z4, z5, z8, z9, z10, z11]
def vwC (A0 : xA) (τ : Nat → Nat) (A : xA) (k r : Nat) (u b : Value) : Prop := b = u ∨ ∃ w, u = .null ∧ b = .ref w ∧ A0.2.1 ≤ w ∧ w < A.2.1 ∧ τ w = 0 ∧ A.1 w = some (xVw k r)
def xlv (A0 : xA) (τ : Nat → Nat) (A : xA) : Prop := A0.2.1 ≤ A.2.1 ∧ ∀ r e, r < A0.2.1 → A0.1 r = some e → A.1 r = some e ∨ ∃ f u v w u' v' w', e = x12 f u v w ∧ A.1 r = some (x12 f u' v' w') ∧ vwC A0 τ A 20 r u u' ∧ vwC A0 τ A 23 r v v' ∧ vwC A0 τ A 24 r w w'
theorem xlv.rf {A : xA} {τ : Nat → Nat} : xlv A τ A := ⟨Nat.le_refl _, fun _ _ _ h => Or.inl h⟩
theorem xlv.of {A A' : xA} {τ : Nat → Nat} (hx : A.2.1 ≤ A'.2.1) (h : ∀ r, r < A.2.1 → A'.1 r = A.1 r) : xlv A τ A' := ⟨hx, fun r e hr he => Or.inl ((h r hr).trans he)⟩
theorem xlv.k {A A' : xA} {τ : Nat → Nat} (h : xlv A τ A') {r : Nat} {e : xE} (hr : r < A.2.1) (he : A.1 r = some e) (h12 : ∀ fs, e ≠ .inr (12, fs)) : A'.1 r = some e := by
  rcases h.2 r e hr he with k | ⟨f, u, v, w, u', v', w', k, -⟩
  · exact k
  · exact absurd k (h12 _)
theorem xVw_12 {k m : Nat} (hk : k ≠ 12) : ∀ fs, xVw k m ≠ .inr (12, fs) := fun _ => xne_c hk
theorem vwC.tr {A0 A A' : xA} {τ τ1 τ' : Nat → Nat} {k r : Nat} {u b c : Value} (hk : k ≠ 12) (hx : A0.2.1 ≤ A.2.1) (hA : xlv A τ1 A') (ht : ∀ r, r < A.2.1 → τ r = 0 → τ' r = 0) (ht1 : ∀ r, A.2.1 ≤ r → τ1 r = 0 → τ' r = 0) (h : vwC A0 τ A k r u b) (h' : vwC A τ1 A' k r b c) : vwC A0 τ' A' k r u c := by
  rcases h with rfl | ⟨w, h1, h2, h3, h4, h5, h6⟩
  · rcases h' with rfl | ⟨w, k1, k2, k3, k4, k5, k6⟩
    · exact Or.inl rfl
    · exact Or.inr ⟨w, k1, k2, Nat.le_trans hx k3, k4, ht1 w k3 k5, k6⟩
  · rcases h' with rfl | ⟨w', k1, -⟩
    · exact Or.inr ⟨w, h1, h2, h3, Nat.lt_of_lt_of_le h4 hA.1, ht w h4 h5, hA.k h4 h6 (xVw_12 hk)⟩
    · rw [h2] at k1; cases k1
theorem xlv.tr {A0 A A' : xA} {τ τ1 τ' : Nat → Nat} (h : xlv A0 τ A) (k : xlv A τ1 A') (ht : ∀ r, r < A.2.1 → τ r = 0 → τ' r = 0) (ht1 : ∀ r, A.2.1 ≤ r → τ1 r = 0 → τ' r = 0) : xlv A0 τ' A' := by
  refine ⟨Nat.le_trans h.1 k.1, fun r e hr he => ?_⟩
  have hr2 := Nat.lt_of_lt_of_le hr h.1
  rcases h.2 r e hr he with a | ⟨f, u, v, w, u', v', w', a1, a2, a3, a4, a5⟩
  · rcases k.2 r e hr2 a with b | ⟨f, u, v, w, u', v', w', b1, b2, b3, b4, b5⟩
    · exact Or.inl b
    · exact Or.inr ⟨f, u, v, w, u', v', w', b1, b2, vwC.tr (τ := τ) (by decide) h.1 k ht ht1 (Or.inl rfl) b3, vwC.tr (τ := τ) (by decide) h.1 k ht ht1 (Or.inl rfl) b4, vwC.tr (τ := τ) (by decide) h.1 k ht ht1 (Or.inl rfl) b5⟩
  · rcases k.2 r _ hr2 a2 with b | ⟨f', x, y, z, x', y', z', b1, b2, b3, b4, b5⟩
    · exact Or.inr ⟨f, u, v, w, u', v', w', a1, b, vwC.tr (by decide) h.1 k ht ht1 a3 (Or.inl rfl), vwC.tr (by decide) h.1 k ht ht1 a4 (Or.inl rfl), vwC.tr (by decide) h.1 k ht ht1 a5 (Or.inl rfl)⟩
    · obtain ⟨e1, e2, e3, e4⟩ := x12_inj b1
      subst e1 e2 e3
      refine Or.inr ⟨f, u, v, w, x', y', z', a1, by rw [e4]; exact b2, vwC.tr (by decide) h.1 k ht ht1 a3 b3, vwC.tr (by decide) h.1 k ht ht1 a4 b4, vwC.tr (by decide) h.1 k ht ht1 a5 b5⟩
/-- a step that keeps all of tag 0 -/
theorem xlv.st {A0 A A' : xA} {τ τ' : Nat → Nat} {c s : Nat} (h : xlv A0 τ A) (h0 : ∀ r, r < A0.2.1 → τ r = 0) (k : hst τ A τ' A' c s) : xlv A0 τ' A' := by
  obtain ⟨k1, k2, k3⟩ := k
  refine ⟨Nat.le_trans h.1 k1.1, fun r e hr he => ?_⟩
  have hr2 := Nat.lt_of_lt_of_le hr h.1
  have vv : ∀ kk u b, vwC A0 τ A kk r u b → vwC A0 τ' A' kk r u b := fun kk u b q => by
    rcases q with q | ⟨w, h1, h2, h3, h4, h5, h6⟩
    · exact Or.inl q
    · exact Or.inr ⟨w, h1, h2, h3, Nat.lt_of_lt_of_le h4 k1.1, (k2 w h4).trans h5, (k3 w h4 h5).trans h6⟩
  rcases h.2 r e hr he with a | ⟨f, u, v, w, u', v', w', a1, a2, a3, a4, a5⟩
  · exact Or.inl ((k3 r hr2 (h0 r hr)).trans a)
  · exact Or.inr ⟨f, u, v, w, u', v', w', a1, (k3 r hr2 (h0 r hr)).trans a2, vv _ _ _ a3, vv _ _ _ a4, vv _ _ _ a5⟩
/-- a view is made, or was there -/
theorem xlv.vw {A A' : xA} {τ : Nat → Nat} {m k i w : Nat} {f : Nat → Value} {u v x u' v' x' : Value} (hx : A.2.1 ≤ A'.2.1) (hm : A.1 m = some (x12 f u v x)) (hm' : A'.1 m = some (x12 f u' v' x')) (hf : ∀ r, r < A.2.1 → r ≠ m → A'.1 r = A.1 r) (c1 : vwC A τ A' 20 m u u') (c2 : vwC A τ A' 23 m v v') (c3 : vwC A τ A' 24 m x x') : xlv A τ A' := by
  refine ⟨hx, fun r e hr he => ?_⟩
  by_cases hrm : r = m
  · subst hrm
    rw [hm] at he
    cases he
    exact Or.inr ⟨f, u, v, x, u', v', x', rfl, hm', c1, c2, c3⟩
  · exact Or.inl ((hf r hr hrm).trans he)
section LV
variable {g : xG} {E τ τ1 : Nat → Nat} {σ : Nat → Nat → Nat} {tf : Nat → Nat → Int32} {S Y : Nat → Int32} {A A' : xA}
theorem xT.lv {t a : Nat} {e : xE} (h : xT τ t A a e) (k : xlv A τ1 A') (h12 : ∀ fs, e ≠ .inr (12, fs)) : xT (tgU τ A.2.1 0) t A' a e := ⟨(tgU_o h.2.1).trans h.1, Nat.lt_of_lt_of_le h.2.1 k.1, k.k h.2.1 h.2.2 h12⟩
theorem xZ.lv {a : Nat} {e : xE} (h : xZ g τ A a e) (k : xlv A τ1 A') (h12 : ∀ fs, e ≠ .inr (12, fs)) : xZ g (tgU τ A.2.1 0) A' a e := h.imp (fun z => (xT.lv z k h12)) id
theorem Nm.lv {a : Nat} {v : Int32} (h : Nm g τ A a v) (k : xlv A τ1 A') : Nm g (tgU τ A.2.1 0) A' a v := by
  obtain ⟨b, len, f, hz, hy, k1, k2, k3⟩ := h
  exact ⟨b, len, f, hz, hy, k1.lv k (fun _ => xne_c (by decide)), k2.lv k (fun _ => xne_a'), k3⟩
theorem hAl.lv {t l n : Nat} {x : Nat → Nat} (h : hAl E τ t A l n x) (k : xlv A τ1 A') : hAl E (tgU τ A.2.1 0) t A' l n x := by
  obtain ⟨mc, ed, cap, f, k1, k2, k3, k4⟩ := h
  exact ⟨mc, ed, cap, f, k1.lv k (fun _ => xne_c (by decide)), k2, k3, k4.imp id (fun z => ⟨z.1, z.2.lv k (fun _ => xne_a')⟩)⟩
theorem hKy.lv {a q : Nat} (h : hKy g τ A a q) (k : xlv A τ1 A') : hKy g (tgU τ A.2.1 0) A' a q := xT.lv h k (fun _ => xne_c (by decide))
theorem hFd.lv {i : Nat} (h : hFd g τ σ tf S Y A i) (k : xlv A τ1 A') : hFd g (tgU τ A.2.1 0) σ tf S Y A' i := by
  obtain ⟨k1, k2, k3, k4, k5, k6⟩ := h
  exact ⟨k1.lv k (fun _ => xne_c (by decide)), k2.lv k (fun _ => xne_a'), k3, k4, k5, k6.lv k⟩
theorem hPg.lv {i : Nat} (h : hPg g τ σ S A i) (k : xlv A τ1 A') : hPg g (tgU τ A.2.1 0) σ S A' i := by
  obtain ⟨k1, k2, k3⟩ := h
  exact ⟨k1.lv k (fun _ => xne_c (by decide)), k2.lv k, k3⟩
theorem vwC.o {k m : Nat} {es : Option Nat} {b : Value} (hk : xlv A τ1 A') (h : vwC A τ1 A' k m (va_rf es) b) (hes : ∀ w, es = some w → xT τ 0 A w (xVw k m)) (hk12 : k ≠ 12) : ∃ es', b = va_rf es' ∧ ∀ w, es' = some w → xT (tgU τ A.2.1 0) 0 A' w (xVw k m) := by
  rcases h with rfl | ⟨w, -, h2, h3, h4, -, h6⟩
  · exact ⟨es, rfl, fun w hw => (hes w hw).lv hk (xVw_12 hk12)⟩
  · refine ⟨some w, h2, fun w' e => ?_⟩
    cases e
    exact ⟨tgU_n h3, h4, h6⟩
theorem hMp.lv {t m c : Nat} {N H K V : Nat → Nat} (h : hMp τ t A m c N H K V) (k : xlv A τ1 A') : hMp (tgU τ A.2.1 0) t A' m c N H K V := by
  obtain ⟨es, ks, vs, ⟨h1, h2, h3⟩, v1, v2, v3⟩ := h
  have ht : ∀ r, r < A.2.1 → τ r = t → tgU τ A.2.1 0 r = t := fun r hr e => (tgU_o hr).trans e
  have main : ∀ t0 mc th hd tl cc, A.1 m = some (xLg t0 es cc mc th ks vs hd tl) → ∃ es' ks' vs', A'.1 m = some (xLg t0 es' cc mc th ks' vs' hd tl) ∧ (∀ w, es' = some w → xT (tgU τ A.2.1 0) 0 A' w (xVw 20 m)) ∧ (∀ w, ks' = some w → xT (tgU τ A.2.1 0) 0 A' w (xVw 23 m)) ∧ ∀ w, vs' = some w → xT (tgU τ A.2.1 0) 0 A' w (xVw 24 m) := fun t0 mc th hd tl cc hm => by
    rcases k.2 m _ h2 hm with a | ⟨f, u, v, w, u', v', w', a1, a2, a3, a4, a5⟩
    · exact ⟨es, ks, vs, a, fun w hw => (v1 w hw).lv k (xVw_12 (by decide)), fun w hw => (v2 w hw).lv k (xVw_12 (by decide)), fun w hw => (v3 w hw).lv k (xVw_12 (by decide))⟩
    · have a1' : x12 (fun i => [t0, .null, .int (nI cc), .int mc, .int th, .float LF, .null, .null, va_rf hd, va_rf tl, .int 0, .int 0][i]?.getD .null) (va_rf es) (va_rf ks) (va_rf vs) = x12 f u v w := a1
      obtain ⟨e1, e2, e3, e4⟩ := x12_inj a1'
      subst e1 e2 e3
      obtain ⟨es', b1, c1⟩ := vwC.o k a3 v1 (by decide)
      obtain ⟨ks', b2, c2⟩ := vwC.o k a4 v2 (by decide)
      obtain ⟨vs', b3, c3⟩ := vwC.o k a5 v3 (by decide)
      subst b1 b2 b3
      refine ⟨es', ks', vs', ?_, c1, c2, c3⟩
      rw [a2, ← e4]
      rfl
  rcases h3 with ⟨rfl, mc, th, b1, b2⟩ | ⟨T, n, mc, b1, b2, b3⟩
  · obtain ⟨es', ks', vs', c1, c2, c3, c4⟩ := main _ _ _ _ _ _ b2
    exact ⟨es', ks', vs', ⟨ht m h2 h1, Nat.lt_of_lt_of_le h2 k.1, Or.inl ⟨rfl, mc, th, b1, c1⟩⟩, c2, c3, c4⟩
  · obtain ⟨d1, d2, d3, d4, ⟨tf, d5, d6⟩, d7, d8, d9⟩ := b3
    obtain ⟨es', ks', vs', c1, c2, c3, c4⟩ := main _ _ _ _ _ _ d4
    have hT := d3.2.2.2.2
    have hN := fun j hj => (d3.2.1 j hj).2.2
    exact ⟨es', ks', vs', ⟨ht m h2 h1, Nat.lt_of_lt_of_le h2 k.1, Or.inr ⟨T, n, mc, ht T hT b1, fun j hj => ht _ (hN j hj) (b2 j hj), d1, d2, ⟨d3.1, fun j hj => ⟨(d3.2.1 j hj).1, (d3.2.1 j hj).2.1, Nat.lt_of_lt_of_le (d3.2.1 j hj).2.2 k.1⟩, d3.2.2.1, Nat.lt_of_lt_of_le d3.2.2.2.1 k.1, Nat.lt_of_lt_of_le d3.2.2.2.2 k.1⟩, c1, ⟨tf, k.k hT d5 (fun _ => xne_a'), d6⟩, fun j hj => k.k (hN j hj) (d7 j hj) (fun _ => xne_c (by decide)), d8, d9⟩⟩, c2, c3, c4⟩
/-- a hall stays when views alone are made -/
theorem HB.lv (h : HB g E τ σ tf S Y A) (k : xlv A τ1 A') : HB g E (tgU τ A.2.1 0) σ tf S Y A' := by
  obtain ⟨a1, ⟨sf, a2, a3⟩, a4, a5, a6, a7, a8, a9, a10, a11, a12⟩ := h
  exact ⟨a1.lv k (fun _ => xne_c (by decide)), ⟨sf, a2.lv k (fun _ => xne_a'), a3⟩, a4.lv k, a5.lv k, fun i hi => (a6 i hi).lv k, a7.lv k, fun i hi => (a8 i hi).lv k, a9.lv k (fun _ => xne_c (by decide)), a10.lv k, fun j hj => ⟨(a11 j hj).1.lv k, (a11 j hj).2⟩, a12⟩
end LV
/-! A HALL IN THE MAKING: nf fiddlers, nr in the row, np pegs, ng forgiven -/
def HP (g : xG) (E τ : Nat → Nat) (σ : Nat → Nat → Nat) (tf : Nat → Nat → Int32) (S Y : Nat → Int32) (A : xA) (nf nr np ng : Nat) : Prop :=
  xT τ 1 A (σ 0 0) (xHl S (σ 0 1) (σ 0 2) (σ 0 3) (σ 0 4) (σ 0 5)) ∧
  (∃ sf, xT τ 2 A (σ 0 1) (xI4 sf) ∧ ∀ k, k < 4 → sf k = S (9 + k)) ∧
  hAl E τ 3 A (σ 0 2) nf (σ 1) ∧ hAl E τ 4 A (σ 0 3) nr (fun p => σ 1 (plS S p)) ∧
  (∀ i, i < nf → hFd g τ σ tf S Y A i) ∧
  hMp τ 5 A (σ 0 4) np (σ 4) (fun j => j) (σ 5) (σ 6) ∧ (∀ k, k < np → hPg g τ σ S A k) ∧
  xT τ 6 A (σ 0 5) (.inr (13, [.ref (σ 0 6)])) ∧ hMp τ 7 A (σ 0 6) ng (σ 7) (σ 8) (σ 9) (σ 10) ∧
  (∀ j, j < ng → hKy g τ A (σ 9 j) (σ 8 j) ∧ S (30 + j) = nI (σ 8 j))
def sg3 (σ : Nat → Nat → Nat) (n a b c : Nat) : Nat → Nat → Nat
  | 1 => nup (σ 1) n a
  | 2 => nup (σ 2) n b
  | 3 => nup (σ 3) n c
  | i => σ i
def sg5 (σ : Nat → Nat → Nat) (N : Nat → Nat) (n k v : Nat) : Nat → Nat → Nat
  | 4 => N
  | 5 => nup (σ 5) n k
  | 6 => nup (σ 6) n v
  | i => σ i
section HPx
variable {g : xG} {E τ τ' : Nat → Nat} {σ : Nat → Nat → Nat} {tf : Nat → Nat → Int32} {S Y : Nat → Int32} {A A' : xA} {nf nr np ng : Nat}
theorem HP.hb (h : HP g E τ σ tf S Y A nf nr np ng) (e1 : nf = manyS S) (e2 : nr = rowS S) (e3 : np = 4 * manyS S) (e4 : ng = fgN S) (k1 : rOk S) (k2 : S 19 = nI (fgN S)) (k3 : fgN S ≤ 40) : HB g E τ σ tf S Y A := by
  subst e1 e2 e3 e4
  obtain ⟨a1, a2, a3, a4, a5, a6, a7, a8, a9, a10⟩ := h
  exact ⟨a1, a2, a3, a4, a5, a6, a7, a8, a9, a10, k1, k2, k3⟩
theorem HB.hp (h : HB g E τ σ tf S Y A) : HP g E τ σ tf S Y A (manyS S) (rowS S) (4 * manyS S) (fgN S) := by
  obtain ⟨a1, a2, a3, a4, a5, a6, a7, a8, a9, a10, -⟩ := h
  exact ⟨a1, a2, a3, a4, a5, a6, a7, a8, a9, a10⟩
theorem HP.ex9 (h : HP g E τ σ tf S Y A nf nr np ng) (hx : A.2.1 ≤ A'.2.1) (ht : ∀ r, r < A.2.1 → τ' r = τ r) (h0 : ∀ r, r < A.2.1 → τ r ≠ 9 → A'.1 r = A.1 r) : HP g E τ' σ tf S Y A' nf nr np ng := by
  obtain ⟨a1, ⟨sf, a2, a3⟩, a4, a5, a6, a7, a8, a9, a10, a11⟩ := h
  have h1 : ∀ t, t ≠ 9 → ∀ r, r < A.2.1 → τ r = t → A'.1 r = A.1 r := fun t h9 r hr e => h0 r hr (by rw [e]; exact h9)
  exact ⟨a1.fr hx ht (h1 _ (by omega)), ⟨sf, a2.fr hx ht (h1 _ (by omega)), a3⟩, a4.fr hx ht (h1 _ (by omega)), a5.fr hx ht (h1 _ (by omega)), fun i hi => (a6 i hi).fr hx ht (h1 _ (by omega)) (fun r a b => h0 r a (by omega)) (fun _ _ => rfl) rfl, a7.fr hx ht (h1 _ (by omega)) (h1 _ (by omega)), fun k hk => (a8 k hk).fr hx ht (h1 _ (by omega)) (h1 _ (by omega)) (fun _ _ => rfl), a9.fr hx ht (h1 _ (by omega)), a10.fr hx ht (h1 _ (by omega)) (h1 _ (by omega)), fun j hj => ⟨xT.fr (a11 j hj).1 hx ht (h1 _ (by omega)), (a11 j hj).2⟩⟩
/-- a fiddler more -/
theorem HP.u3 (h : HP g E τ σ tf S Y A nf nr np ng) (hx : A.2.1 ≤ A'.2.1) (ht : ∀ r, r < A.2.1 → τ' r = τ r) (h0 : ∀ r, r < A.2.1 → τ r ≠ 3 → A'.1 r = A.1 r) (hp : ∀ p, p < nr → plS S p ≠ nf) {a b c : Nat} {w : Nat → Int32} (h3 : hAl E τ' 3 A' (σ 0 2) (nf + 1) (nup (σ 1) nf a)) (hf : hFd g τ' (sg3 σ nf a b c) (tfU tf nf w) S Y A' nf) : HP g E τ' (sg3 σ nf a b c) (tfU tf nf w) S Y A' (nf + 1) nr np ng := by
  obtain ⟨a1, ⟨sf, a2, a3⟩, a4, a5, a6, a7, a8, a9, a10, a11⟩ := h
  have u := fun (t : Nat) (ht : t ≠ 3) r (hr : r < A.2.1) (e : τ r = t) => h0 r hr (by rw [e]; exact ht)
  refine ⟨a1.fr hx ht (u 1 (by omega)), ⟨sf, a2.fr hx ht (u 2 (by omega)), a3⟩, h3, (a5.fr hx ht (u 4 (by omega))).cg (fun p hp' => nup_n (hp p hp')), fun i hi => ?_, a7.fr hx ht (u 0 (by omega)) (u 5 (by omega)), fun k hk => (a8 k hk).fr hx ht (u 0 (by omega)) (u _ (by omega)) (fun _ _ => rfl), a9.fr hx ht (u 6 (by omega)), a10.fr hx ht (u 0 (by omega)) (u 7 (by omega)), fun j hj => ⟨xT.fr (a11 j hj).1 hx ht (u 0 (by omega)), (a11 j hj).2⟩⟩
  by_cases hi2 : i = nf
  · subst hi2
    exact hf
  · have k := (a6 i (by omega)).fr (S' := S) (Y' := Y) hx ht (u 0 (by omega)) (fun r a b => b.elim (u _ (by omega) r a) (u _ (by omega) r a)) (fun _ _ => rfl) rfl
    unfold hFd at k ⊢
    rw [show sg3 σ nf a b c 1 i = σ 1 i from nup_n hi2, show sg3 σ nf a b c 2 i = σ 2 i from nup_n hi2, show sg3 σ nf a b c 3 i = σ 3 i from nup_n hi2, tfU_n hi2]
    exact k
/-- the row longer -/
theorem HP.u4 (h : HP g E τ σ tf S Y A nf nr np ng) (hx : A.2.1 ≤ A'.2.1) (ht : ∀ r, r < A.2.1 → τ' r = τ r) (h0 : ∀ r, r < A.2.1 → τ r ≠ 4 → A'.1 r = A.1 r) {nr' : Nat} (h4 : hAl E τ' 4 A' (σ 0 3) nr' (fun p => σ 1 (plS S p))) : HP g E τ' σ tf S Y A' nf nr' np ng := by
  obtain ⟨a1, ⟨sf, a2, a3⟩, a4, -, a6, a7, a8, a9, a10, a11⟩ := h
  have u := fun (t : Nat) (ht : t ≠ 4) r (hr : r < A.2.1) (e : τ r = t) => h0 r hr (by rw [e]; exact ht)
  exact ⟨a1.fr hx ht (u 1 (by omega)), ⟨sf, a2.fr hx ht (u 2 (by omega)), a3⟩, a4.fr hx ht (u 3 (by omega)), h4, fun i hi => (a6 i hi).fr hx ht (u 0 (by omega)) (fun r a b => b.elim (u _ (by omega) r a) (u _ (by omega) r a)) (fun _ _ => rfl) rfl, a7.fr hx ht (u 0 (by omega)) (u 5 (by omega)), fun k hk => (a8 k hk).fr hx ht (u 0 (by omega)) (u _ (by omega)) (fun _ _ => rfl), a9.fr hx ht (u 6 (by omega)), a10.fr hx ht (u 0 (by omega)) (u 7 (by omega)), fun j hj => ⟨xT.fr (a11 j hj).1 hx ht (u 0 (by omega)), (a11 j hj).2⟩⟩
/-- a peg more -/
theorem HP.u5 (h : HP g E τ σ tf S Y A nf nr np ng) (hx : A.2.1 ≤ A'.2.1) (ht : ∀ r, r < A.2.1 → τ' r = τ r) (h0 : ∀ r, r < A.2.1 → τ r ≠ 5 → A'.1 r = A.1 r) {N : Nat → Nat} {k v : Nat} (h5 : hMp τ' 5 A' (σ 0 4) (np + 1) N (fun j => j) (nup (σ 5) np k) (nup (σ 6) np v)) (hk : hPg g τ' (sg5 σ N np k v) S A' np) : HP g E τ' (sg5 σ N np k v) tf S Y A' nf nr (np + 1) ng := by
  obtain ⟨a1, ⟨sf, a2, a3⟩, a4, a5, a6, a7, a8, a9, a10, a11⟩ := h
  have u := fun (t : Nat) (ht : t ≠ 5) r (hr : r < A.2.1) (e : τ r = t) => h0 r hr (by rw [e]; exact ht)
  refine ⟨a1.fr hx ht (u 1 (by omega)), ⟨sf, a2.fr hx ht (u 2 (by omega)), a3⟩, a4.fr hx ht (u 3 (by omega)), a5.fr hx ht (u 4 (by omega)), fun i hi => (a6 i hi).fr hx ht (u 0 (by omega)) (fun r a b => b.elim (u _ (by omega) r a) (u _ (by omega) r a)) (fun _ _ => rfl) rfl, h5, fun i hi => ?_, a9.fr hx ht (u 6 (by omega)), a10.fr hx ht (u 0 (by omega)) (u 7 (by omega)), fun j hj => ⟨xT.fr (a11 j hj).1 hx ht (u 0 (by omega)), (a11 j hj).2⟩⟩
  by_cases hi2 : i = np
  · subst hi2
    exact hk
  · have q := (a8 i (by omega)).fr (S' := S) hx ht (u 0 (by omega)) (u _ (by omega)) (fun _ _ => rfl)
    unfold hPg at q ⊢
    rw [show sg5 σ N np k v 5 i = σ 5 i from nup_n hi2, show sg5 σ N np k v 6 i = σ 6 i from nup_n hi2]
    exact q
/-- forgiven more -/
theorem HP.u7 (h : HP g E τ σ tf S Y A nf nr np ng) (hx : A.2.1 ≤ A'.2.1) (ht : ∀ r, r < A.2.1 → τ' r = τ r) (h0 : ∀ r, r < A.2.1 → τ r ≠ 7 → A'.1 r = A.1 r) {N H K V : Nat → Nat} {ng' : Nat} (h7 : hMp τ' 7 A' (σ 0 6) ng' N H K V) (hk : ∀ j, j < ng' → hKy g τ' A' (K j) (H j) ∧ S (30 + j) = nI (H j)) : HP g E τ' (sg7 σ N H K V) tf S Y A' nf nr np ng' := by
  obtain ⟨a1, ⟨sf, a2, a3⟩, a4, a5, a6, a7, a8, a9, -, -⟩ := h
  have u := fun (t : Nat) (ht : t ≠ 7) r (hr : r < A.2.1) (e : τ r = t) => h0 r hr (by rw [e]; exact ht)
  exact ⟨a1.fr hx ht (u 1 (by omega)), ⟨sf, a2.fr hx ht (u 2 (by omega)), a3⟩, a4.fr hx ht (u 3 (by omega)), a5.fr hx ht (u 4 (by omega)), fun i hi => (a6 i hi).fr hx ht (u 0 (by omega)) (fun r a b => b.elim (u _ (by omega) r a) (u _ (by omega) r a)) (fun _ _ => rfl) rfl, a7.fr hx ht (u 0 (by omega)) (u 5 (by omega)), fun k hk => (a8 k hk).fr hx ht (u 0 (by omega)) (u _ (by omega)) (fun _ _ => rfl), a9.fr hx ht (u 6 (by omega)), h7, hk⟩
end HPx
/-! COPYING: the old hall beside the new one -/
def CP (g : xG) (E τo : Nat → Nat) (σo : Nat → Nat → Nat) (tfo : Nat → Nat → Int32) (S Y : Nat → Int32) (A0 : xA) (τ : Nat → Nat) (A : xA) (c s : Nat) : Prop :=
  HB g E τo σo tfo S Y A ∧ (∀ r, τo r ≠ 9 → r < A.2.1 ∧ τ r = 0) ∧ xlv A0 τ A ∧ (∀ r, r < A0.2.1 → τ r = 0) ∧ xBd A0 A c s
theorem CP.st {g : xG} {E τo τ τ' : Nat → Nat} {σo : Nat → Nat → Nat} {tfo : Nat → Nat → Int32} {S Y : Nat → Int32} {A0 A A' : xA} {c s c' s' : Nat} (h : CP g E τo σo tfo S Y A0 τ A c s) (k : hst τ A τ' A' c' s') : CP g E τo σo tfo S Y A0 τ' A' (c + c') (s + s') := by
  obtain ⟨h1, h2, h3, h4, h5⟩ := h
  exact ⟨h1.ex9 k.1.1 (fun _ _ => rfl) (fun r hr h9 => k.2.2 r hr (h2 r h9).2), fun r hr => ⟨Nat.lt_of_lt_of_le (h2 r hr).1 k.1.1, (k.2.1 r (h2 r hr).1).trans (h2 r hr).2⟩, h3.st h4 k, fun r hr => (k.2.1 r (Nat.lt_of_lt_of_le hr h3.1)).trans (h4 r hr), h5.tr k.1⟩
theorem CP.le {g : xG} {E τo τ : Nat → Nat} {σo : Nat → Nat → Nat} {tfo : Nat → Nat → Int32} {S Y : Nat → Int32} {A0 A : xA} {c s c' s' : Nat} (h : CP g E τo σo tfo S Y A0 τ A c s) (h1 : c ≤ c') (h2 : s ≤ s') : CP g E τo σo tfo S Y A0 τ A c' s' := ⟨h.1, h.2.1, h.2.2.1, h.2.2.2.1, h.2.2.2.2.le h1 h2⟩
/-- a view of an old map is made -/
theorem CP.vw {g : xG} {E τo τ τ1 : Nat → Nat} {σo : Nat → Nat → Nat} {tfo : Nat → Nat → Int32} {S Y : Nat → Int32} {A0 A A' : xA} {c s c' s' : Nat} (h : CP g E τo σo tfo S Y A0 τ A c s) (k : xlv A τ1 A') (k1 : xBd A A' c' s') : CP g E (tgU (tgU τo A.2.1 0) A'.2.1 9) σo tfo S Y A0 (tgU τ A.2.1 0) A' (c + c') (s + s') := by
  obtain ⟨h1, h2, h3, h4, h5⟩ := h
  refine ⟨(h1.lv k).ext (Nat.le_refl _) (fun r hr => tgU_o hr) (fun _ _ => rfl), fun r hr => ?_, h3.tr k (fun r hr e => (tgU_o hr).trans e) (fun r hr _ => tgU_n hr), fun r hr => (tgU_o (Nat.lt_of_lt_of_le hr h3.1)).trans (h4 r hr), h5.tr k1⟩
  by_cases hr2 : r < A'.2.1
  · rw [tgU_o hr2] at hr
    refine ⟨hr2, ?_⟩
    by_cases hr3 : r < A.2.1
    · rw [tgU_o hr3] at hr ⊢
      exact (h2 r hr).2
    · exact tgU_n (by omega)
  · rw [tgU_n (by omega)] at hr
    exact absurd rfl hr
