/-! READING A HALL -/
/-- thrown: an exception of class k, the old cells as they were -/
def xThG (k : Nat) (A : xA) (c s : Nat) : Outcome → xA → Prop := xTs fun q A' => A'.1 q = some (.inr (k, [])) ∧ (∀ r, r < A.2.1 → A'.1 r = A.1 r) ∧ xBd A A' c s
theorem xBd.tr {A A' A'' : xA} {c s c' s' : Nat} (h : xBd A A' c s) (k : xBd A' A'' c' s') : xBd A A'' (c + c') (s + s') := ⟨Nat.le_trans h.1 k.1, by have := h.2.1; have := k.2.1; omega, by have := h.2.2; have := k.2.2; omega⟩
theorem xBd.le {A A' : xA} {c s c' s' : Nat} (h : xBd A A' c s) (h1 : c ≤ c') (h2 : s ≤ s') : xBd A A' c' s' := ⟨h.1, by have := h.2.1; omega, by have := h.2.2; omega⟩
theorem xThr_G {k : Nat} {A : xA} {o : Outcome} {A' : xA} (h : xThr k A o A') : xThG k A 1 6 o A' := by
  obtain ⟨rfl, rfl⟩ := h
  exact ⟨_, rfl, xal_self, fun r hr => xal_ne (Nat.ne_of_lt hr), Nat.le_succ _, Nat.le_refl _, Nat.le_refl _⟩
theorem xThG.of {k : Nat} {A A1 : xA} {c s c1 s1 : Nat} {o : Outcome} {A' : xA} (h : xThG k A1 c s o A') (hb : xBd A A1 c1 s1) (h0 : ∀ r, r < A.2.1 → A1.1 r = A.1 r) : xThG k A (c1 + c) (s1 + s) o A' := by
  obtain ⟨q, rfl, h1, h2, h3⟩ := h
  exact ⟨q, rfl, h1, fun r hr => (h2 r (Nat.lt_of_lt_of_le hr hb.1)).trans (h0 r hr), hb.tr h3⟩
theorem xThG.le {k : Nat} {A : xA} {c s c' s' : Nat} {o : Outcome} {A' : xA} (h : xThG k A c s o A') (h1 : c ≤ c') (h2 : s ≤ s') : xThG k A c' s' o A' := by
  obtain ⟨q, rfl, a, b, d⟩ := h
  exact ⟨q, rfl, a, b, d.le h1 h2⟩
section XHO
variable {g : xG} {mi mj : xM} {d d1 pc idx n k : Nat} {L : List (Option Value)} {st st0 av : List Value} {A B : xA} {Q : Outcome → xA → Prop}
/-- the callee throws, nothing catches it here -/
theorem v_csO {c s : Nat} (hw : xCS mi.1.cls idx mj n) (hd : decode mi.2.1 pc = .ok (.invokestatic idx, 3)) (hc : xC g mj d1 av A (xThG k B c s)) (h0 : st0 = av.reverse ++ st) (hck : ∃ r, xcl[k]? = some r) (hQ : ∀ o A', xThG k B c s o A' → Q o A') (hout : (tableOf mi.2.2.2.2).all (fun x => !covers x pc) = true := by decide) (hsl : (lg_sl av).length ≤ mj.2.2.1 := by exact Nat.le_of_ble_eq_true rfl) (hn : av.length = n := by rfl) (hdd : d1 + 1 ≤ d := by exact Nat.le_of_ble_eq_true rfl) (hst : xrs st := by exact Nat.le_of_ble_eq_true rfl) : xW g mi d pc L st0 A Q :=
  x_cs hw hd hc hsl hn hdd hst h0 (fun o A2 h => by
    have h9 := hQ o A2 h
    obtain ⟨q, rfl, h1, h2⟩ := h
    exact x_out h1 hck hout h9)
theorem v_cvO {c s a ci : Nat} {fs : List Value} {q : vw_C} (hw : xCV mi.1.cls idx q.1 mj n) (hd : decode mi.2.1 pc = .ok (.invokevirtual idx, 3)) (ha : xAt g A a (.inr (ci, fs))) (hci : xcl[ci]? = some q) (hc : xC g mj d1 (.ref a :: av) A (xThG k B c s)) (h0 : st0 = av.reverse ++ .ref a :: st) (hck : ∃ r, xcl[k]? = some r) (hQ : ∀ o A', xThG k B c s o A' → Q o A') (hout : (tableOf mi.2.2.2.2).all (fun x => !covers x pc) = true := by decide) (hsl : (lg_sl (.ref a :: av)).length ≤ mj.2.2.1 := by exact Nat.le_of_ble_eq_true rfl) (hn : av.length = n := by rfl) (hdd : d1 + 1 ≤ d := by exact Nat.le_of_ble_eq_true rfl) (hst : xrs st := by exact Nat.le_of_ble_eq_true rfl) : xW g mi d pc L st0 A Q :=
  x_cv hw hd ha hci hc hsl hn hdd hst h0 (fun o A2 h => by
    have h9 := hQ o A2 h
    obtain ⟨q, rfl, h1, h2⟩ := h
    exact x_out h1 hck hout h9)
end XHO
theorem c_X1_checkIndex_G (g : xG) (A : xA) (hl : g.1.stackTraces = false) : xC g iX1_checkIndex 12 [.int 0] A (xThG 26 A 1 6) := xW.imp (c_X1_checkIndex_no g A hl) (fun _ _ h => xThr_G h)
theorem c_X1_checkArgument_G (g : xG) (A : xA) (hl : g.1.stackTraces = false) : xC g iX1_checkArgument 12 [.int 0] A (xThG 27 A 1 6) := xW.imp (c_X1_checkArgument_no g A hl) (fun _ _ h => xThr_G h)
theorem c_X1_checkState_G (g : xG) (A : xA) (hl : g.1.stackTraces = false) : xC g iX1_checkState 12 [.int 0] A (xThG 28 A 1 6) := xW.imp (c_X1_checkState_no g A hl) (fun _ _ h => xThr_G h)
section HR
variable {g : xG} {E τ : Nat → Nat} {σ : Nat → Nat → Nat} {tf : Nat → Nat → Int32} {S Y : Nat → Int32} {A : xA}
theorem hAl_size {t l n : Nat} {x : Nat → Nat} (h : hAl E τ t A l n x) : xC g iJ2_size 0 [.ref l] A (xRet (some (.int (nI n))) A) := by
  obtain ⟨mc, ed, cap, f, k1, -⟩ := h
  exact c_J2_size g A l ed n mc (Or.inl k1.2.2)
theorem hAl_get {t l n i : Nat} {x : Nat → Nat} (h : hAl E τ t A l n x) (hi : i < n) : xC g iJ2_get 2 [.ref l, .int (nI i)] A (xRet (some (.ref (x i))) A) := by
  obtain ⟨mc, ed, cap, f, k1, k2, k3, k4⟩ := h
  rcases k4 with ⟨h0, -⟩ | ⟨rfl, k5⟩
  · omega
  · exact c_J2_get g A l ed n 10 mc f (Or.inl k1.2.2) (Or.inl k5.2.2) i (x i) hi k2 (by omega) (k3 i hi)
theorem hAl.l {t l n : Nat} {x : Nat → Nat} (h : hAl E τ t A l n x) : ∃ (mc : Int32) (ed : Nat), A.1 l = some (xAl mc ed n) ∧ l < A.2.1 ∧ τ l = t := by
  obtain ⟨mc, ed, cap, f, k1, -⟩ := h
  exact ⟨mc, ed, k1.2.2, k1.2.1, k1.1⟩
theorem HB.h (h : HB g E τ σ tf S Y A) : A.1 (σ 0 0) = some (xHl S (σ 0 1) (σ 0 2) (σ 0 3) (σ 0 4) (σ 0 5)) := h.1.2.2
theorem HB.fl (h : HB g E τ σ tf S Y A) : hAl E τ 3 A (σ 0 2) (manyS S) (σ 1) := h.2.2.1
theorem HB.rl (h : HB g E τ σ tf S Y A) : hAl E τ 4 A (σ 0 3) (rowS S) (fun p => σ 1 (plS S p)) := h.2.2.2.1
theorem HB.fd (h : HB g E τ σ tf S Y A) {i : Nat} (hi : i < manyS S) : hFd g τ σ tf S Y A i := h.2.2.2.2.1 i hi
theorem HB.pm (h : HB g E τ σ tf S Y A) : hMp τ 5 A (σ 0 4) (4 * manyS S) (σ 4) (fun j => j) (σ 5) (σ 6) := h.2.2.2.2.2.1
theorem HB.pg (h : HB g E τ σ tf S Y A) {k : Nat} (hk : k < 4 * manyS S) : hPg g τ σ S A k := h.2.2.2.2.2.2.1 k hk
theorem HB.fs (h : HB g E τ σ tf S Y A) : xT τ 6 A (σ 0 5) (.inr (13, [.ref (σ 0 6)])) := h.2.2.2.2.2.2.2.1
theorem HB.fm (h : HB g E τ σ tf S Y A) : hMp τ 7 A (σ 0 6) (fgN S) (σ 7) (σ 8) (σ 9) (σ 10) := h.2.2.2.2.2.2.2.2.1
theorem HB.fk (h : HB g E τ σ tf S Y A) {j : Nat} (hj : j < fgN S) : hKy g τ A (σ 9 j) (σ 8 j) ∧ S (30 + j) = nI (σ 8 j) := h.2.2.2.2.2.2.2.2.2.1 j hj
theorem HB.ok (h : HB g E τ σ tf S Y A) : rOk S := h.2.2.2.2.2.2.2.2.2.2.1
theorem HB.f19 (h : HB g E τ σ tf S Y A) : S 19 = nI (fgN S) ∧ fgN S ≤ 40 := h.2.2.2.2.2.2.2.2.2.2.2
theorem HB.lt (h : HB g E τ σ tf S Y A) : σ 0 0 < A.2.1 ∧ τ (σ 0 0) = 1 := ⟨h.1.2.1, h.1.1⟩
theorem HB.le (h : HB g E τ σ tf S Y A) : manyS S ≤ 10 ∧ rowS S ≤ 10 := tOk_le h.ok.1
theorem HB.pl (h : HB g E τ σ tf S Y A) {p : Nat} (hp : p < rowS S) : plS S p < manyS S := h.ok.2.1 p hp
theorem HB.pA (h : HB g E τ σ tf S Y A) {f q : Nat} (hf : f < manyS S) (hq : q < 4) : A.1 (σ 6 (4 * f + q)) = some (xPg (hs S f (9 + q)) (hs S f (17 + q)) (hs S f (13 + q))) := by
  have k := (h.pg (k := 4 * f + q) (by omega)).1.2.2
  rw [show (4 * f + q) / 4 = f by omega, show (4 * f + q) % 4 = q by omega] at k
  exact k
theorem HB.pB (h : HB g E τ σ tf S Y A) {f q : Nat} (hf : f < manyS S) (hq : q < 4) : (hs S f (13 + q) = 0 ∨ hs S f (13 + q) = 1) ∧ ∃ gr : Nat, gr ≤ 9 ∧ hs S f (17 + q) = nI gr := by
  have k := (h.pg (k := 4 * f + q) (by omega)).2.2
  rw [show (4 * f + q) / 4 = f by omega, show (4 * f + q) % 4 = q by omega] at k
  exact k
/-- a key made in passing -/
theorem HB.al (h : HB g E τ σ tf S Y A) {e : xE} {n : Nat} : HB g E (tgU τ A.2.1 0) σ tf S Y (xal A e n) := h.ext (Nat.le_succ _) (fun r hr => tgU_o hr) (fun r hr => xal_ne (Nat.ne_of_lt hr))
theorem hst_al {e : xE} {n t : Nat} : hst τ A (tgU τ A.2.1 t) (xal A e n) 1 n := ⟨⟨Nat.le_succ _, Nat.le_refl _, Nat.le_refl _⟩, fun r hr => tgU_o hr, fun r hr _ => xal_ne (Nat.ne_of_lt hr)⟩
/-- looking up a peg with a key of its number -/
theorem HB.get (h : HB g E τ σ tf S Y A) {f q k : Nat} (hf : f < manyS S) (hq : q < 4) (hk : A.1 k = some (.inr (4, [.int (nI f), .int (nI q)]))) : xC g iJ5_get 4 [.ref (σ 0 4), .ref k] A (xRet (some (.ref (σ 6 (4 * f + q)))) A) := by
  obtain ⟨es, ks, vs, hM, -⟩ := h.pm
  have hK := (h.pg (k := 4 * f + q) (by omega)).2.1.2.2
  rw [show (4 * f + q) / 4 = f by omega, show (4 * f + q) % 4 = q by omega] at hK
  exact c_J5_get g A _ (σ 0 4) (4 * manyS S) k f q (σ 4) (fun j => j) (σ 5) (σ 6) es ks vs hM (fun j _ => rfl) (by omega) hk hK
theorem HB.pmc (h : HB g E τ σ tf S Y A) : ∃ fs, A.1 (σ 0 4) = some (.inr (12, fs)) := by
  obtain ⟨es, ks, vs, hM, -⟩ := h.pm
  obtain ⟨t0, mc, th, tl, hm⟩ := hM.m
  exact ⟨_, hm⟩
end HR
