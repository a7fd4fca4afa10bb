/-! THE TEXT of the reference: T its ints, F and W as in tA -/
theorem x_ic {g : xG} {mi : xM} {d pc j : Nat} {L : List (Option Value)} {st : List Value} {A : xA} {Q : Outcome → xA → Prop} {n : Int} {v : Int32} (hd : decode mi.2.1 pc = .ok (.iconst n, 1)) (hv : Int32.ofInt n = v) (hj : pc + 1 = j) : xW g mi d j L (.int v :: st) A Q → xW g mi d pc L st A Q := fun k => x_iconst hd hv (by rw [hj]; exact k)
theorem x_icg {g : xG} {mi : xM} {d pc j : Nat} {L : List (Option Value)} {st : List Value} {A : xA} {Q : Outcome → xA → Prop} {n off : Int} {v : Int32} (hd : decode mi.2.1 pc = .ok (.iconst n, 1)) (hv : Int32.ofInt n = v) (hg : decode mi.2.1 (pc + 1) = .ok (.goto off, 3)) (hj : ((pc + 1 : Nat) : Int) + off = (j : Int)) : xW g mi d j L (.int v :: st) A Q → xW g mi d pc L st A Q := fun k => x_iconst hd hv (x_goto hg hj k)
/-- a condition as a number -/
theorem x_dia {g : xG} {mi : xM} {d pc tgt pf j : Nat} {L : List (Option Value)} {st0 st : List Value} {A : xA} {Q : Outcome → xA → Prop} {P : Prop} [Decidable P] {vt vf : Int32}
    (hT : P → xW g mi d tgt L st A Q → xW g mi d pc L st0 A Q) (hF : ¬ P → xW g mi d pf L st A Q → xW g mi d pc L st0 A Q)
    (dT : xW g mi d j L (.int vt :: st) A Q → xW g mi d tgt L st A Q) (dF : xW g mi d j L (.int vf :: st) A Q → xW g mi d pf L st A Q)
    (k : xW g mi d j L (.int (if P then vt else vf) :: st) A Q) : xW g mi d pc L st0 A Q := by
  by_cases h : P
  · rw [if_pos h] at k; exact hT h (dT k)
  · rw [if_neg h] at k; exact hF h (dF k)
theorem x_diaN {g : xG} {mi : xM} {d pc tgt pf j : Nat} {L : List (Option Value)} {st0 st : List Value} {A : xA} {Q : Outcome → xA → Prop} {P : Prop} [Decidable P] {vt vf : Int32}
    (hT : ¬ P → xW g mi d tgt L st A Q → xW g mi d pc L st0 A Q) (hF : P → xW g mi d pf L st A Q → xW g mi d pc L st0 A Q)
    (dT : xW g mi d j L (.int vt :: st) A Q → xW g mi d tgt L st A Q) (dF : xW g mi d j L (.int vf :: st) A Q → xW g mi d pf L st A Q)
    (k : xW g mi d j L (.int (if P then vf else vt) :: st) A Q) : xW g mi d pc L st0 A Q := by
  by_cases h : P
  · rw [if_pos h] at k; exact hF h (dF k)
  · rw [if_neg h] at k; exact hT h (dT k)
theorem ite_nar {P : Prop} [Decidable P] : narrow FieldType.boolean (Value.int (if P then 1 else 0)) = Value.int (if P then 1 else 0) := by
  split <;> rfl
theorem itn_nar {P : Prop} [Decidable P] : narrow FieldType.boolean (Value.int (if P then 0 else 1)) = Value.int (if P then 0 else 1) := by
  split <;> rfl
def lmN (F : Nat → Int32) : Nat := (F 13).toNatClampNeg
def atN (F : Nat → Int32) : Nat := (F 14).toNatClampNeg
def bgN (F : Nat → Int32) : Nat := (F 15).toNatClampNeg
def seI (T : Nat → Int32) (n k : Nat) : Int32 := if k < n then T k else -1
def skN (T : Nat → Int32) (n : Nat) : Nat → Nat → Nat
  | 0, k => k
  | f + 1, k => if seI T n k = 32 ∨ seI T n k = 10 then skN T n f (k + 1) else k
def enN (lo hi : Int32) (T : Nat → Int32) (n : Nat) : Nat → Nat → Nat
  | 0, k => k
  | f + 1, k => if inI (seI T n k) lo hi = 0 then k else enN lo hi T n f (k + 1)
def wdV (T : Nat → Int32) (b : Nat) : Nat → Int64
  | 0 => 0
  | i + 1 => if i < 12 then 32 * wdV T b i + (T (b + i)).toInt64 - 96 else wdV T b i
def nuV (T : Nat → Int32) (b : Nat) : Nat → Int32
  | 0 => 0
  | i + 1 => if 999999 < nuV T b i then nuV T b i else 10 * nuV T b i + T (b + i) - 48
abbrev tQ : Type := (Nat → Int32) × Int64
/-- a token -/
def scX (T : Nat → Int32) (q : tQ) : tQ :=
  let n := lmN q.1
  let b := skN T n (n - atN q.1) (atN q.1)
  let c := seI T n b
  let F1 := upd (upd q.1 14 (nI b)) 15 (nI b)
  if c = -1 then (upd F1 16 0, q.2)
  else if ¬ inI c 97 122 = 0 then
    let e := enN 97 122 T n (n - b) b
    (upd (upd F1 14 (nI e)) 16 1, wdV T b (e - b))
  else if ¬ inI c 48 57 = 0 then
    let e := enN 48 57 T n (n - b) b
    (upd (upd (upd F1 17 (nuV T b (e - b))) 14 (nI e)) 16 2, q.2)
  else (upd (upd F1 16 (if c = 59 ∨ c = 40 ∨ c = 41 ∨ c = 45 then 3 else 4)) 14 (nI (b + 1)), q.2)
def muF (F : Nat → Int32) (z code : Int32) : Nat → Int32 := if F 18 = 0 ∧ z = 0 then upd (upd F 18 code) 19 (F 15) else F
def goX (T : Nat → Int32) (q : tQ) : tQ := if q.1 18 = 0 then scX T q else q
def stX (T : Nat → Int32) (q : tQ) : tQ := scX T (upd (upd q.1 14 0) 18 0, q.2)
def iwI (q : tQ) (w : Int64) : Int32 := flI (q.1 18 = 0 ∧ q.1 16 = 1 ∧ q.1 14 - q.1 15 < 12 ∧ q.2 = w)
def isI (T : Nat → Int32) (F : Nat → Int32) (c : Int32) : Int32 := flI (F 18 = 0 ∧ F 16 = 3 ∧ T (bgN F) = c)
def sgX (T : Nat → Int32) (c : Int32) (q : tQ) : tQ := goX T (muF q.1 (isI T q.1 c) 1, q.2)
def rdF (lo hi : Int32) (F : Nat → Int32) : Nat → Int32 :=
  let F1 := muF F (flI (F 16 = 2)) 1
  muF F1 (inI (F1 17) lo hi) 2
def rdX (T : Nat → Int32) (lo hi : Int32) (q : tQ) : tQ := goX T (rdF lo hi q.1, q.2)
def rdI (T : Nat → Int32) (lo hi : Int32) (q : tQ) : Int32 := if (rdX T lo hi q).1 18 = 0 then rdF lo hi q.1 17 else lo
def nhI (F : Nat → Int32) : Int32 := flI (F 16 = 1 ∧ F 14 - F 15 ≤ 6)
def cm0 (T : Nat → Int32) (q : tQ) : tQ := if isI T q.1 45 = 0 then q else goX T q
def cmX (T : Nat → Int32) (lo hi : Int32) (q : tQ) : tQ := rdX T lo hi (cm0 T q)
def cmI (T : Nat → Int32) (lo hi : Int32) (q : tQ) : Int32 := if isI T q.1 45 = 0 then rdI T lo hi (cm0 T q) else -rdI T lo hi (cm0 T q)
def teF (F : Nat → Int32) : Nat → Int32 := upd (upd F 20 (F 18)) 21 (if F 18 = 0 then -1 else F 19)
/-- the state of the scanner is in order -/
def TJ (F : Nat → Int32) : Prop := ixl (F 13) 801 ∧ ixl (F 14) (lmN F + 1)
def TI (F : Nat → Int32) : Prop := TJ F ∧ ixl (F 15) (lmN F + 1) ∧ (F 16 = 3 → bgN F < lmN F)
theorem seI_n {T : Nat → Int32} {n k : Nat} (h : ¬ k < n) : seI T n k = -1 := if_neg h
theorem seI_y {T : Nat → Int32} {n k : Nat} (h : k < n) : seI T n k = T k := if_pos h
theorem sk_b {T : Nat → Int32} {n : Nat} : ∀ f k, f + k = n → k ≤ skN T n f k ∧ skN T n f k ≤ n
  | 0, k, h => ⟨Nat.le_refl _, by unfold skN; omega⟩
  | f + 1, k, h => by
    unfold skN
    split
    · have := sk_b (T := T) (n := n) f (k + 1) (by omega)
      exact ⟨by omega, this.2⟩
    · exact ⟨Nat.le_refl _, by omega⟩
theorem en_b {lo hi : Int32} {T : Nat → Int32} {n : Nat} : ∀ f k, f + k = n → k ≤ enN lo hi T n f k ∧ enN lo hi T n f k ≤ n
  | 0, k, h => ⟨Nat.le_refl _, by unfold enN; omega⟩
  | f + 1, k, h => by
    unfold enN
    split
    · exact ⟨Nat.le_refl _, by omega⟩
    · have := en_b (lo := lo) (hi := hi) (T := T) (n := n) f (k + 1) (by omega)
      exact ⟨by omega, this.2⟩
theorem seI_1 {T : Nat → Int32} {n k : Nat} (h : ¬ seI T n k = -1) : k < n := by
  unfold seI at h
  split at h
  · assumption
  · exact absurd rfl h
theorem TI.j {F : Nat → Int32} (h : TI F) : TJ F := h.1
theorem ixl_le {x : Int32} {M N : Nat} (h : ixl x M) (k : M ≤ N) : ixl x N := ⟨h.1, Nat.lt_of_lt_of_le h.2 k⟩
theorem TI_sc {T : Nat → Int32} {q : tQ} (h : TJ q.1) : TI (scX T q).1 := by
  obtain ⟨h1, h2⟩ := h
  have hn := h1.2
  have ha : atN q.1 ≤ lmN q.1 := Nat.lt_succ_iff.mp h2.2
  have hb := sk_b (T := T) (n := lmN q.1) (lmN q.1 - atN q.1) (atN q.1) (by omega)
  have hln : lmN q.1 < 801 := hn
  unfold scX
  simp only
  generalize skN T (lmN q.1) (lmN q.1 - atN q.1) (atN q.1) = b at hb ⊢
  have ib : ixl (nI b) (lmN q.1 + 1) := ixl_nI (by omega) (by omega)
  have key : ∀ (F : Nat → Int32) (e : Nat), F 13 = q.1 13 → F 14 = nI e → e ≤ lmN q.1 → F 15 = nI b → (F 16 = 3 → b < lmN q.1) → TI F := by
    intro F e e13 e14 he e15 h16
    have el : lmN F = lmN q.1 := by unfold lmN; rw [e13]
    refine ⟨⟨by rw [e13]; exact h1, by rw [e14, el]; exact ixl_nI (by omega) (by omega)⟩, by rw [e15, el]; exact ib, fun h => ?_⟩
    rw [el]
    unfold bgN
    rw [e15, nI_clamp (by omega)]
    exact h16 h
  split
  · exact key _ b rfl rfl hb.2 rfl (fun h => absurd h (by show ¬ (0 : Int32) = 3; decide))
  · rename_i hc
    have hbn := seI_1 hc
    have ew := en_b (lo := 97) (hi := 122) (T := T) (n := lmN q.1) (lmN q.1 - b) b (by omega)
    have ed := en_b (lo := 48) (hi := 57) (T := T) (n := lmN q.1) (lmN q.1 - b) b (by omega)
    split
    · exact key _ _ rfl rfl ew.2 rfl (fun _ => hbn)
    · split
      · exact key _ _ rfl rfl ed.2 rfl (fun _ => hbn)
      · exact key _ (b + 1) rfl rfl (by omega) rfl (fun _ => hbn)
theorem mu_o {F : Nat → Int32} {z c : Int32} {j : Nat} (h8 : j ≠ 18) (h9 : j ≠ 19) : muF F z c j = F j := by
  unfold muF
  split
  · rw [upd_ne _ _ h9, upd_ne _ _ h8]
  · rfl
theorem TI_eq {F G : Nat → Int32} (h : TI F) (e3 : G 13 = F 13) (e4 : G 14 = F 14) (e5 : G 15 = F 15) (e6 : G 16 = F 16) : TI G := by
  unfold TI TJ lmN bgN at *
  rw [e3, e4, e5, e6]
  exact h
theorem TI_mu {F : Nat → Int32} {z c : Int32} (h : TI F) : TI (muF F z c) := TI_eq h (mu_o (by decide) (by decide)) (mu_o (by decide) (by decide)) (mu_o (by decide) (by decide)) (mu_o (by decide) (by decide))
theorem TI_go {T : Nat → Int32} {q : tQ} (h : TI q.1) : TI (goX T q).1 := by
  unfold goX
  split
  · exact TI_sc h.1
  · exact h
theorem TI_sg {T : Nat → Int32} {c : Int32} {q : tQ} (h : TI q.1) : TI (sgX T c q).1 := TI_go (TI_mu h)
theorem TI_rdF {lo hi : Int32} {F : Nat → Int32} (h : TI F) : TI (rdF lo hi F) := TI_mu (TI_mu h)
theorem TI_rd {T : Nat → Int32} {lo hi : Int32} {q : tQ} (h : TI q.1) : TI (rdX T lo hi q).1 := TI_go (TI_rdF h)
theorem TI_cm0 {T : Nat → Int32} {q : tQ} (h : TI q.1) : TI (cm0 T q).1 := by
  unfold cm0
  split
  · exact h
  · exact TI_go h
theorem TI_cm {T : Nat → Int32} {lo hi : Int32} {q : tQ} (h : TI q.1) : TI (cmX T lo hi q).1 := TI_rd (TI_cm0 h)
theorem ixl_i {x : Int32} {N : Nat} (h : ixl x N) : x = nI x.toNatClampNeg := h.1
