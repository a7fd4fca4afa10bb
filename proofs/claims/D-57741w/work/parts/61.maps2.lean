set_option maxRecDepth 100000
/-! MAPS: looking up, putting, clearing, making -/
/-- the map at m, its cells in Fp -/
def MP (Fp : Nat → Prop) (A : xA) (m c : Nat) (N H K V : Nat → Nat) (es ks vs : Option Nat) : Prop :=
  Fp m ∧ m < A.2.1 ∧ ((c = 0 ∧ ∃ (mc : Int32) (th : Nat), (th = 0 ∨ th = 16) ∧ A.1 m = some (xLg .null es 0 mc (nI th) ks vs none none)) ∨ ∃ (T n : Nat) (mc : Int32), Fp T ∧ (∀ j, j < c → Fp (N j)) ∧ LM A m T n c N H K V mc es ks vs)
theorem MP.m {Fp : Nat → Prop} {A : xA} {m c : Nat} {N H K V : Nat → Nat} {es ks vs : Option Nat} (h : MP Fp A m c N H K V es ks vs) : ∃ (t0 : Value) (mc th : Int32) (tl : Option Nat), A.1 m = some (xLg t0 es c mc th ks vs (hdF N c) tl) := by
  obtain ⟨-, -, ⟨rfl, mc, th, -, h⟩ | ⟨T, n, mc, -, -, h⟩⟩ := h
  · exact ⟨_, _, _, _, h⟩
  · exact ⟨_, _, _, _, h.2.2.2.1⟩
theorem MP.n {Fp : Nat → Prop} {A : xA} {m c : Nat} {N H K V : Nat → Nat} {es ks vs : Option Nat} (h : MP Fp A m c N H K V es ks vs) {j : Nat} (hj : j < c) : ∃ (nn bf : Option Nat), A.1 (N j) = some (xNd (H j) (K j) (V j) nn bf (afF N c j)) ∧ N j < A.2.1 ∧ Fp (N j) := by
  obtain ⟨-, -, ⟨rfl, -⟩ | ⟨T, n, mc, -, hF, h⟩⟩ := h
  · exact absurd hj (Nat.not_lt_zero _)
  · exact ⟨_, _, h.2.2.2.2.2.1 j hj, (h.2.2.1.2.1 j hj).2.2, hF j hj⟩
theorem MP.h {Fp : Nat → Prop} {A : xA} {m c : Nat} {N H K V : Nat → Nat} {es ks vs : Option Nat} (h : MP Fp A m c N H K V es ks vs) : (∀ j, j < c → H j < 40) ∧ ∀ i k, i < k → k < c → H i ≠ H k := by
  obtain ⟨-, -, ⟨rfl, -⟩ | ⟨T, n, mc, -, hF, h⟩⟩ := h
  · exact ⟨fun j hj => absurd hj (Nat.not_lt_zero _), fun i k _ hk => absurd hk (Nat.not_lt_zero _)⟩
  · exact ⟨h.2.2.2.2.2.2.1, h.2.2.2.2.2.2.2⟩
theorem LM.fr {A A' : xA} {m T n c : Nat} {N H K V : Nat → Nat} {mc : Int32} {es ks vs : Option Nat} (h : LM A m T n c N H K V mc es ks vs) (hx : A.2.1 ≤ A'.2.1) (hf : ∀ r, lmF m T N c r → A'.1 r = A.1 r) : LM A' m T n c N H K V mc es ks vs := by
  obtain ⟨h1, h2, h3, h4, ⟨tf, h5, h6⟩, h7, h8, h9⟩ := h
  exact ⟨h1, h2, ⟨h3.1, fun j hj => ⟨(h3.2.1 j hj).1, (h3.2.1 j hj).2.1, Nat.lt_of_lt_of_le (h3.2.1 j hj).2.2 hx⟩, h3.2.2.1, Nat.lt_of_lt_of_le h3.2.2.2.1 hx, Nat.lt_of_lt_of_le h3.2.2.2.2 hx⟩, (hf m (Or.inl rfl)).trans h4, ⟨tf, (hf T (Or.inr (Or.inl rfl))).trans h5, h6⟩, fun j hj => (hf _ (Or.inr (Or.inr ⟨j, hj, rfl⟩))).trans (h7 j hj), h8, h9⟩
theorem MP.fr {Fp Fp' : Nat → Prop} {A A' : xA} {m c : Nat} {N H K V : Nat → Nat} {es ks vs : Option Nat} (h : MP Fp A m c N H K V es ks vs) (hx : A.2.1 ≤ A'.2.1) (hf : ∀ r, r < A.2.1 → Fp r → A'.1 r = A.1 r) (hF : ∀ r, r < A.2.1 → Fp r → Fp' r) : MP Fp' A' m c N H K V es ks vs := by
  obtain ⟨h1, h2, ⟨rfl, mc, th, h3, h4⟩ | ⟨T, n, mc, h3, h4, h5⟩⟩ := h
  · exact ⟨hF m h2 h1, Nat.lt_of_lt_of_le h2 hx, Or.inl ⟨rfl, mc, th, h3, (hf m h2 h1).trans h4⟩⟩
  · have hT := h5.2.2.1.2.2.2.2
    have hN := fun j hj => (h5.2.2.1.2.1 j hj).2.2
    refine ⟨hF m h2 h1, Nat.lt_of_lt_of_le h2 hx, Or.inr ⟨T, n, mc, hF T hT h3, fun j hj => hF _ (hN j hj) (h4 j hj), h5.fr hx (fun r hr => ?_)⟩⟩
    rcases hr with rfl | rfl | ⟨j, hj, rfl⟩
    · exact hf _ h2 h1
    · exact hf _ hT h3
    · exact hf _ (hN j hj) (h4 j hj)
/-- the views change alone -/
theorem LM.vw {A A' : xA} {m T n c : Nat} {N H K V : Nat → Nat} {mc : Int32} {es ks vs es' ks' vs' : Option Nat} (h : LM A m T n c N H K V mc es ks vs) (hx : A.2.1 ≤ A'.2.1) (hf : ∀ r, r < A.2.1 → r ≠ m → A'.1 r = A.1 r) (hm : ∀ t0 mc th hd tl, A.1 m = some (xLg t0 es c mc th ks vs hd tl) → A'.1 m = some (xLg t0 es' c mc th ks' vs' hd tl)) : LM A' m T n c N H K V mc es' ks' vs' := by
  obtain ⟨h1, h2, h3, h4, ⟨tf, h5, h6⟩, h7, h8, h9⟩ := h
  exact ⟨h1, h2, ⟨h3.1, fun j hj => ⟨(h3.2.1 j hj).1, (h3.2.1 j hj).2.1, Nat.lt_of_lt_of_le (h3.2.1 j hj).2.2 hx⟩, h3.2.2.1, Nat.lt_of_lt_of_le h3.2.2.2.1 hx, Nat.lt_of_lt_of_le h3.2.2.2.2 hx⟩, hm _ _ _ _ _ h4, ⟨tf, (hf T h3.2.2.2.2 (Ne.symm h3.1)).trans h5, h6⟩, fun j hj => (hf _ (h3.2.1 j hj).2.2 (h3.2.1 j hj).1).trans (h7 j hj), h8, h9⟩
theorem MP.vw {Fp Fp' : Nat → Prop} {A A' : xA} {m c : Nat} {N H K V : Nat → Nat} {es ks vs es' ks' vs' : Option Nat} (h : MP Fp A m c N H K V es ks vs) (hx : A.2.1 ≤ A'.2.1) (hf : ∀ r, r < A.2.1 → r ≠ m → A'.1 r = A.1 r) (hm : ∀ t0 mc th hd tl, A.1 m = some (xLg t0 es c mc th ks vs hd tl) → A'.1 m = some (xLg t0 es' c mc th ks' vs' hd tl)) (hF : ∀ r, r < A.2.1 → Fp r → Fp' r) : MP Fp' A' m c N H K V es' ks' vs' := by
  obtain ⟨h1, h2, ⟨rfl, mc, th, h3, h4⟩ | ⟨T, n, mc, h3, h4, h5⟩⟩ := h
  · exact ⟨hF m h2 h1, Nat.lt_of_lt_of_le h2 hx, Or.inl ⟨rfl, mc, th, h3, hm _ _ _ _ _ h4⟩⟩
  · exact ⟨hF m h2 h1, Nat.lt_of_lt_of_le h2 hx, Or.inr ⟨T, n, mc, hF T h5.2.2.1.2.2.2.2 h3, fun j hj => hF _ (h5.2.2.1.2.1 j hj).2.2 (h4 j hj), h5.vw hx hf hm⟩⟩
theorem c_J4_put (g : xG) (A : xA) (Fp : Nat → Prop) (m c k f s v : Nat) (N H K V : Nat → Nat) (es ks vs : Option Nat) (hM : MP Fp A m c N H K V es ks vs) (hk : A.1 k = some (.inr (4, [.int (nI f), .int (nI s)]))) (hh : 4 * f + s < 40) (hc : c < 40) (hne : ∀ j, j < c → H j ≠ 4 * f + s) : xC g iJ4_put 5 [.ref m, .ref k, .ref v] A (xRs fun w A' => w = some .null ∧ ∃ N', MP (fun r => (r < A.2.1 ∧ Fp r) ∨ A.2.1 ≤ r) A' m (c + 1) N' (nup H c (4 * f + s)) (nup K c k) (nup V c v) es ks vs ∧ (∀ r, r < A.2.1 → ¬ Fp r → A'.1 r = A.1 r) ∧ xBd A A' 3 86) := by
  show xW g _ _ 0 [some (.ref m), some (.ref k), some (.ref v)] [] _ _
  refine x_aload_n dJ4_put_0 rfl ?_
  refine x_aload_n dJ4_put_1 rfl ?_
  refine x_csV csJ4_149 dJ4_put_2 (c_J4_hash g A k f s hk (by omega)) rfl ?_
  refine x_aload_n dJ4_put_5 rfl ?_
  refine x_aload_n dJ4_put_6 rfl ?_
  refine x_iconst (v := 0) dJ4_put_7 rfl ?_
  refine x_iconst (v := 1) dJ4_put_8 rfl ?_
  have hM2 := hM
  obtain ⟨t1, t2, ⟨rfl, mc, th, t3, t4⟩ | ⟨T, n, mc, t3, t4, t5⟩⟩ := hM
  · rcases t3 with rfl | rfl
    · refine v_cvE (q := (RJ5, TJ5, 12)) cvJ4_152_J5 dJ4_put_9 (Or.inl t4) rfl (c_J4_putVal0 g A m (4 * f + s) k v H K V mc es ks vs t4 t2 hh) rfl (fun w A1 hP => ?_)
      obtain ⟨rfl, T', n', mc', N', p1, p2, p3, p4, p5⟩ := hP
      refine x_areturn dJ4_put_12 rfl (Or.inl ⟨_, rfl⟩) (Or.inl rfl) ⟨_, rfl, rfl, N', ⟨Or.inl ⟨t2, t1⟩, Nat.lt_of_lt_of_le t2 p5.1, Or.inr ⟨T', n', mc', Or.inr p3, (fun j hj => by rw [show j = 0 by omega]; exact Or.inr p2), p1⟩⟩, (fun r h1 h2 => p4 r h1 (fun e => h2 (by rw [e]; exact t1))), p5⟩
    · refine v_cvE (q := (RJ5, TJ5, 12)) cvJ4_152_J5 dJ4_put_9 (Or.inl t4) rfl (c_J4_putVal16 g A m (4 * f + s) k v H K V mc es ks vs t4 t2 hh) rfl (fun w A1 hP => ?_)
      obtain ⟨rfl, T', n', mc', N', p1, p2, p3, p4, p5⟩ := hP
      refine x_areturn dJ4_put_12 rfl (Or.inl ⟨_, rfl⟩) (Or.inl rfl) ⟨_, rfl, rfl, N', ⟨Or.inl ⟨t2, t1⟩, Nat.lt_of_lt_of_le t2 p5.1, Or.inr ⟨T', n', mc', Or.inr p3, (fun j hj => by rw [show j = 0 by omega]; exact Or.inr p2), p1⟩⟩, (fun r h1 h2 => p4 r h1 (fun e => h2 (by rw [e]; exact t1))), p5⟩
  · refine v_cvE (q := (RJ5, TJ5, 12)) cvJ4_152_J5 dJ4_put_9 (Or.inl t5.2.2.2.1) rfl (c_J4_putVal g A m T n c (4 * f + s) k v N H K V mc es ks vs t5 hh hc hne) rfl (fun w A1 hP => ?_)
    obtain ⟨rfl, T', n', mc', N', p1, p2, p3, p4, p5, p6⟩ := hP
    have hT := t5.2.2.1.2.2.2.2
    refine x_areturn dJ4_put_12 rfl (Or.inl ⟨_, rfl⟩) (Or.inl rfl) ⟨_, rfl, rfl, N', ⟨Or.inl ⟨t2, t1⟩, Nat.lt_of_lt_of_le t2 p6.1, Or.inr ⟨T', n', mc', (p4.elim (fun e => Or.inl (by rw [e]; exact ⟨hT, t3⟩)) Or.inr), (fun j hj => ?_), p1⟩⟩, (fun r h1 h2 => p5 r h1 (fun e => ?_)), ⟨p6.1, by have := p6.2.1; omega, by have := p6.2.2; omega⟩⟩
    · by_cases e : j = c
      · rw [e]; exact Or.inr p3
      · rw [p2 j (by omega)]; exact Or.inl ⟨(t5.2.2.1.2.1 j (by omega)).2.2, t4 j (by omega)⟩
    · rcases e with rfl | rfl | ⟨j, hj, rfl⟩
      · exact h2 t1
      · exact h2 t3
      · exact h2 (t4 j hj)
theorem c_J7_add (g : xG) (A : xA) (E : Nat → Nat) (hg : gW g E) (q : Nat) (Fp : Nat → Prop) (m c k f s : Nat) (N H K V : Nat → Nat) (es ks vs : Option Nat) (hM : MP Fp A m c N H K V es ks vs) (hk : A.1 k = some (.inr (4, [.int (nI f), .int (nI s)]))) (hh : 4 * f + s < 40) (hc : c < 40) (hne : ∀ j, j < c → H j ≠ 4 * f + s) (hq : A.1 q = some (.inr (13, [.ref m]))) : xC g iJ7_add 6 [.ref q, .ref k] A (xRs fun w A' => w = some (.int 1) ∧ ∃ N', MP (fun r => (r < A.2.1 ∧ Fp r) ∨ A.2.1 ≤ r) A' m (c + 1) N' (nup H c (4 * f + s)) (nup K c k) (nup V c (E 1)) es ks vs ∧ (∀ r, r < A.2.1 → ¬ Fp r → A'.1 r = A.1 r) ∧ xBd A A' 3 86) := by
  show xW g _ _ 0 [some (.ref q), some (.ref k)] [] _ _
  refine x_aload_n dJ7_add_0 rfl ?_
  refine x_get fgJ7_10_13 dJ7_add_1 (Or.inl hq) rfl ?_
  refine x_aload_n dJ7_add_4 rfl ?_
  refine x_gets hg.2.2.1.1 q2584 (Or.inl rfl) dJ7_add_5 ?_
  obtain ⟨t0, mc, th, tl, hm⟩ := hM.m
  refine v_cvE (q := (RJ5, TJ5, 12)) cvJ7_68_J5 dJ7_add_8 (Or.inl hm) rfl (c_J4_put g A Fp m c k f s (E 1) N H K V es ks vs hM hk hh hc hne) rfl (fun w A1 hP => ?_)
  obtain ⟨rfl, hP⟩ := hP
  refine x_nn_F dJ7_add_11 ?_
  refine x_iconst (v := 1) dJ7_add_14 rfl ?_
  refine x_goto (tgt := 19) dJ7_add_15 (by decide) ?_
  exact x_ireturn dJ7_add_19 rfl rfl ⟨_, rfl, rfl, hP⟩
theorem c_J4_size (g : xG) (A : xA) (m : Nat) (t0 : Value) (es ks vs hd tl : Option Nat) (c : Nat) (mc th : Int32) (hm : A.1 m = some (xLg t0 es c mc th ks vs hd tl)) : xC g iJ4_size 0 [.ref m] A (xRet (some (.int (nI c))) A) := by
  show xW g _ _ 0 [some (.ref m)] [] _ _
  refine x_aload_n dJ4_size_0 rfl ?_
  refine x_get fgJ4_156_12 dJ4_size_1 (Or.inl hm) rfl ?_
  exact x_ireturn dJ4_size_4 rfl rfl ⟨rfl, rfl⟩
theorem c_J7_size (g : xG) (A : xA) (q : Nat) (m : Nat) (t0 : Value) (es ks vs hd tl : Option Nat) (c : Nat) (mc th : Int32) (hq : A.1 q = some (.inr (13, [.ref m]))) (hm : A.1 m = some (xLg t0 es c mc th ks vs hd tl)) : xC g iJ7_size 1 [.ref q] A (xRet (some (.int (nI c))) A) := by
  show xW g _ _ 0 [some (.ref q)] [] _ _
  refine x_aload_n dJ7_size_0 rfl ?_
  refine x_get fgJ7_10_13 dJ7_size_1 (Or.inl hq) rfl ?_
  refine x_cvV (q := (RJ5, TJ5, 12)) cvJ7_55_J5 dJ7_size_4 (Or.inl hm) rfl (c_J4_size _ _ m t0 es ks vs hd tl c mc th hm) rfl ?_
  exact x_ireturn dJ7_size_7 rfl rfl ⟨rfl, rfl⟩
theorem cm_l (g : xG) (A : xA) (m T n : Nat) (es ks vs hd tl : Option Nat) (mc th : Int32) (tf : Nat → Option Nat) (hD : ovD [m, T]) (hn : n < 2 ^ 31) : ∀ q k, q + k = n → xW g iJ4_clear 0 33 [some (.ref m), some (.ref T), some (.int (nI k))] [] (ov A [(m, xLg (.ref T) es 0 mc th ks vs hd tl), (T, xQa 6 n (clF k tf))]) (xRet none (ov A [(m, xLg (.ref T) es 0 mc th ks vs hd tl), (T, xQa 6 n (clF n tf))])) := by
  intro q
  induction q with
  | zero =>
    intro k hk
    have e : k = n := by omega
    subst e
    refine x_iload_n dJ4_clear_33 rfl ?_
    refine x_aload_n dJ4_clear_34 rfl ?_
    refine x_alen dJ4_clear_35 (Or.inl (ov_at hD (i := 1) rfl)) (t := 6) rfl (v := nI k) rfl ?_
    refine x_icmp_geT (tgt := 49) dJ4_clear_36 (by decide) (nI_le (Nat.le_refl _) (by omega)) ?_
    exact x_return dJ4_clear_49 rfl ⟨rfl, rfl⟩
  | succ q ih =>
    intro k hk
    refine x_iload_n dJ4_clear_33 rfl ?_
    refine x_aload_n dJ4_clear_34 rfl ?_
    refine x_alen dJ4_clear_35 (Or.inl (ov_at hD (i := 1) rfl)) (t := 6) rfl (v := nI n) rfl ?_
    refine x_icmp_geF dJ4_clear_36 49 (by decide) (nI_ge (by omega) (by omega)) ?_
    refine x_aload_n dJ4_clear_39 rfl ?_
    refine x_iload_n dJ4_clear_40 rfl ?_
    refine x_null dJ4_clear_41 ?_
    refine v_astN hD (i := 1) rfl dJ4_clear_42 (t := 6) rfl (vp_in_nI (n := k) (by omega) (by omega)) ?_
    rw [show (nI k).toNatClampNeg = k from nI_clamp (by omega)]
    rw [clF_1]
    refine x_iinc (v := nI (k + 1)) dJ4_clear_43 rfl (nI_1 _) (by decide) rfl ?_
    refine x_goto (tgt := 33) dJ4_clear_46 (by decide) ?_
    exact ih (k + 1) (by omega)
theorem c_J4_clear_n (g : xG) (A : xA) (m T n c : Nat) (es ks vs hd tl : Option Nat) (mc th : Int32) (tf : Nat → Option Nat) (hm : A.1 m = some (xLg (.ref T) es c mc th ks vs hd tl)) (hT : A.1 T = some (xQa 6 n tf)) (hc : 0 < c) (hc2 : c < 2 ^ 31) (hn : n < 2 ^ 31) : xC g iJ4_clear 0 [.ref m] A (xRet none (ov A [(m, xLg (.ref T) es 0 (mc + 1) th ks vs hd tl), (T, xQa 6 n (clF n tf))])) := by
  show xW g _ _ 0 [some (.ref m), none, none] [] _ _
  refine xW.at2 hm hT ?_
  have hD : ovD [m, T] := ovD_2 (xdf hT hm xne_a')
  refine x_aload_n dJ4_clear_0 rfl ?_
  refine x_dup dJ4_clear_1 rfl ?_
  refine x_get fgJ4_202_12 dJ4_clear_2 (Or.inl (ov_at hD (i := 0) rfl)) rfl ?_
  refine x_iconst (v := 1) dJ4_clear_5 rfl ?_
  refine x_iadd dJ4_clear_6 ?_
  refine v_put hD (i := 0) rfl fpJ4_202_12 dJ4_clear_7 ⟨rfl, rfl⟩ (by exact Nat.le_of_ble_eq_true rfl) ?_
  refine x_aload_n dJ4_clear_10 rfl ?_
  refine x_get fgJ4_105_12 dJ4_clear_11 (Or.inl (ov_at hD (i := 0) rfl)) rfl ?_
  refine x_dup dJ4_clear_14 rfl ?_
  refine x_astore_n dJ4_clear_15 (by decide) rfl ?_
  refine x_n_F dJ4_clear_16 ?_
  refine x_aload_n dJ4_clear_19 rfl ?_
  refine x_get fgJ4_156_12 dJ4_clear_20 (Or.inl (ov_at hD (i := 0) rfl)) rfl ?_
  refine x_if_leF dJ4_clear_23 49 (by decide) (nI_nle hc hc2) ?_
  refine x_aload_n dJ4_clear_26 rfl ?_
  refine x_iconst (v := 0) dJ4_clear_27 rfl ?_
  refine v_put hD (i := 0) rfl fpJ4_156_12 dJ4_clear_28 ⟨rfl, rfl⟩ (by exact Nat.le_of_ble_eq_true rfl) ?_
  refine x_iconst (v := 0) dJ4_clear_31 rfl ?_
  refine x_istore_n dJ4_clear_32 (by decide) rfl ?_
  have k9 := cm_l g A m T n es ks vs hd tl (mc + 1) th tf hD hn n 0 (by omega)
  rw [clF_0] at k9
  exact k9
theorem c_J4_clear_0 (g : xG) (A : xA) (m T : Nat) (es ks vs hd tl : Option Nat) (mc th : Int32) (hm : A.1 m = some (xLg (.ref T) es 0 mc th ks vs hd tl)) : xC g iJ4_clear 0 [.ref m] A (xRet none (xup A m (xLg (.ref T) es 0 (mc + 1) th ks vs hd tl))) := by
  show xW g _ _ 0 [some (.ref m), none, none] [] _ _
  refine xW.at1 hm ?_
  have hD : ovD [m] := ovD_1
  refine x_aload_n dJ4_clear_0 rfl ?_
  refine x_dup dJ4_clear_1 rfl ?_
  refine x_get fgJ4_202_12 dJ4_clear_2 (Or.inl (ov_at hD (i := 0) rfl)) rfl ?_
  refine x_iconst (v := 1) dJ4_clear_5 rfl ?_
  refine x_iadd dJ4_clear_6 ?_
  refine v_put hD (i := 0) rfl fpJ4_202_12 dJ4_clear_7 ⟨rfl, rfl⟩ (by exact Nat.le_of_ble_eq_true rfl) ?_
  refine x_aload_n dJ4_clear_10 rfl ?_
  refine x_get fgJ4_105_12 dJ4_clear_11 (Or.inl (ov_at hD (i := 0) rfl)) rfl ?_
  refine x_dup dJ4_clear_14 rfl ?_
  refine x_astore_n dJ4_clear_15 (by decide) rfl ?_
  refine x_n_F dJ4_clear_16 ?_
  refine x_aload_n dJ4_clear_19 rfl ?_
  refine x_get fgJ4_156_12 dJ4_clear_20 (Or.inl (ov_at hD (i := 0) rfl)) rfl ?_
  refine x_if_leT (tgt := 49) dJ4_clear_23 (by decide) (by decide) ?_
  exact x_return dJ4_clear_49 rfl ⟨rfl, rfl⟩
theorem c_J4_clear_x (g : xG) (A : xA) (m : Nat) (es ks vs hd tl : Option Nat) (mc th : Int32) (hm : A.1 m = some (xLg .null es 0 mc th ks vs hd tl)) : xC g iJ4_clear 0 [.ref m] A (xRet none (xup A m (xLg .null es 0 (mc + 1) th ks vs hd tl))) := by
  show xW g _ _ 0 [some (.ref m), none, none] [] _ _
  refine xW.at1 hm ?_
  have hD : ovD [m] := ovD_1
  refine x_aload_n dJ4_clear_0 rfl ?_
  refine x_dup dJ4_clear_1 rfl ?_
  refine x_get fgJ4_202_12 dJ4_clear_2 (Or.inl (ov_at hD (i := 0) rfl)) rfl ?_
  refine x_iconst (v := 1) dJ4_clear_5 rfl ?_
  refine x_iadd dJ4_clear_6 ?_
  refine v_put hD (i := 0) rfl fpJ4_202_12 dJ4_clear_7 ⟨rfl, rfl⟩ (by exact Nat.le_of_ble_eq_true rfl) ?_
  refine x_aload_n dJ4_clear_10 rfl ?_
  refine x_get fgJ4_105_12 dJ4_clear_11 (Or.inl (ov_at hD (i := 0) rfl)) rfl ?_
  refine x_dup dJ4_clear_14 rfl ?_
  refine x_astore_nN dJ4_clear_15 (by decide) rfl ?_
  refine x_n_T (tgt := 49) dJ4_clear_16 (by decide) ?_
  exact x_return dJ4_clear_49 rfl ⟨rfl, rfl⟩
