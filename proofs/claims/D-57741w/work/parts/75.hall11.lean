set_option maxRecDepth 100000
/-! A HALL CHANGES: a fiddler tunes -/
theorem tfS_def (S0 : Nat → Int32) (f : Nat) (r : Option Nat) : tfS S0 f r = (cpK f 3 (cpK f 2 (cpK f 1 (cpK f 0 (su (su (su (tfI f r (S0 16) 4 (S0, 0)).1 f 2 (if (tfI f r (S0 16) 4 (S0, 0)).2 = 0 then 1 else 0)) f 3 (rI r)) f 4 (chS (su (su (tfI f r (S0 16) 4 (S0, 0)).1 f 2 (if (tfI f r (S0 16) 4 (S0, 0)).2 = 0 then 1 else 0)) f 3 (rI r)) r (tfI f r (S0 16) 4 (S0, 0)).2))))), (tfI f r (S0 16) 4 (S0, 0)).2) := rfl
theorem cpK_o {f k i : Nat} {S : Nat → Int32} (h : i ≠ 70 + 21 * f + (5 + k)) : cpK f k S i = S i := upd_ne _ _ h
theorem tfS_2 (S0 : Nat → Int32) (f : Nat) (r : Option Nat) : (tfS S0 f r).2 = (tfI f r (S0 16) 4 (S0, 0)).2 := rfl
theorem tfS_o {S0 : Nat → Int32} {f i : Nat} {r : Option Nat} (h : ¬ (70 + 21 * f + 2 ≤ i ∧ i < 70 + 21 * f + 9)) : (tfS S0 f r).1 i = (tfI f r (S0 16) 4 (S0, 0)).1 i := by
  rw [tfS_def]
  exact (cpK_o (by omega)).trans ((cpK_o (by omega)).trans ((cpK_o (by omega)).trans ((cpK_o (by omega)).trans ((upd_ne _ _ (by omega)).trans ((upd_ne _ _ (by omega)).trans (upd_ne _ _ (by omega)))))))
theorem tfS_w2 {S0 : Nat → Int32} {f : Nat} {r : Option Nat} : hs (tfS S0 f r).1 f 2 = if (tfI f r (S0 16) 4 (S0, 0)).2 = 0 then 1 else 0 := by
  rw [tfS_def]
  exact (cpK_o (by omega)).trans ((cpK_o (by omega)).trans ((cpK_o (by omega)).trans ((cpK_o (by omega)).trans ((upd_ne _ _ (by omega)).trans ((upd_ne _ _ (by omega)).trans (upd_self _ _ _))))))
theorem tfS_w3 {S0 : Nat → Int32} {f : Nat} {r : Option Nat} : hs (tfS S0 f r).1 f 3 = rI r := by
  rw [tfS_def]
  exact (cpK_o (by omega)).trans ((cpK_o (by omega)).trans ((cpK_o (by omega)).trans ((cpK_o (by omega)).trans ((upd_ne _ _ (by omega)).trans (upd_self _ _ _)))))
def chX (S : Nat → Int32) (r : Option Nat) : Int32 := match r with
  | none => 1
  | some u => hs S u 4 + 1
theorem chX_pos {S : Nat → Int32} {r : Option Nat} (h : ∀ u, r = some u → ∃ cn : Nat, 1 ≤ cn ∧ cn ≤ 100 ∧ hs S u 4 = nI cn) : ∃ cn : Nat, 1 ≤ cn ∧ cn ≤ 101 ∧ chX S r = nI cn := by
  cases r with
  | none => exact ⟨1, by omega, by omega, rfl⟩
  | some u =>
    obtain ⟨cn, a, b, c⟩ := h u rfl
    refine ⟨cn + 1, by omega, by omega, ?_⟩
    show hs S u 4 + 1 = _
    rw [c, nI_1]
theorem chS_X {T S : Nat → Int32} {f : Nat} {r : Option Nat} {a b y : Int32} (hT : T = su (su S f 2 a) f 3 b) (hr : ∀ u, r = some u → u ≠ f) : chS T r y = if y = 0 then chX S r else 0 := by
  subst hT
  unfold chS
  by_cases h : y = 0
  · rw [if_pos h, if_pos h]
    cases r with
    | none => rfl
    | some u =>
      have := hr u rfl
      show 1 + hs (su (su S f 2 a) f 3 b) u 4 = hs S u 4 + 1
      rw [Int32.add_comm]
      exact congrArg (· + 1) ((upd_ne _ _ (by omega)).trans (upd_ne _ _ (by omega)))
  · rw [if_neg h, if_neg h]
theorem tfS_w4 {S0 : Nat → Int32} {f : Nat} {r : Option Nat} (hr : ∀ u, r = some u → u ≠ f) : hs (tfS S0 f r).1 f 4 = if (tfI f r (S0 16) 4 (S0, 0)).2 = 0 then chX (tfI f r (S0 16) 4 (S0, 0)).1 r else 0 := by
  rw [tfS_def]
  generalize tfI f r (S0 16) 4 (S0, 0) = q
  refine ((cpK_o (by omega)).trans ((cpK_o (by omega)).trans ((cpK_o (by omega)).trans ((cpK_o (by omega)).trans (upd_self _ _ _))))).trans ?_
  exact chS_X rfl hr
theorem tfS_w5 {S0 : Nat → Int32} {f k : Nat} {r : Option Nat} (hk : k < 4) : hs (tfS S0 f r).1 f (5 + k) = hs (tfI f r (S0 16) 4 (S0, 0)).1 f (9 + k) := by
  have e : ∀ (j : Nat) (T : Nat → Int32), hs (cpK f j T) f (5 + j) = hs T f (9 + j) := fun j T => upd_self _ _ _
  have o : ∀ (j i : Nat) (T : Nat → Int32), i ≠ j → i < 4 → j < 4 → hs (cpK f j T) f (5 + i) = hs T f (5 + i) := fun j i T h _ _ => upd_ne _ _ (by omega)
  have o9 : ∀ (j i : Nat) (T : Nat → Int32), j < 4 → hs (cpK f j T) f (9 + i) = hs T f (9 + i) := fun j i T _ => upd_ne _ _ (by omega)
  have b : ∀ (i : Nat) (T : Nat → Int32) (a b c : Int32), hs (su (su (su T f 2 a) f 3 b) f 4 c) f (9 + i) = hs T f (9 + i) := fun i T a b c => (upd_ne _ _ (by omega)).trans ((upd_ne _ _ (by omega)).trans (upd_ne _ _ (by omega)))
  rw [tfS_def]
  show hs (cpK f 3 (cpK f 2 (cpK f 1 (cpK f 0 _)))) f (5 + k) = _
  rcases (by omega : k = 0 ∨ k = 1 ∨ k = 2 ∨ k = 3) with rfl | rfl | rfl | rfl
  · rw [o 3 0 _ (by omega) (by omega) (by omega), o 2 0 _ (by omega) (by omega) (by omega), o 1 0 _ (by omega) (by omega) (by omega), e 0, b]
  · rw [o 3 1 _ (by omega) (by omega) (by omega), o 2 1 _ (by omega) (by omega) (by omega), e 1, o9 0 1 _ (by omega), b]
  · rw [o 3 2 _ (by omega) (by omega) (by omega), e 2, o9 1 2 _ (by omega), o9 0 2 _ (by omega), b]
  · rw [e 3, o9 2 3 _ (by omega), o9 1 3 _ (by omega), o9 0 3 _ (by omega), b]
theorem tn_end {g : xG} {σ : Nat → Nat → Nat} {S4 : Nat → Int32} {r : Option Nat} {A : xA} {Q : Outcome → xA → Prop} {X3 X4 X5 X6 : Option Value} {p : Nat} (hu : ∀ u, r = some u → ∃ e : Int32 × Nat × Nat × Int32 × Int32 × Int32, A.1 (σ 1 u) = some (xFd (nI u) e.1 e.2.1 e.2.2.1 e.2.2.2.1 e.2.2.2.2.1 e.2.2.2.2.2) ∧ e.2.2.2.2.1 = hs S4 u 4) (fin : xW g iX3_tune 12 123 [some (.ref (σ 0 0)), some (.ref p), some (va_rf (r.map (σ 1))), X3, X4, X5, X6] [.int (chX S4 r), .ref p] A Q) : xW g iX3_tune 12 108 [some (.ref (σ 0 0)), some (.ref p), some (va_rf (r.map (σ 1))), X3, X4, X5, X6] [] A Q := by
  refine x_aload_n dX3_tune_108 rfl ?_
  cases r with
  | none =>
    refine x_aload_nN dX3_tune_109 rfl ?_
    refine x_nn_F dX3_tune_110 ?_
    refine x_iconst (v := 1) dX3_tune_113 rfl ?_
    refine x_goto (tgt := 123) dX3_tune_114 (by decide) ?_
    exact fin
  | some u =>
    obtain ⟨⟨e1, e2, e3, e4, e5, e6⟩, h1, h2⟩ := hu u rfl
    refine x_aload_n dX3_tune_109 rfl ?_
    refine x_nn_T (tgt := 117) dX3_tune_110 (by decide) ?_
    refine x_aload_n dX3_tune_117 rfl ?_
    refine x_get fgX3_217_3 dX3_tune_118 (Or.inl h1) rfl ?_
    refine x_top (y := hs S4 u 4) h2 ?_
    refine x_iconst (v := 1) dX3_tune_121 rfl ?_
    refine x_iadd dX3_tune_122 ?_
    exact fin
theorem tn_beg {g : xG} {σ : Nat → Nat → Nat} {r : Option Nat} {A : xA} {Q : Outcome → xA → Prop} {v3 : Value} {p : Nat} (hu : ∀ u, r = some u → ∃ e : Int32 × Nat × Nat × Int32 × Int32 × Int32, A.1 (σ 1 u) = some (xFd (nI u) e.1 e.2.1 e.2.2.1 e.2.2.2.1 e.2.2.2.2.1 e.2.2.2.2.2)) (mid : xW g iX3_tune 12 19 [some (.ref (σ 0 0)), some (.ref p), some (va_rf (r.map (σ 1))), some v3, none, none, none] [.int (rI r), .ref p] A Q) : xW g iX3_tune 12 6 [some (.ref (σ 0 0)), some (.ref p), some (va_rf (r.map (σ 1))), some v3, none, none, none] [.ref p] A Q := by
  cases r with
  | none =>
    refine x_aload_nN dX3_tune_6 rfl ?_
    refine x_nn_F dX3_tune_7 ?_
    refine x_bipush (v := (-2)) dX3_tune_10 (by decide) ?_
    refine x_goto (tgt := 19) dX3_tune_12 (by decide) ?_
    exact mid
  | some u =>
    obtain ⟨⟨e1, e2, e3, e4, e5, e6⟩, h1⟩ := hu u rfl
    refine x_aload_n dX3_tune_6 rfl ?_
    refine x_nn_T (tgt := 15) dX3_tune_7 (by decide) ?_
    refine x_aload_n dX3_tune_15 rfl ?_
    refine x_get fgX3_108_3 dX3_tune_16 (Or.inl h1) rfl ?_
    exact mid
theorem c_X3_tune (g : xG) (A : xA) (E τ : Nat → Nat) (σ : Nat → Nat → Nat) (tf : Nat → Nat → Int32) (S Y : Nat → Int32) (hB : HB g E τ σ tf S Y A) (hg : gW g E) (f c0 : Nat) (r : Option Nat) (hf : f < manyS S) (hru : ∀ u, r = some u → u < manyS S ∧ u ≠ f ∧ ∀ k, k < 4 → tf u k = hs S u (9 + k)) (hcn : ∀ u, r = some u → ∃ cn : Nat, 1 ≤ cn ∧ cn ≤ 100 ∧ hs S u 4 = nI cn) (hch : hs S f 4 = 0) (hc0 : c0 ≤ 36) (hfg : fgN S ≤ c0) (hne : ∀ j, j < fgN S → ∀ q, q < 4 → S (30 + j) ≠ nI (4 * f + q)) : xW g iX3_tune 12 0 [some (.ref (σ 0 0)), some (.ref (σ 1 f)), some (va_rf (r.map (σ 1))), none, none, none, none] [] A (xRs fun u A' => u = none ∧ ∃ τ' N H K V w, HB g E τ' (sg7 σ N H K V) (tfU tf f w) (tfS S f r).1 (upd Y f (tfS S f r).2) A' ∧ (hs (tfS S f r).1 f 2 = 1 → ∀ k, k < 4 → w k = hs (tfS S f r).1 f (9 + k)) ∧ tnI S f c0 4 (tfI f r (S 16) 4 (S, 0)).1 (tfI f r (S 16) 4 (S, 0)).2 w ∧ hst τ A τ' A' 16 352) := by
  obtain ⟨hm10, hr10⟩ := hB.le
  have h2 := (hB.fd hf).2.2.2.1
  have hB1 : HB g E τ σ tf (upd S (70 + 21 * f + 3) (rI r)) Y _ := hB.uf (S' := (upd S (70 + 21 * f + 3) (rI r))) (Y' := Y) hf (fun i hi => upd_ne _ _ (by omega)) (fun _ _ => rfl) (fun q => by rw [show hs (upd S (70 + 21 * f + 3) (rI r)) f 4 = hs S f 4 from upd_ne _ _ (by omega), hch] at q; exact absurd q (by decide)) (by rw [show hs (upd S (70 + 21 * f + 3) (rI r)) f 2 = hs S f 2 from upd_ne _ _ (by omega), show hs (upd S (70 + 21 * f + 3) (rI r)) f 4 = hs S f 4 from upd_ne _ _ (by omega)]; exact h2)
  have hf1 : f < manyS (upd S (70 + 21 * f + 3) (rI r)) := by rw [manyS_eq (upd_ne _ _ (by omega))]; exact hf
  have hB2 := hB1.uf (S' := (upd S (70 + 21 * f + 3) (rI r))) (Y' := upd Y f 0) hf1 (fun _ _ => rfl) (fun i hi => upd_ne _ _ hi) (hB1.fd hf1).2.2.1 (hB1.fd hf1).2.2.2.1
  rw [show (upd Y f 0) f = 0 from upd_self _ _ _] at hB2
  have t1 : τ (σ 1 f) = 20 + f := (hB.fd hf).1.1
  have w3 : hs (upd S (70 + 21 * f + 3) (rI r)) f 3 = rI r := upd_self _ _ _
  have w4 : hs (upd S (70 + 21 * f + 3) (rI r)) f 4 = hs S f 4 := upd_ne _ _ (by omega)
  have w1 : hs (upd S (70 + 21 * f + 3) (rI r)) f 1 = hs S f 1 := upd_ne _ _ (by omega)
  rw [w3, w4] at hB1
  rw [w3, w4, w1] at hB2
  have s2 : hst τ A τ _ 0 0 := (hst_up (A := A) (τ := τ) (a := σ 1 f) (e := xFd (nI f) (hs S f 1) (σ 3 f) (σ 2 f) (rI r) (hs S f 4) (Y f)) (by rw [t1]; omega)).tr (hst_up (a := σ 1 f) (e := xFd (nI f) (hs S f 1) (σ 3 f) (σ 2 f) (rI r) (hs S f 4) 0) (by rw [t1]; omega))
  have hI0 : tnI S f c0 0 S 0 (tf f) := ⟨fun _ _ => rfl, fun i hi => absurd hi (Nat.not_lt_zero _), fun _ i hi => absurd hi (Nat.not_lt_zero _), fun _ _ _ => rfl, ⟨0, Nat.le_refl _, by rw [nI_0]; simp⟩, hB.f19.1, by omega, fun j hj q _ hq => hne j hj q hq, fun j hj => Or.inl ⟨hj, rfl⟩⟩
  have loop : ∀ X5 X6, xW g iX3_tune 12 30 [some (.ref (σ 0 0)), some (.ref (σ 1 f)), some (va_rf (r.map (σ 1))), some (.int (S 16)), some (.int (nI 0)), X5, X6] [] (xup (xup A (σ 1 f) (xFd (nI f) (hs S f 1) (σ 3 f) (σ 2 f) (rI r) (hs S f 4) (Y f))) (σ 1 f) (xFd (nI f) (hs S f 1) (σ 3 f) (σ 2 f) (rI r) (hs S f 4) 0)) (xRs fun u A' => u = none ∧ ∃ τ' N H K V w, HB g E τ' (sg7 σ N H K V) (tfU tf f w) (tfS S f r).1 (upd Y f (tfS S f r).2) A' ∧ (hs (tfS S f r).1 f 2 = 1 → ∀ k, k < 4 → w k = hs (tfS S f r).1 f (9 + k)) ∧ tnI S f c0 4 (tfI f r (S 16) 4 (S, 0)).1 (tfI f r (S 16) 4 (S, 0)).2 w ∧ hst τ A τ' A' 16 352) := by
    intro X5 X6
    refine tn_l g E σ tf S Y τ A hg f c0 r hf hru hch hc0 ?_ 4 0 τ _ (σ 7) (σ 8) (σ 9) (σ 10) (tf f) X5 X6 (by omega) (by rw [sg7_id, tfU_id]; exact hB2) hI0 (s2.le (by omega) (by omega))
    intro τ9 A9 N H K V w X5 X6 hB hI s
    generalize hq : tfI f r (S 16) 4 (S, 0) = q4 at hB hI
    obtain ⟨S4, y⟩ := q4
    replace hI : tnI S f c0 4 S4 y w := hI
    replace hB : HB g E τ9 (sg7 σ N H K V) (tfU tf f w) (upd S4 (70 + 21 * f + 3) (rI r)) (upd Y f y) A9 := hB
    have i1 := hI.1
    have hmn : manyS (upd S4 (70 + 21 * f + 3) (rI r)) = manyS S := (manyS_eq (upd_ne _ _ (by omega))).trans (manyS_eq (i1 13 (by omega)))
    have hf9 : f < manyS (upd S4 (70 + 21 * f + 3) (rI r)) := by rw [hmn]; exact hf
    have eY : (tfS S f r).2 = y := by rw [tfS_2, hq]
    have eo : ∀ i, ¬ (70 + 21 * f + 2 ≤ i ∧ i < 70 + 21 * f + 9) → (tfS S f r).1 i = S4 i := fun i hi => by rw [tfS_o hi, hq]
    have e2 : hs (tfS S f r).1 f 2 = if y = 0 then 1 else 0 := by rw [tfS_w2, hq]
    have e3 : hs (tfS S f r).1 f 3 = rI r := tfS_w3
    have e4 : hs (tfS S f r).1 f 4 = if y = 0 then chX S4 r else 0 := by rw [tfS_w4 (fun u hu => (hru u hu).2.1), hq]
    have e5 : ∀ k, k < 4 → hs (tfS S f r).1 f (5 + k) = hs S4 f (9 + k) := fun k hk => by rw [tfS_w5 hk, hq]
    have hw : y = 0 → ∀ k, k < 4 → w k = hs S4 f (9 + k) := fun h k hk => hI.2.1 k hk (hI.2.2.1 h k hk)
    have hS9 : ∀ i, ¬ (70 + 21 * f + 2 ≤ i ∧ i < 70 + 21 * f + 9) → (tfS S f r).1 i = (upd S4 (70 + 21 * f + 3) (rI r)) i := fun i hi => (eo i hi).trans (upd_ne _ _ (by omega)).symm
    have ch0 : y = 0 → ∃ cn : Nat, 1 ≤ cn ∧ cn ≤ 101 ∧ hs (tfS S f r).1 f 4 = nI cn := fun h => by
      rw [e4, if_pos h]
      exact chX_pos (fun u hu => by
        obtain ⟨cn, a, b, c⟩ := hcn u hu
        have u9 := (hru u hu)
        exact ⟨cn, a, b, (i1 _ (by omega)).trans c⟩)
    have ch1 : ¬ y = 0 → hs (tfS S f r).1 f 4 = 0 := fun h => by rw [e4, if_neg h]
    have hB9 := hB.uf (S' := (tfS S f r).1) (Y' := upd Y f (tfS S f r).2) hf9 hS9 (fun i hi => by rw [eY]) (fun hp k hk => by
      rw [tfU_s]
      by_cases h : y = 0
      · rw [hw h k hk, e5 k hk]
      · rw [ch1 h] at hp
        exact absurd hp (by decide)) (by
      by_cases h : y = 0
      · obtain ⟨cn, a, b, c⟩ := ch0 h
        rw [e2, if_pos h, c, flI_y]
        have := nI_lt (a := 0) (b := cn) (by omega) (by omega)
        rwa [nI_0] at this
      · rw [e2, if_neg h, ch1 h]
        rfl)
    rw [show (upd Y f (tfS S f r).2) f = y from (upd_self _ _ _).trans eY, show hs (upd S4 (70 + 21 * f + 3) (rI r)) f 1 = hs S f 1 from (upd_ne _ _ (by omega)).trans (i1 _ (by omega)), e3] at hB9
    have hfd := (hB.fd hf9).1.2.2
    rw [show hs (upd S4 (70 + 21 * f + 3) (rI r)) f 1 = hs S f 1 from (upd_ne _ _ (by omega)).trans (i1 _ (by omega)), show hs (upd S4 (70 + 21 * f + 3) (rI r)) f 3 = rI r from upd_self _ _ _, show hs (upd S4 (70 + 21 * f + 3) (rI r)) f 4 = hs S f 4 from (upd_ne _ _ (by omega)).trans (i1 _ (by omega)), show (upd Y f y) f = y from upd_self _ _ _] at hfd
    have t9 : τ9 (σ 1 f) = 20 + f := (hB.fd hf9).1.1
    have hwk : hs (tfS S f r).1 f 2 = 1 → ∀ k, k < 4 → w k = hs (tfS S f r).1 f (9 + k) := fun h k hk => by
      by_cases h0 : y = 0
      · rw [hw h0 k hk]
        exact (eo _ (by omega)).symm
      · rw [e2, if_neg h0] at h
        exact absurd h (by decide)
    refine x_aload_n dX3_tune_101 rfl ?_
    refine x_get fgX3_204_3 dX3_tune_102 (Or.inl hfd) rfl ?_
    refine x_if_ne 126 dX3_tune_105 (by decide) (fun c105 => ?_) (fun c105 => ?_)
    · rw [ch1 c105] at hB9
      rw [hch] at hfd
      rw [show xup A9 (sg7 σ N H K V 1 f) (xFd (nI f) (hs S f 1) (sg7 σ N H K V 3 f) (sg7 σ N H K V 2 f) (rI r) 0 y) = A9 from xup_id hfd] at hB9
      exact x_return dX3_tune_126 rfl ⟨_, rfl, rfl, τ9, N, H, K, V, w, hB9, hwk, hI, s⟩
    · have fin : xW g iX3_tune 12 123 [some (.ref (σ 0 0)), some (.ref (σ 1 f)), some (va_rf (r.map (σ 1))), some (.int (S 16)), some (.int (nI 4)), X5, X6] [.int (hs (tfS S f r).1 f 4), .ref (σ 1 f)] A9 (xRs fun u A' => u = none ∧ ∃ τ' N H K V w, HB g E τ' (sg7 σ N H K V) (tfU tf f w) (tfS S f r).1 (upd Y f (tfS S f r).2) A' ∧ (hs (tfS S f r).1 f 2 = 1 → ∀ k, k < 4 → w k = hs (tfS S f r).1 f (9 + k)) ∧ tnI S f c0 4 S4 y w ∧ hst τ A τ' A' 16 352) := by
        refine x_put fpX3_217_3 dX3_tune_123 hfd ⟨rfl, rfl⟩ (by exact Nat.le_of_ble_eq_true rfl) ?_
        exact x_return dX3_tune_126 rfl ⟨_, rfl, rfl, τ9, N, H, K, V, w, hB9, hwk, hI, (s.tr (hst_up (a := σ 1 f) (e := xFd (nI f) (hs S f 1) (σ 3 f) (σ 2 f) (rI r) (hs (tfS S f r).1 f 4) y) (by rw [t9]; omega))).le (by omega) (by omega)⟩
      rw [e4, if_pos c105] at fin
      exact tn_end (fun u hu => ⟨(_, _, _, _, _, _), (hB.fd (i := u) (by rw [hmn]; exact (hru u hu).1)).1.2.2, upd_ne _ _ (by have := (hru u hu).2.1; omega)⟩) fin
  refine x_aload_n dX3_tune_0 rfl ?_
  refine x_get fgX3_64_2 dX3_tune_1 (Or.inl hB.h) rfl ?_
  refine x_istore_n dX3_tune_4 (by decide) (xc2_q (j := 2) rfl) ?_
  refine x_aload_n dX3_tune_5 rfl ?_
  have mid : xW g iX3_tune 12 19 [some (.ref (σ 0 0)), some (.ref (σ 1 f)), some (va_rf (r.map (σ 1))), some (.int (S 16)), none, none, none] [.int (rI r), .ref (σ 1 f)] A (xRs fun u A' => u = none ∧ ∃ τ' N H K V w, HB g E τ' (sg7 σ N H K V) (tfU tf f w) (tfS S f r).1 (upd Y f (tfS S f r).2) A' ∧ (hs (tfS S f r).1 f 2 = 1 → ∀ k, k < 4 → w k = hs (tfS S f r).1 f (9 + k)) ∧ tnI S f c0 4 (tfI f r (S 16) 4 (S, 0)).1 (tfI f r (S 16) 4 (S, 0)).2 w ∧ hst τ A τ' A' 16 352) := by
    refine x_put fpX3_201_3 dX3_tune_19 (hB.fd hf).1.2.2 ⟨rfl, rfl⟩ (by exact Nat.le_of_ble_eq_true rfl) ?_
    refine x_aload_n dX3_tune_22 rfl ?_
    refine x_iconst (v := 0) dX3_tune_23 rfl ?_
    refine x_put fpX3_204_3 dX3_tune_24 xup_self ⟨rfl, rfl⟩ (by exact Nat.le_of_ble_eq_true rfl) ?_
    refine x_iconst (v := 0) dX3_tune_27 rfl ?_
    refine x_istore dX3_tune_28 (by decide) rfl ?_
    exact loop none none
  exact tn_beg (fun u hu => ⟨(_, _, _, _, _, _), (hB.fd (hru u hu).1).1.2.2⟩) mid
