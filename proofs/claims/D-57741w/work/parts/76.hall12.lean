set_option maxRecDepth 100000
/-! A HALL CHANGES: a round -/
theorem chX_p {S : Nat → Int32} {r : Option Nat} {p : Nat} (h : ∀ u, r = some u → ∃ cn : Nat, 1 ≤ cn ∧ cn ≤ p ∧ hs S u 4 = nI cn) : ∃ cn : Nat, 1 ≤ cn ∧ cn ≤ p + 1 ∧ chX S r = nI cn := by
  cases r with
  | none => exact ⟨1, by omega, by omega, rfl⟩
  | some u =>
    obtain ⟨cn, a, b, c⟩ := h u rfl
    refine ⟨cn + 1, by omega, by omega, ?_⟩
    show hs S u 4 + 1 = _
    rw [c, nI_1]
theorem itS_cg {S S' : Nat → Int32} : ∀ {n}, (∀ i, i < n → hs S' i 2 = hs S i 2) → itS n S' = itS n S
  | 0, _ => rfl
  | n + 1, h => by
    show itS n S' + hs S' n 2 = itS n S + hs S n 2
    rw [itS_cg (fun i hi => h i (by omega)), h n (by omega)]
theorem itS_up {S S' : Nat → Int32} {f : Nat} : ∀ {n}, f < n → (∀ i, i ≠ f → hs S' i 2 = hs S i 2) → hs S f 2 = 0 → itS n S' = itS n S + hs S' f 2
  | 0, h, _, _ => absurd h (Nat.not_lt_zero _)
  | n + 1, h, h1, h2 => by
    show itS n S' + hs S' n 2 = itS n S + hs S n 2 + hs S' f 2
    by_cases e : f = n
    · subst e
      rw [itS_cg (fun i hi => h1 i (by omega)), h2]
      simp
    · rw [itS_up (n := n) (by omega) h1 h2, h1 n (Ne.symm e), Int32.add_assoc, Int32.add_assoc, Int32.add_comm (hs S' f 2)]
theorem itS_0 {S : Nat → Int32} : ∀ n, (∀ i, i < n → hs S i 2 = 0) → itS n S = nI 0
  | 0, _ => rfl
  | n + 1, h => by
    show itS n S + hs S n 2 = _
    rw [itS_0 n (fun i hi => h i (by omega)), h n (by omega)]
    rfl
def rnI (S1 : Nat → Int32) (p : Nat) (S : Nat → Int32) (r : Option Nat) (tf : Nat → Nat → Int32) (cnt : Nat) : Prop :=
  (∀ i, (i < 15 ∨ (20 ≤ i ∧ i < 30)) → S i = S1 i) ∧ fgN S ≤ 4 * p ∧ (∀ j, j < fgN S → ∃ p', p' < p ∧ ∃ q, q < 4 ∧ S (30 + j) = nI (4 * plS S1 p' + q)) ∧
  (∀ p', p ≤ p' → p' < rowS S1 → hs S (plS S1 p') 4 = 0) ∧
  (∀ u, r = some u → (∃ p', p' < p ∧ u = plS S1 p') ∧ (∀ k, k < 4 → tf u k = hs S u (9 + k)) ∧ ∃ cn : Nat, 1 ≤ cn ∧ cn ≤ p ∧ hs S u 4 = nI cn) ∧
  itS (manyS S1) S = nI cnt ∧ cnt ≤ p
/-- what a fiddler's round leaves alone -/
theorem tf_o {S : Nat → Int32} {f c0 : Nat} {r : Option Nat} {w : Nat → Int32} (hI : tnI S f c0 4 (tfI f r (S 16) 4 (S, 0)).1 (tfI f r (S 16) 4 (S, 0)).2 w) {i : Nat} (h : ¬ ((16 ≤ i ∧ i < 20) ∨ (30 ≤ i ∧ i < 70) ∨ (70 + 21 * f ≤ i ∧ i < 70 + 21 * f + 21))) : (tfS S f r).1 i = S i := (tfS_o (by omega)).trans (hI.1 i (by omega))
theorem rnI_s {S1 S : Nat → Int32} {p cnt : Nat} {r : Option Nat} {tf : Nat → Nat → Int32} {w : Nat → Int32} (h : rnI S1 p S r tf cnt) (hk : rOk S1) (hp : p < rowS S1) (h2 : hs S (plS S1 p) 2 = 0) (hI : tnI S (plS S1 p) (4 * p) 4 (tfI (plS S1 p) r (S 16) 4 (S, 0)).1 (tfI (plS S1 p) r (S 16) 4 (S, 0)).2 w) (hw : hs (tfS S (plS S1 p) r).1 (plS S1 p) 2 = 1 → ∀ k, k < 4 → w k = hs (tfS S (plS S1 p) r).1 (plS S1 p) (9 + k)) : rnI S1 (p + 1) (tfS S (plS S1 p) r).1 (if hs (tfS S (plS S1 p) r).1 (plS S1 p) 2 = 1 then some (plS S1 p) else r) (tfU tf (plS S1 p) w) (if hs (tfS S (plS S1 p) r).1 (plS S1 p) 2 = 1 then cnt + 1 else cnt) := by
  obtain ⟨hm10, hr10⟩ := tOk_le hk.1
  obtain ⟨a1, a2, a3, a4, a5, a6, a7⟩ := h
  have hfm := hk.2.1 p hp
  have hne : ∀ p', p' < rowS S1 → p' ≠ p → plS S1 p' ≠ plS S1 p := fun p' h1 h2 e => by
    by_cases hl : p' < p
    · exact hk.2.2 p' p hl hp e
    · exact hk.2.2 p p' (by omega) h1 e.symm
  generalize hf : plS S1 p = f at *
  have o := fun (i : Nat) => tf_o (r := r) hI (i := i)
  have fe : fgN (tfS S f r).1 = fgN (tfI f r (S 16) 4 (S, 0)).1 := fgN_eq (tfS_o (by omega))
  have ru : ∀ u, r = some u → u ≠ f := fun u hu e => by
    obtain ⟨⟨p', b1, b2⟩, -, -⟩ := a5 u hu
    exact hne p' (by omega) (by omega) (by rw [← b2]; exact e)
  have w2 : hs (tfS S f r).1 f 2 = 1 ∨ hs (tfS S f r).1 f 2 = 0 := by
    rw [tfS_w2]
    split
    · exact Or.inl rfl
    · exact Or.inr rfl
  refine ⟨fun i hi => (o i (by omega)).trans (a1 i hi), by rw [fe]; have := hI.2.2.2.2.2.2.1; omega, fun j hj => ?_, fun p' b1 b2 => ?_, fun u hu => ?_, ?_, by split <;> omega⟩
  · rw [fe] at hj
    have hj40 : j < 40 := by have := hI.2.2.2.2.2.2.1; omega
    have e30 : (tfS S f r).1 (30 + j) = (tfI f r (S 16) 4 (S, 0)).1 (30 + j) := tfS_o (by omega)
    rcases hI.2.2.2.2.2.2.2.2 j hj with ⟨c1, c2⟩ | ⟨q, c1, c2⟩
    · obtain ⟨p', d1, q, d2, d3⟩ := a3 j c1
      exact ⟨p', by omega, q, d2, by rw [e30, c2, d3]⟩
    · exact ⟨p, by omega, q, c1, by rw [e30, c2, hf]⟩
  · have := hne p' b2 (by omega)
    exact (o _ (by have := hk.2.1 p' b2; omega)).trans (a4 p' (by omega) b2)
  · by_cases h1 : hs (tfS S f r).1 f 2 = 1
    · rw [if_pos h1] at hu
      cases hu
      refine ⟨⟨p, by omega, hf.symm⟩, fun k hk4 => by rw [tfU_s]; exact hw h1 k hk4, ?_⟩
      have hy : (tfI f r (S 16) 4 (S, 0)).2 = 0 := Classical.byContradiction fun hy => by
        rw [tfS_w2, if_neg hy] at h1
        exact absurd h1 (by decide)
      rw [tfS_w4 ru, if_pos hy]
      refine chX_p (fun u hu => ?_)
      obtain ⟨⟨p', b1, b2⟩, -, cn, b3, b4, b5⟩ := a5 u hu
      have := ru u hu
      have := hk.2.1 p' (by omega)
      exact ⟨cn, b3, b4, (hI.1 _ (by omega)).trans b5⟩
    · rw [if_neg h1] at hu
      obtain ⟨⟨p', b1, b2⟩, b6, cn, b3, b4, b5⟩ := a5 u hu
      have hu9 := ru u hu
      have := hk.2.1 p' (by omega)
      exact ⟨⟨p', by omega, b2⟩, fun k hk4 => by rw [tfU_n hu9]; exact (b6 k hk4).trans (o _ (by omega)).symm, cn, b3, by omega, (o _ (by omega)).trans b5⟩
  · rw [itS_up hfm (fun i hi => o _ (by omega)) h2, a6]
    rcases w2 with h1 | h1
    · rw [if_pos h1, h1, nI_1]
    · rw [h1, if_neg (by decide)]
      simp
theorem tfo_l (g : xG) (E τ : Nat → Nat) (σ : Nat → Nat → Nat) (tf : Nat → Nat → Int32) (S0 Y0 : Nat → Int32) (Q : Outcome → xA → Prop) (τ0 : Nat → Nat) (A0 : xA)
    (kont : ∀ A, HB g E τ σ tf (fgS (manyS S0) S0) (fgY (manyS S0) Y0) A → hst τ0 A0 τ A 0 0 → xW g iX3_tuneRow 14 50 [some (.ref (σ 0 0)), some (.int (nI (manyS S0))), none, none, none] [] A Q) : ∀ m k A, m + k = manyS S0 → HB g E τ σ tf (fgS k S0) (fgY k Y0) A → hst τ0 A0 τ A 0 0 → xW g iX3_tuneRow 14 19 [some (.ref (σ 0 0)), some (.int (nI k)), none, none, none] [] A Q := by
  intro m
  induction m with
  | zero =>
    intro k A hk hB s
    have hmn : manyS (fgS k S0) = manyS S0 := (hdE_fg k S0).many
    have e : k = manyS S0 := by omega
    obtain ⟨mcf, edf, hfl, -, -⟩ := hB.fl.l
    have hm10 := hB.le.1
    rw [hmn] at hm10
    refine x_iload_n dX3_tuneRow_19 rfl ?_
    refine x_aload_n dX3_tuneRow_20 rfl ?_
    refine x_get fgX3_18_2 dX3_tuneRow_21 (Or.inl hB.h) rfl ?_
    refine x_cvV (q := (RJ2, TJ2, 3)) cvX3_146_J2 dX3_tuneRow_24 (Or.inl hfl) rfl (hAl_size hB.fl) rfl ?_
    refine x_icmp_geT (tgt := 50) dX3_tuneRow_27 (by decide) (by rw [hmn, e]; exact nI_le (Nat.le_refl _) (by omega)) ?_
    subst e
    exact kont A hB s
  | succ m ih =>
    intro k A hk hB s
    have hmn : manyS (fgS k S0) = manyS S0 := (hdE_fg k S0).many
    have hkm : k < manyS (fgS k S0) := by omega
    obtain ⟨mcf, edf, hfl, -, -⟩ := hB.fl.l
    have hm10 := hB.le.1
    refine x_iload_n dX3_tuneRow_19 rfl ?_
    refine x_aload_n dX3_tuneRow_20 rfl ?_
    refine x_get fgX3_18_2 dX3_tuneRow_21 (Or.inl hB.h) rfl ?_
    refine x_cvV (q := (RJ2, TJ2, 3)) cvX3_146_J2 dX3_tuneRow_24 (Or.inl hfl) rfl (hAl_size hB.fl) rfl ?_
    refine x_icmp_geF dX3_tuneRow_27 50 (by decide) (nI_ge hkm (by omega)) ?_
    refine x_aload_n dX3_tuneRow_30 rfl ?_
    refine x_get fgX3_18_2 dX3_tuneRow_31 (Or.inl hB.h) rfl ?_
    refine x_iload_n dX3_tuneRow_34 rfl ?_
    refine x_cvV (q := (RJ2, TJ2, 3)) cvX3_111_J2 dX3_tuneRow_35 (Or.inl hfl) rfl (hAl_get hB.fl (i := k) hkm) rfl ?_
    refine x_castY dX3_tuneRow_38 q1239 (Or.inl (hB.fd hkm).1.2.2) (q := (RX4, TX4, 7)) rfl (Or.inl rfl) ?_
    have hfd := (hB.fd hkm).1
    refine x_cvN (q := (RX4, TX4, 7)) cvX3_191_X4 dX3_tuneRow_41 (Or.inl hfd.2.2) rfl (c_X4_forget g A (σ 1 k) _ _ _ _ _ _ _ hfd.2.2) rfl ?_
    have w1 : hs (fgK k (fgS k S0)) k 3 = -1 := (upd_ne _ _ (by omega)).trans (upd_self _ _ _)
    have w2 : hs (fgK k (fgS k S0)) k 4 = 0 := upd_self _ _ _
    have w3 : hs (fgK k (fgS k S0)) k 2 = 0 := (upd_ne _ _ (by omega)).trans ((upd_ne _ _ (by omega)).trans (upd_self _ _ _))
    have hB2 := hB.uf (S' := fgK k (fgS k S0)) (Y' := upd (fgY k Y0) k 1) hkm (fun i hi => (upd_ne _ _ (by omega)).trans ((upd_ne _ _ (by omega)).trans (upd_ne _ _ (by omega)))) (fun i hi => upd_ne _ _ hi) (fun q => by rw [w2] at q; exact absurd q (by decide)) (by rw [w3, w2]; rfl)
    rw [w1, w2, show (upd (fgY k Y0) k 1) k = 1 from upd_self _ _ _] at hB2
    have s2 := s.tr (hst_up (a := σ 1 k) (e := xFd (nI k) (hs (fgS k S0) k 1) (σ 3 k) (σ 2 k) (-1) 0 1) (by rw [hfd.1]; omega))
    refine x_iinc (v := nI (k + 1)) dX3_tuneRow_44 rfl (nI_1 _) (by decide) rfl ?_
    refine x_goto (tgt := 19) dX3_tuneRow_47 (by decide) ?_
    exact ih (k + 1) _ (by omega) hB2 s2
theorem ro_call {g : xG} {σ : Nat → Nat → Nat} {r : Option Nat} {A : xA} {Q : Outcome → xA → Prop} {P : xA → Prop} {X2 X3 : Option Value} {h a : Nat} {fs : List Value} (hh : A.1 h = some (.inr (2, fs))) (hc : xW g iX3_tune 12 0 [some (.ref h), some (.ref a), some (va_rf (r.map (σ 1))), none, none, none, none] [] A (xRs fun u A' => u = none ∧ P A')) (k : ∀ A2, P A2 → xW g iX3_tuneRow 14 87 [some (.ref h), some (va_rf (r.map (σ 1))), X2, X3, some (.ref a)] [] A2 Q) : xW g iX3_tuneRow 14 83 [some (.ref h), some (va_rf (r.map (σ 1))), X2, X3, some (.ref a)] [.ref a, .ref h] A Q := by
  cases r with
  | none =>
    refine x_aload_nN dX3_tuneRow_83 rfl ?_
    refine v_cvE (q := (RX3, TX3, 18)) cvX3_194_X3 dX3_tuneRow_84 (Or.inl hh) rfl (show xC g iX3_tune 12 [.ref h, .ref a, .null] A _ from hc) rfl (fun u A2 hP => ?_)
    obtain ⟨rfl, hP⟩ := hP
    exact k A2 hP
  | some u =>
    refine x_aload_n dX3_tuneRow_83 rfl ?_
    refine v_cvE (q := (RX3, TX3, 18)) cvX3_194_X3 dX3_tuneRow_84 (Or.inl hh) rfl (show xC g iX3_tune 12 [.ref h, .ref a, .ref (σ 1 u)] A _ from hc) rfl (fun u A2 hP => ?_)
    obtain ⟨rfl, hP⟩ := hP
    exact k A2 hP
theorem ro_l (g : xG) (E : Nat → Nat) (σ : Nat → Nat → Nat) (S1 Y1 : Nat → Int32) (τ0 : Nat → Nat) (A0 : xA) (hg : gW g E) (hk : rOk S1) : ∀ m p τ A N H K V tf S Y r cnt X4, m + p = rowS S1 → roS p (S1, Y1, none) = (S, Y, r) → HB g E τ (sg7 σ N H K V) tf S Y A → rnI S1 p S r tf cnt → hst τ0 A0 τ A (16 * p) (352 * p) → xW g iX3_tuneRow 14 56 [some (.ref (σ 0 0)), some (va_rf (r.map (σ 1))), some (.int (nI cnt)), some (.int (nI p)), X4] [] A (xRs fun u A' => u = some (.int (itS (manyS S1) (roS (rowS S1) (S1, Y1, none)).1)) ∧ ∃ τ' N H K V tf', HB g E τ' (sg7 σ N H K V) tf' (roS (rowS S1) (S1, Y1, none)).1 (roS (rowS S1) (S1, Y1, none)).2.1 A' ∧ hst τ0 A0 τ' A' (16 * rowS S1) (352 * rowS S1)) := by
  intro m
  induction m with
  | zero =>
    intro p τ A N H K V tf S Y r cnt X4 hp hq hB hI s
    have e : p = rowS S1 := by omega
    have hrn : rowS S = rowS S1 := rowS_eq (hI.1 14 (by omega))
    obtain ⟨mcr, edr, hrl, -, -⟩ := hB.rl.l
    have hr10 := hB.le.2
    rw [← e, hq]
    refine x_iload_n dX3_tuneRow_56 rfl ?_
    refine x_aload_n dX3_tuneRow_57 rfl ?_
    refine x_get fgX3_22_2 dX3_tuneRow_58 (Or.inl hB.h) rfl ?_
    refine x_cvV (q := (RJ2, TJ2, 3)) cvX3_146_J2 dX3_tuneRow_61 (Or.inl hrl) rfl (hAl_size hB.rl) rfl ?_
    refine x_icmp_geT (tgt := 110) dX3_tuneRow_64 (by decide) (by rw [hrn, ← e]; exact nI_le (Nat.le_refl _) (by omega)) ?_
    refine x_iload_n dX3_tuneRow_110 rfl ?_
    exact x_ireturn dX3_tuneRow_111 rfl rfl ⟨_, rfl, by rw [hI.2.2.2.2.2.1], τ, N, H, K, V, tf, hB, s⟩
  | succ m ih =>
    intro p τ A N H K V tf S Y r cnt X4 hp hq hB hI s
    have hrn : rowS S = rowS S1 := rowS_eq (hI.1 14 (by omega))
    have hmn : manyS S = manyS S1 := manyS_eq (hI.1 13 (by omega))
    have hpr : p < rowS S := by omega
    have hp1 : p < rowS S1 := by omega
    have hm10 := hB.le.1
    have hr10 := hB.le.2
    have epl : plS S p = plS S1 p := by unfold plS; rw [hI.1 (20 + p) (by omega)]
    have hfm : plS S1 p < manyS S := by rw [← epl]; exact hB.pl hpr
    have h4 : hs S (plS S1 p) 4 = 0 := hI.2.2.2.1 p (Nat.le_refl _) hp1
    have h2 : hs S (plS S1 p) 2 = 0 := by rw [(hB.fd hfm).2.2.2.1, h4]; rfl
    have hne : ∀ p', p' < p → plS S1 p' ≠ plS S1 p := fun p' a => hk.2.2 p' p a hp1
    have hru : ∀ u, r = some u → u < manyS S ∧ u ≠ plS S1 p ∧ ∀ k, k < 4 → tf u k = hs S u (9 + k) := fun u hu => by
      obtain ⟨⟨p', b1, b2⟩, b3, -⟩ := hI.2.2.2.2.1 u hu
      rw [b2]
      exact ⟨by rw [hmn]; exact hk.2.1 p' (by omega), hne p' b1, by rw [← b2]; exact b3⟩
    have htu := c_X3_tune g A E τ (sg7 σ N H K V) tf S Y hB hg (plS S1 p) (4 * p) r hfm hru (fun u hu => by
      obtain ⟨-, -, cn, b3, b4, b5⟩ := hI.2.2.2.2.1 u hu
      exact ⟨cn, b3, by omega, b5⟩) h4 (by omega) hI.2.1 (fun j hj q hq e => by
      obtain ⟨p', b1, q', b2, b3⟩ := hI.2.2.1 j hj
      rw [b3] at e
      have := hk.2.1 p' (by omega)
      have := hk.2.1 p hp1
      have e2 := nI_inj (by omega) (by omega) e
      exact hne p' b1 (by omega))
    obtain ⟨mcr, edr, hrl, -, -⟩ := hB.rl.l
    refine x_iload_n dX3_tuneRow_56 rfl ?_
    refine x_aload_n dX3_tuneRow_57 rfl ?_
    refine x_get fgX3_22_2 dX3_tuneRow_58 (Or.inl hB.h) rfl ?_
    refine x_cvV (q := (RJ2, TJ2, 3)) cvX3_146_J2 dX3_tuneRow_61 (Or.inl hrl) rfl (hAl_size hB.rl) rfl ?_
    refine x_icmp_geF dX3_tuneRow_64 110 (by decide) (nI_ge hpr (by omega)) ?_
    refine x_aload_n dX3_tuneRow_67 rfl ?_
    refine x_get fgX3_22_2 dX3_tuneRow_68 (Or.inl hB.h) rfl ?_
    refine x_iload_n dX3_tuneRow_71 rfl ?_
    refine x_cvV (q := (RJ2, TJ2, 3)) cvX3_111_J2 dX3_tuneRow_72 (Or.inl hrl) rfl (hAl_get hB.rl (i := p) hpr) rfl ?_
    refine x_topv (show Value.ref (sg7 σ N H K V 1 (plS S p)) = .ref (σ 1 (plS S1 p)) by rw [epl]; rfl) ?_
    refine x_castY dX3_tuneRow_75 q1239 (Or.inl (hB.fd hfm).1.2.2) (q := (RX4, TX4, 7)) rfl (Or.inl rfl) ?_
    refine x_astore dX3_tuneRow_78 (by decide) rfl ?_
    refine x_aload_n dX3_tuneRow_80 rfl ?_
    refine x_aload dX3_tuneRow_81 rfl ?_
    refine ro_call hB.h htu (fun A2 hP => ?_)
    obtain ⟨τ2, N2, H2, K2, V2, w, hB2, hw, hI2, s2⟩ := hP
    rw [sg7_7] at hB2
    have hI3 := rnI_s hI hk hp1 h2 hI2 hw
    have o13 : manyS (tfS S (plS S1 p) r).1 = manyS S := manyS_eq (tf_o hI2 (by omega))
    have eq1 : roS (p + 1) (S1, Y1, none) = ((tfS S (plS S1 p) r).1, upd Y (plS S1 p) (tfS S (plS S1 p) r).2, if hs (tfS S (plS S1 p) r).1 (plS S1 p) 2 = 1 then some (plS S1 p) else r) := by
      show roK p (roS p (S1, Y1, none)) = _
      rw [hq]
      show roK p (S, Y, r) = _
      unfold roK
      rw [show plS (S, Y, r).1 p = plS S1 p from epl]
    generalize htf : tfS S (plS S1 p) r = tt at hB2 hI3 eq1 o13
    obtain ⟨S2, y2⟩ := tt
    replace hB2 : HB g E τ2 (sg7 σ N2 H2 K2 V2) (tfU tf (plS S1 p) w) S2 (upd Y (plS S1 p) y2) A2 := hB2
    replace o13 : manyS S2 = manyS S := o13
    have hfm2 : plS S1 p < manyS S2 := by rw [o13]; exact hfm
    have e24 : hs S2 (plS S1 p) 2 = flI (0 < hs S2 (plS S1 p) 4) := (hB2.fd hfm2).2.2.2.1
    refine x_aload dX3_tuneRow_87 rfl ?_
    refine x_cvV (q := (RX4, TX4, 7)) cvX3_198_X4 dX3_tuneRow_89 (Or.inl (hB2.fd hfm2).1.2.2) rfl (c_X4_isInTune g A2 (σ 1 (plS S1 p)) _ _ _ _ _ _ _ (hB2.fd hfm2).1.2.2) rfl ?_
    by_cases hc : 0 < hs S2 (plS S1 p) 4
    · have e1 : hs S2 (plS S1 p) 2 = 1 := by rw [e24, flI_y hc]
      replace eq1 : roS (p + 1) (S1, Y1, none) = (S2, upd Y (plS S1 p) y2, if hs S2 (plS S1 p) 2 = 1 then some (plS S1 p) else r) := eq1
      replace hI3 : rnI S1 (p + 1) S2 (if hs S2 (plS S1 p) 2 = 1 then some (plS S1 p) else r) (tfU tf (plS S1 p) w) (if hs S2 (plS S1 p) 2 = 1 then cnt + 1 else cnt) := hI3
      rw [if_pos e1] at eq1
      rw [if_pos e1, if_pos e1] at hI3
      refine x_top (y := 1) (flI_y hc) ?_
      refine x_if_neT (tgt := 98) dX3_tuneRow_92 (by decide) (by decide) ?_
      refine x_aload dX3_tuneRow_98 rfl ?_
      refine x_astore_n dX3_tuneRow_100 (by decide) rfl ?_
      refine x_iinc (v := nI (cnt + 1)) dX3_tuneRow_101 rfl (nI_1 _) (by decide) rfl ?_
      refine x_iinc (v := nI (p + 1)) dX3_tuneRow_104 rfl (nI_1 _) (by decide) rfl ?_
      refine x_goto (tgt := 56) dX3_tuneRow_107 (by decide) ?_
      exact ih (p + 1) τ2 A2 N2 H2 K2 V2 _ S2 _ (some (plS S1 p)) (cnt + 1) _ (by omega) eq1 hB2 hI3 ((s.tr s2).le (by omega) (by omega))
    · have e1 : ¬ hs S2 (plS S1 p) 2 = 1 := by rw [e24, flI_no hc]; decide
      replace eq1 : roS (p + 1) (S1, Y1, none) = (S2, upd Y (plS S1 p) y2, if hs S2 (plS S1 p) 2 = 1 then some (plS S1 p) else r) := eq1
      replace hI3 : rnI S1 (p + 1) S2 (if hs S2 (plS S1 p) 2 = 1 then some (plS S1 p) else r) (tfU tf (plS S1 p) w) (if hs S2 (plS S1 p) 2 = 1 then cnt + 1 else cnt) := hI3
      rw [if_neg e1] at eq1
      rw [if_neg e1, if_neg e1] at hI3
      refine x_top (y := 0) (flI_no hc) ?_
      refine x_if_neF dX3_tuneRow_92 98 (by decide) rfl ?_
      refine x_goto (tgt := 104) dX3_tuneRow_95 (by decide) ?_
      refine x_iinc (v := nI (p + 1)) dX3_tuneRow_104 rfl (nI_1 _) (by decide) rfl ?_
      refine x_goto (tgt := 56) dX3_tuneRow_107 (by decide) ?_
      exact ih (p + 1) τ2 A2 N2 H2 K2 V2 _ S2 _ r cnt _ (by omega) eq1 hB2 hI3 ((s.tr s2).le (by omega) (by omega))
