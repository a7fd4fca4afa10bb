set_option maxRecDepth 100000
/-! A HALL CHANGES: hours that pass, forgiving, tuning a string -/
theorem phs_l (g : xG) (E : Nat → Nat) (σ : Nat → Nat → Nat) (tf : Nat → Nat → Int32) (S0 Y : Nat → Int32) (τ0 : Nat → Nat) (A0 : xA) (n : Nat) (hn : n < 2 ^ 31) : ∀ m k τ A, m + k = n → HB g E τ σ tf (hoursS k S0) Y A → hst τ0 A0 τ A (2 * k) (7 * k) → xW g iX3_passHours 8 32 [some (.ref (σ 0 0)), some (.int (nI n)), some (.int (nI k))] [] A (xRs fun w A' => w = some (.int (hoursS n S0 1)) ∧ ∃ τ', HB g E τ' σ tf (hoursS n S0) Y A' ∧ hst τ0 A0 τ' A' (2 * n) (7 * n)) := by
  intro m
  induction m with
  | zero =>
    intro k τ A hk hB s
    have e : k = n := by omega
    subst e
    refine x_iload_n dX3_passHours_32 rfl ?_
    refine x_iload_n dX3_passHours_33 rfl ?_
    refine x_icmp_geT (tgt := 47) dX3_passHours_34 (by decide) (nI_le (Nat.le_refl _) (by omega)) ?_
    refine x_aload_n dX3_passHours_47 rfl ?_
    refine x_get fgX3_39_2 dX3_passHours_48 (Or.inl hB.h) rfl ?_
    exact x_ireturn dX3_passHours_51 rfl rfl ⟨_, rfl, rfl, τ, hB, s⟩
  | succ m ih =>
    intro k τ A hk hB s
    refine x_iload_n dX3_passHours_32 rfl ?_
    refine x_iload_n dX3_passHours_33 rfl ?_
    refine x_icmp_geF dX3_passHours_34 47 (by decide) (nI_ge (by omega) (by omega)) ?_
    refine x_aload_n dX3_passHours_37 rfl ?_
    refine v_cvE (q := (RX3, TX3, 18)) cvX3_276_X3 dX3_passHours_38 (Or.inl hB.h) rfl (c_X3_passHour g A E τ σ tf _ Y hB) rfl (fun u A1 hP => ?_)
    obtain ⟨rfl, τ1, hB1, s1⟩ := hP
    refine x_iinc (v := nI (k + 1)) dX3_passHours_41 rfl (nI_1 _) (by decide) rfl ?_
    refine x_goto (tgt := 32) dX3_passHours_44 (by decide) ?_
    exact ih (k + 1) τ1 A1 (by omega) hB1 ((s.tr s1).le (by omega) (by omega))
theorem c_X3_passHours (g : xG) (A : xA) (E τ : Nat → Nat) (σ : Nat → Nat → Nat) (tf : Nat → Nat → Int32) (S Y : Nat → Int32) (hB : HB g E τ σ tf S Y A) (n : Nat) (hn : n < 2 ^ 31) (hx : ¬ inI (nI n) 1 48 = 0) (hs0 : ¬ 9999 < S 0 + nI n) : xC g iX3_passHours 8 [.ref (σ 0 0), .int (nI n)] A (xRs fun w A' => w = some (.int (hoursS n S 1)) ∧ ∃ τ', HB g E τ' σ tf (hoursS n S) Y A' ∧ hst τ A τ' A' (2 * n) (7 * n)) := by
  show xW g _ _ 0 [some (.ref (σ 0 0)), some (.int (nI n)), none] [] _ _
  obtain ⟨mcf, edf, hfl, hflt, -⟩ := hB.fl.l
  obtain ⟨mcr, edr, hrl, hrlt, -⟩ := hB.rl.l
  obtain ⟨hm10, hr10⟩ := hB.le
  refine x_iload_n dX3_passHours_0 rfl ?_
  refine x_iconst (v := 1) dX3_passHours_1 rfl ?_
  refine x_bipush (v := 48) dX3_passHours_2 (by decide) ?_
  refine x_csV csX3_150 dX3_passHours_4 (c_X1_isIn _ _ _ _ _) rfl ?_
  refine x_csN csX3_256 dX3_passHours_7 (c_X1_checkArgument_ok _ _ _ hx) rfl ?_
  refine x_aload_n dX3_passHours_10 rfl ?_
  refine x_get fgX3_58_2 dX3_passHours_11 (Or.inl hB.h) rfl ?_
  refine x_iload_n dX3_passHours_14 rfl ?_
  refine x_iadd dX3_passHours_15 ?_
  refine x_sipush (v := 9999) dX3_passHours_16 (by decide) ?_
  refine x_icmp_gtF dX3_passHours_19 26 (by decide) hs0 ?_
  refine x_iconst (v := 1) dX3_passHours_22 rfl ?_
  refine x_goto (tgt := 27) dX3_passHours_23 (by decide) ?_
  refine x_csN csX3_172 dX3_passHours_27 (c_X1_checkState_ok _ _ _ (by decide)) rfl ?_
  refine x_iconst (v := 0) dX3_passHours_30 rfl ?_
  refine x_istore_n dX3_passHours_31 (by decide) rfl ?_
  exact phs_l g E σ tf S Y τ A n hn n 0 τ A (by omega) hB hst.rf
theorem c_X3_passHours_a (g : xG) (A : xA) (E τ : Nat → Nat) (σ : Nat → Nat → Nat) (tf : Nat → Nat → Int32) (S Y : Nat → Int32) (hB : HB g E τ σ tf S Y A) (hl : g.1.stackTraces = false) (x : Int32) (hx : inI x 1 48 = 0) : xC g iX3_passHours 15 [.ref (σ 0 0), .int x] A (xThG 27 A 1 6) := by
  show xW g _ _ 0 [some (.ref (σ 0 0)), some (.int x), none] [] _ _
  obtain ⟨mcf, edf, hfl, hflt, -⟩ := hB.fl.l
  obtain ⟨mcr, edr, hrl, hrlt, -⟩ := hB.rl.l
  obtain ⟨hm10, hr10⟩ := hB.le
  refine x_iload_n dX3_passHours_0 rfl ?_
  refine x_iconst (v := 1) dX3_passHours_1 rfl ?_
  refine x_bipush (v := 48) dX3_passHours_2 (by decide) ?_
  refine x_csV csX3_150 dX3_passHours_4 (c_X1_isIn _ _ _ _ _) rfl ?_
  refine x_top hx ?_
  exact v_csO csX3_256 dX3_passHours_7 (c_X1_checkArgument_G _ _ hl) rfl ⟨_, rfl⟩ (fun _ _ h => h)
theorem c_X3_passHours_s (g : xG) (A : xA) (E τ : Nat → Nat) (σ : Nat → Nat → Nat) (tf : Nat → Nat → Int32) (S Y : Nat → Int32) (hB : HB g E τ σ tf S Y A) (hl : g.1.stackTraces = false) (x : Int32) (hx : ¬ inI x 1 48 = 0) (hs0 : 9999 < S 0 + x) : xC g iX3_passHours 15 [.ref (σ 0 0), .int x] A (xThG 28 A 1 6) := by
  show xW g _ _ 0 [some (.ref (σ 0 0)), some (.int x), none] [] _ _
  obtain ⟨mcf, edf, hfl, hflt, -⟩ := hB.fl.l
  obtain ⟨mcr, edr, hrl, hrlt, -⟩ := hB.rl.l
  obtain ⟨hm10, hr10⟩ := hB.le
  refine x_iload_n dX3_passHours_0 rfl ?_
  refine x_iconst (v := 1) dX3_passHours_1 rfl ?_
  refine x_bipush (v := 48) dX3_passHours_2 (by decide) ?_
  refine x_csV csX3_150 dX3_passHours_4 (c_X1_isIn _ _ _ _ _) rfl ?_
  refine x_csN csX3_256 dX3_passHours_7 (c_X1_checkArgument_ok _ _ _ hx) rfl ?_
  refine x_aload_n dX3_passHours_10 rfl ?_
  refine x_get fgX3_58_2 dX3_passHours_11 (Or.inl hB.h) rfl ?_
  refine x_iload_n dX3_passHours_14 rfl ?_
  refine x_iadd dX3_passHours_15 ?_
  refine x_sipush (v := 9999) dX3_passHours_16 (by decide) ?_
  refine x_icmp_gtT (tgt := 26) dX3_passHours_19 (by decide) hs0 ?_
  refine x_iconst (v := 0) dX3_passHours_26 rfl ?_
  exact v_csO csX3_172 dX3_passHours_27 (c_X1_checkState_G _ _ hl) rfl ⟨_, rfl⟩ (fun _ _ h => h)
def fg1S (S : Nat → Int32) (f q : Nat) : Nat → Int32 := upd (upd S (30 + fgN S) (nI (4 * f + q))) 19 (nI (fgN S + 1))
theorem fg1_o {S : Nat → Int32} {f q i : Nat} (h : ¬ (i = 19 ∨ (30 ≤ i ∧ i < 70))) (h4 : fgN S < 40) : fg1S S f q i = S i := (upd_ne _ _ (by omega)).trans (upd_ne _ _ (by omega))
theorem fg1_N {S : Nat → Int32} {f q : Nat} (h4 : fgN S < 40) : fgN (fg1S S f q) = fgN S + 1 := by
  show (fg1S S f q 19).toNatClampNeg = _
  rw [show fg1S S f q 19 = nI (fgN S + 1) from upd_self _ _ _, nI_clamp (by omega)]
theorem forg_1 {S : Nat → Int32} {f q : Nat} (h19 : S 19 = nI (fgN S)) (h4 : fgN S < 40) : forgivesS S f q = upd (fg1S S f q) 17 (fg1S S f q 17 + 1) := by
  have e : upd S (30 + fgN S) (nI (4 * f + q)) 19 = nI (fgN S) := (upd_ne _ _ (by omega)).trans h19
  show upd (upd (upd S (30 + fgN S) (nI (4 * f + q))) 19 (upd S (30 + fgN S) (nI (4 * f + q)) 19 + 1)) 17 (upd (upd S (30 + fgN S) (nI (4 * f + q))) 19 (upd S (30 + fgN S) (nI (4 * f + q)) 19 + 1) 17 + 1) = _
  rw [e, nI_1]
  rfl
theorem c_X3_forgive (g : xG) (A : xA) (E τ : Nat → Nat) (σ : Nat → Nat → Nat) (tf : Nat → Nat → Int32) (S Y : Nat → Int32) (hB : HB g E τ σ tf S Y A) (hg : gW g E) (f q k : Nat) (hf : f < manyS S) (hq : q < 4) (hk : xT τ 0 A k (.inr (4, [.int (nI f), .int (nI q)]))) (hne : ∀ j, j < fgN S → S (30 + j) ≠ nI (4 * f + q)) (h4 : fgN S < 40) : xC g iX3_forgive 7 [.ref (σ 0 0), .ref k] A (xRs fun w A' => w = none ∧ ∃ τ' N H K V, HB g E τ' (sg7 σ N H K V) tf (forgivesS S f q) Y A' ∧ hst τ A τ' A' 3 86) := by
  obtain ⟨es, ks, vs, hM, v1, v2, v3⟩ := hB.fm
  obtain ⟨hm10, hr10⟩ := hB.le
  have hq2 : ∀ j, j < fgN S → σ 8 j ≠ 4 * f + q := fun j hj e => hne j hj (by rw [(hB.fk hj).2, e])
  show xW g _ _ 0 [some (.ref (σ 0 0)), some (.ref k), none] [] _ _
  refine x_aload_n dX3_forgive_0 rfl ?_
  refine x_get fgX3_35_2 dX3_forgive_1 (Or.inl hB.h) rfl ?_
  refine x_aload_n dX3_forgive_4 rfl ?_
  refine v_cvE (q := (RJ8, TJ8, 1)) cvX3_142_J8 dX3_forgive_5 (Or.inl hB.fs.2.2) rfl (c_J7_add g A E hg (σ 0 5) _ (σ 0 6) (fgN S) k f q (σ 7) (σ 8) (σ 9) (σ 10) es ks vs hM hk.2.2 (by omega) h4 hq2 hB.fs.2.2) rfl (fun w A1 hP => ?_)
  obtain ⟨rfl, N', p1, p2, p3⟩ := hP
  have ht : ∀ r, r < A.2.1 → tgU τ A.2.1 7 r = τ r := fun r hr => tgU_o hr
  have h7 : ∀ r, r < A.2.1 → τ r ≠ 7 → A1.1 r = A.1 r := p2
  have hx := p3.1
  have hMp : hMp (tgU τ A.2.1 7) 7 A1 (σ 0 6) (fgN (fg1S S f q)) N' (nup (σ 8) (fgN S) (4 * f + q)) (nup (σ 9) (fgN S) k) (nup (σ 10) (fgN S) (E 1)) := by
    rw [fg1_N h4]
    exact ⟨es, ks, vs, p1.fr (Nat.le_refl _) (fun _ _ _ => rfl) (fun r _ hr => hr.elim (fun z => (ht r z.1).trans z.2) (fun z => tgU_n z)), fun w hw => (v1 w hw).fr hx ht (fun r hr h0 => h7 r hr (by rw [h0]; decide)), fun w hw => (v2 w hw).fr hx ht (fun r hr h0 => h7 r hr (by rw [h0]; decide)), fun w hw => (v3 w hw).fr hx ht (fun r hr h0 => h7 r hr (by rw [h0]; decide))⟩
  have hB1 : HB g E (tgU τ A.2.1 7) (sg7 σ N' (nup (σ 8) (fgN S) (4 * f + q)) (nup (σ 9) (fgN S) k) (nup (σ 10) (fgN S) (E 1))) tf (fg1S S f q) Y A1 := hB.u7 hx ht h7 (fun i hi => fg1_o hi h4) hMp (fun j hj => by
    rw [fg1_N h4] at hj
    by_cases e : j = fgN S
    · subst e
      rw [nup_s, nup_s]
      refine ⟨?_, (upd_ne _ _ (by omega)).trans (upd_self _ _ _)⟩
      unfold hKy
      rw [show (4 * f + q) / 4 = f by omega, show (4 * f + q) % 4 = q by omega]
      exact hk.fr hx ht (fun r hr h0 => h7 r hr (by rw [h0]; decide))
    · rw [nup_n e, nup_n e]
      exact ⟨xT.fr (hB.fk (by omega)).1 hx ht (fun r hr h0 => h7 r hr (by rw [h0]; decide)), ((upd_ne _ _ (by omega)).trans (upd_ne _ _ (by omega))).trans (hB.fk (by omega)).2⟩) (by rw [fg1_N h4]; exact upd_self _ _ _) (by rw [fg1_N h4]; omega)
  have s1 : hst τ A (tgU τ A.2.1 7) A1 3 86 := ⟨p3, ht, fun r hr h0 => h7 r hr (by rw [h0]; decide)⟩
  have hB2 := hB1.uh (S' := forgivesS S f q) (fun i hi => by rw [forg_1 hB.f19.1 h4]; exact upd_ne _ _ (by omega))
  refine x_istore_n dX3_forgive_8 (by decide) rfl ?_
  refine x_aload_n dX3_forgive_9 rfl ?_
  refine x_dup dX3_forgive_10 rfl ?_
  refine x_get fgX3_67_2 dX3_forgive_11 (Or.inl hB1.h) rfl ?_
  refine x_iconst (v := 1) dX3_forgive_14 rfl ?_
  refine x_iadd dX3_forgive_15 ?_
  refine x_put fpX3_67_2 dX3_forgive_16 hB1.h ⟨rfl, rfl⟩ (by exact Nat.le_of_ble_eq_true rfl) ?_
  refine xW.eqA (show _ = xup A1 (σ 0 0) (xHl (forgivesS S f q) (σ 0 1) (σ 0 2) (σ 0 3) (σ 0 4) (σ 0 5)) by rw [forg_1 hB.f19.1 h4]; rfl) ?_
  exact x_return dX3_forgive_19 rfl ⟨_, rfl, rfl, _, _, _, _, _, hB2, s1.tr (hst_up (h_t hB1))⟩
