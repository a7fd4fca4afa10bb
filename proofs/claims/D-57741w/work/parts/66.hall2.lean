set_option maxRecDepth 100000
/-! A HALL: fiddlers, pegs, places -/
theorem c_X3_fiddler (g : xG) (A : xA) (E τ : Nat → Nat) (σ : Nat → Nat → Nat) (tf : Nat → Nat → Int32) (S Y : Nat → Int32) (hB : HB g E τ σ tf S Y A) (i : Nat) (hi : i < manyS S) : xC g iX3_fiddler 3 [.ref (σ 0 0), .int (nI i)] A (xRet (some (.ref (σ 1 i))) A) := by
  show xW g _ _ 0 [some (.ref (σ 0 0)), some (.int (nI i))] [] _ _
  obtain ⟨mcf, edf, hfl, hflt, -⟩ := hB.fl.l
  obtain ⟨mcr, edr, hrl, hrlt, -⟩ := hB.rl.l
  obtain ⟨hm10, hr10⟩ := hB.le
  refine x_iload_n dX3_fiddler_0 rfl ?_
  refine x_iconst (v := 0) dX3_fiddler_1 rfl ?_
  refine x_aload_n dX3_fiddler_2 rfl ?_
  refine x_get fgX3_18_2 dX3_fiddler_3 (Or.inl hB.h) rfl ?_
  refine x_cvV (q := (RJ2, TJ2, 3)) cvX3_146_J2 dX3_fiddler_6 (Or.inl hfl) rfl (hAl_size hB.fl) rfl ?_
  refine x_iconst (v := 1) dX3_fiddler_9 rfl ?_
  refine x_isub dX3_fiddler_10 ?_
  refine x_csV csX3_150 dX3_fiddler_11 (c_X1_isIn _ _ _ _ _) rfl ?_
  refine x_csN csX3_154 dX3_fiddler_14 (c_X1_checkIndex_ok _ _ _ (in_ix hi (by omega))) rfl ?_
  refine x_aload_n dX3_fiddler_17 rfl ?_
  refine x_get fgX3_18_2 dX3_fiddler_18 (Or.inl hB.h) rfl ?_
  refine x_iload_n dX3_fiddler_21 rfl ?_
  refine x_cvV (q := (RJ2, TJ2, 3)) cvX3_111_J2 dX3_fiddler_22 (Or.inl hfl) rfl (hAl_get hB.fl (i := i) hi) rfl ?_
  refine x_castY dX3_fiddler_25 q1239 (Or.inl (hB.fd hi).1.2.2) (q := (RX4, TX4, 7)) rfl (Or.inl rfl) ?_
  exact x_areturn dX3_fiddler_28 rfl (Or.inl ⟨_, rfl⟩) (Or.inr ⟨_, rfl⟩) ⟨rfl, rfl⟩
theorem c_X3_fiddler_no (g : xG) (A : xA) (E τ : Nat → Nat) (σ : Nat → Nat → Nat) (tf : Nat → Nat → Int32) (S Y : Nat → Int32) (hB : HB g E τ σ tf S Y A) (hl : g.1.stackTraces = false) (x : Int32) (hx : inI x 0 (nI (manyS S) - 1) = 0) : xC g iX3_fiddler 13 [.ref (σ 0 0), .int x] A (xThG 26 A 1 6) := by
  show xW g _ _ 0 [some (.ref (σ 0 0)), some (.int x)] [] _ _
  obtain ⟨mcf, edf, hfl, hflt, -⟩ := hB.fl.l
  obtain ⟨mcr, edr, hrl, hrlt, -⟩ := hB.rl.l
  obtain ⟨hm10, hr10⟩ := hB.le
  refine x_iload_n dX3_fiddler_0 rfl ?_
  refine x_iconst (v := 0) dX3_fiddler_1 rfl ?_
  refine x_aload_n dX3_fiddler_2 rfl ?_
  refine x_get fgX3_18_2 dX3_fiddler_3 (Or.inl hB.h) rfl ?_
  refine x_cvV (q := (RJ2, TJ2, 3)) cvX3_146_J2 dX3_fiddler_6 (Or.inl hfl) rfl (hAl_size hB.fl) rfl ?_
  refine x_iconst (v := 1) dX3_fiddler_9 rfl ?_
  refine x_isub dX3_fiddler_10 ?_
  refine x_csV csX3_150 dX3_fiddler_11 (c_X1_isIn _ _ _ _ _) rfl ?_
  refine x_top hx ?_
  exact v_csO csX3_154 dX3_fiddler_14 (c_X1_checkIndex_G _ _ hl) rfl ⟨_, rfl⟩ (fun _ _ h => h)
theorem c_X3_peg (g : xG) (A : xA) (E τ : Nat → Nat) (σ : Nat → Nat → Nat) (tf : Nat → Nat → Int32) (S Y : Nat → Int32) (hB : HB g E τ σ tf S Y A) (f q : Nat) (hf : f < manyS S) (hq : q < 4) : xC g iX3_peg 5 [.ref (σ 0 0), .int (nI f), .int (nI q)] A (xRet (some (.ref (σ 6 (4 * f + q)))) (xal A (.inr (4, [.int (nI f), .int (nI q)])) 2)) := by
  show xW g _ _ 0 [some (.ref (σ 0 0)), some (.int (nI f)), some (.int (nI q))] [] _ _
  obtain ⟨mcf, edf, hfl, hflt, -⟩ := hB.fl.l
  obtain ⟨mcr, edr, hrl, hrlt, -⟩ := hB.rl.l
  obtain ⟨hm10, hr10⟩ := hB.le
  refine x_iload_n dX3_peg_0 rfl ?_
  refine x_iconst (v := 0) dX3_peg_1 rfl ?_
  refine x_aload_n dX3_peg_2 rfl ?_
  refine x_get fgX3_18_2 dX3_peg_3 (Or.inl hB.h) rfl ?_
  refine x_cvV (q := (RJ2, TJ2, 3)) cvX3_146_J2 dX3_peg_6 (Or.inl hfl) rfl (hAl_size hB.fl) rfl ?_
  refine x_iconst (v := 1) dX3_peg_9 rfl ?_
  refine x_isub dX3_peg_10 ?_
  refine x_csV csX3_150 dX3_peg_11 (c_X1_isIn _ _ _ _ _) rfl ?_
  refine x_if_eqF dX3_peg_14 30 (by decide) (in_ix hf (by omega)) ?_
  refine x_iload_n dX3_peg_17 rfl ?_
  refine x_iconst (v := 0) dX3_peg_18 rfl ?_
  refine x_iconst (v := 3) dX3_peg_19 rfl ?_
  refine x_csV csX3_150 dX3_peg_20 (c_X1_isIn _ _ _ _ _) rfl ?_
  refine x_if_eqF dX3_peg_23 30 (by decide) (in_k hq) ?_
  refine x_iconst (v := 1) dX3_peg_26 rfl ?_
  refine x_goto (tgt := 31) dX3_peg_27 (by decide) ?_
  refine x_csN csX3_154 dX3_peg_31 (c_X1_checkIndex_ok _ _ _ (by decide)) rfl ?_
  have hL0 : ovL A.2.1 [] := fun b hb => by simp at hb
  have hD0 : ovD [] := trivial
  refine xW.eqA (show A = ov A [] from rfl) ?_
  refine x_aload_n dX3_peg_34 rfl ?_
  refine x_get fgX3_28_2 dX3_peg_35 (Or.inl hB.h) rfl ?_
  refine v_new nwX3_127 dX3_peg_38 ?_
  have hD1_1 := ovD_cons hL0 hD0
  have hL1_1 := ovL_cons hL0
  refine x_dup dX3_peg_41 rfl ?_
  refine x_iload_n dX3_peg_42 rfl ?_
  refine x_iload_n dX3_peg_43 rfl ?_
  refine x_ciN ciX3_158 dX3_peg_44 (c_X5_init _ _ _ _ _ _ _ (by exact ov_at hD1_1 (i := 0) rfl)) rfl ?_
  refine xW.eqA (ov_up hD1_1 (i := 0) rfl) ?_
  have hB2 : HB g E (tgU τ A.2.1 0) σ tf S Y (xal A (.inr (4, [.int (nI f), .int (nI q)])) 2) := hB.al
  obtain ⟨fs2, hpm⟩ := hB2.pmc
  refine x_cvV (q := (RJ5, TJ5, 12)) cvX3_161_J5 dX3_peg_47 (Or.inl hpm) rfl (hB2.get hf hq xal_self) rfl ?_
  refine x_castY dX3_peg_50 q1330 (Or.inl (hB2.pA hf hq)) (q := (RX6, TX6, 3)) rfl (Or.inl rfl) ?_
  exact x_areturn dX3_peg_53 rfl (Or.inl ⟨_, rfl⟩) (Or.inr ⟨_, rfl⟩) ⟨rfl, rfl⟩
theorem c_X3_peg_no1 (g : xG) (A : xA) (E τ : Nat → Nat) (σ : Nat → Nat → Nat) (tf : Nat → Nat → Int32) (S Y : Nat → Int32) (hB : HB g E τ σ tf S Y A) (hl : g.1.stackTraces = false) (x y : Int32) (hx : inI x 0 (nI (manyS S) - 1) = 0) : xC g iX3_peg 13 [.ref (σ 0 0), .int x, .int y] A (xThG 26 A 1 6) := by
  show xW g _ _ 0 [some (.ref (σ 0 0)), some (.int x), some (.int y)] [] _ _
  obtain ⟨mcf, edf, hfl, hflt, -⟩ := hB.fl.l
  obtain ⟨mcr, edr, hrl, hrlt, -⟩ := hB.rl.l
  obtain ⟨hm10, hr10⟩ := hB.le
  refine x_iload_n dX3_peg_0 rfl ?_
  refine x_iconst (v := 0) dX3_peg_1 rfl ?_
  refine x_aload_n dX3_peg_2 rfl ?_
  refine x_get fgX3_18_2 dX3_peg_3 (Or.inl hB.h) rfl ?_
  refine x_cvV (q := (RJ2, TJ2, 3)) cvX3_146_J2 dX3_peg_6 (Or.inl hfl) rfl (hAl_size hB.fl) rfl ?_
  refine x_iconst (v := 1) dX3_peg_9 rfl ?_
  refine x_isub dX3_peg_10 ?_
  refine x_csV csX3_150 dX3_peg_11 (c_X1_isIn _ _ _ _ _) rfl ?_
  refine x_if_eqT (tgt := 30) dX3_peg_14 (by decide) hx ?_
  refine x_iconst (v := 0) dX3_peg_30 rfl ?_
  exact v_csO csX3_154 dX3_peg_31 (c_X1_checkIndex_G _ _ hl) rfl ⟨_, rfl⟩ (fun _ _ h => h)
theorem c_X3_peg_no2 (g : xG) (A : xA) (E τ : Nat → Nat) (σ : Nat → Nat → Nat) (tf : Nat → Nat → Int32) (S Y : Nat → Int32) (hB : HB g E τ σ tf S Y A) (hl : g.1.stackTraces = false) (f : Nat) (y : Int32) (hf : f < manyS S) (hy : inI y 0 3 = 0) : xC g iX3_peg 13 [.ref (σ 0 0), .int (nI f), .int y] A (xThG 26 A 1 6) := by
  show xW g _ _ 0 [some (.ref (σ 0 0)), some (.int (nI f)), some (.int y)] [] _ _
  obtain ⟨mcf, edf, hfl, hflt, -⟩ := hB.fl.l
  obtain ⟨mcr, edr, hrl, hrlt, -⟩ := hB.rl.l
  obtain ⟨hm10, hr10⟩ := hB.le
  refine x_iload_n dX3_peg_0 rfl ?_
  refine x_iconst (v := 0) dX3_peg_1 rfl ?_
  refine x_aload_n dX3_peg_2 rfl ?_
  refine x_get fgX3_18_2 dX3_peg_3 (Or.inl hB.h) rfl ?_
  refine x_cvV (q := (RJ2, TJ2, 3)) cvX3_146_J2 dX3_peg_6 (Or.inl hfl) rfl (hAl_size hB.fl) rfl ?_
  refine x_iconst (v := 1) dX3_peg_9 rfl ?_
  refine x_isub dX3_peg_10 ?_
  refine x_csV csX3_150 dX3_peg_11 (c_X1_isIn _ _ _ _ _) rfl ?_
  refine x_if_eqF dX3_peg_14 30 (by decide) (in_ix hf (by omega)) ?_
  refine x_iload_n dX3_peg_17 rfl ?_
  refine x_iconst (v := 0) dX3_peg_18 rfl ?_
  refine x_iconst (v := 3) dX3_peg_19 rfl ?_
  refine x_csV csX3_150 dX3_peg_20 (c_X1_isIn _ _ _ _ _) rfl ?_
  refine x_if_eqT (tgt := 30) dX3_peg_23 (by decide) hy ?_
  refine x_iconst (v := 0) dX3_peg_30 rfl ?_
  exact v_csO csX3_154 dX3_peg_31 (c_X1_checkIndex_G _ _ hl) rfl ⟨_, rfl⟩ (fun _ _ h => h)
theorem pl_l (g : xG) (A : xA) (E τ : Nat → Nat) (σ : Nat → Nat → Nat) (tf : Nat → Nat → Int32) (S Y : Nat → Int32) (hB : HB g E τ σ tf S Y A) (x : Int32) : ∀ m k, m + k = rowS S → xW g iX3_placeOf 3 2 [some (.ref (σ 0 0)), some (.int x), some (.int (nI k))] [] A (xRet (some (.int (oI (plcS S x m k)))) A) := by
  obtain ⟨mcr, edr, hrl, hrlt, -⟩ := hB.rl.l
  obtain ⟨hm10, hr10⟩ := hB.le
  intro m
  induction m with
  | zero =>
    intro k hk
    have e : k = rowS S := by omega
    subst e
    refine x_iload_n dX3_placeOf_2 rfl ?_
    refine x_aload_n dX3_placeOf_3 rfl ?_
    refine x_get fgX3_22_2 dX3_placeOf_4 (Or.inl hB.h) rfl ?_
    refine x_cvV (q := (RJ2, TJ2, 3)) cvX3_146_J2 dX3_placeOf_7 (Or.inl hrl) rfl (hAl_size hB.rl) rfl ?_
    refine x_icmp_geT (tgt := 39) dX3_placeOf_10 (by decide) (nI_le (Nat.le_refl _) (by omega)) ?_
    refine x_iconst (v := (-1)) dX3_placeOf_39 rfl ?_
    exact x_ireturn dX3_placeOf_40 rfl rfl ⟨rfl, rfl⟩
  | succ m ih =>
    intro k hk
    have hp : k < rowS S := by omega
    have hq := hB.pl hp
    have e20 : S (20 + k) = nI (plS S k) := (hB.ok.1.2.2 k hp).1
    by_cases hx : S (20 + k) = x
    · have e1 : plcS S x (m + 1) k = some k := if_pos hx
      rw [e1]
      refine x_iload_n dX3_placeOf_2 rfl ?_
      refine x_aload_n dX3_placeOf_3 rfl ?_
      refine x_get fgX3_22_2 dX3_placeOf_4 (Or.inl hB.h) rfl ?_
      refine x_cvV (q := (RJ2, TJ2, 3)) cvX3_146_J2 dX3_placeOf_7 (Or.inl hrl) rfl (hAl_size hB.rl) rfl ?_
      refine x_icmp_geF dX3_placeOf_10 39 (by decide) (nI_ge hp (by omega)) ?_
      refine x_aload_n dX3_placeOf_13 rfl ?_
      refine x_get fgX3_22_2 dX3_placeOf_14 (Or.inl hB.h) rfl ?_
      refine x_iload_n dX3_placeOf_17 rfl ?_
      refine x_cvV (q := (RJ2, TJ2, 3)) cvX3_111_J2 dX3_placeOf_18 (Or.inl hrl) rfl (hAl_get hB.rl (i := k) hp) rfl ?_
      refine x_castY dX3_placeOf_21 q1239 (Or.inl (hB.fd hq).1.2.2) (q := (RX4, TX4, 7)) rfl (Or.inl rfl) ?_
      refine x_get fgX3_108_3 dX3_placeOf_24 (Or.inl (hB.fd hq).1.2.2) rfl ?_
      refine x_iload_n dX3_placeOf_27 rfl ?_
      refine x_icmp_neF dX3_placeOf_28 33 (by decide) (by rw [← e20]; exact hx) ?_
      refine x_iload_n dX3_placeOf_31 rfl ?_
      exact x_ireturn dX3_placeOf_32 rfl rfl ⟨rfl, rfl⟩
    · have e1 : plcS S x (m + 1) k = plcS S x m (k + 1) := if_neg hx
      rw [e1]
      refine x_iload_n dX3_placeOf_2 rfl ?_
      refine x_aload_n dX3_placeOf_3 rfl ?_
      refine x_get fgX3_22_2 dX3_placeOf_4 (Or.inl hB.h) rfl ?_
      refine x_cvV (q := (RJ2, TJ2, 3)) cvX3_146_J2 dX3_placeOf_7 (Or.inl hrl) rfl (hAl_size hB.rl) rfl ?_
      refine x_icmp_geF dX3_placeOf_10 39 (by decide) (nI_ge hp (by omega)) ?_
      refine x_aload_n dX3_placeOf_13 rfl ?_
      refine x_get fgX3_22_2 dX3_placeOf_14 (Or.inl hB.h) rfl ?_
      refine x_iload_n dX3_placeOf_17 rfl ?_
      refine x_cvV (q := (RJ2, TJ2, 3)) cvX3_111_J2 dX3_placeOf_18 (Or.inl hrl) rfl (hAl_get hB.rl (i := k) hp) rfl ?_
      refine x_castY dX3_placeOf_21 q1239 (Or.inl (hB.fd hq).1.2.2) (q := (RX4, TX4, 7)) rfl (Or.inl rfl) ?_
      refine x_get fgX3_108_3 dX3_placeOf_24 (Or.inl (hB.fd hq).1.2.2) rfl ?_
      refine x_iload_n dX3_placeOf_27 rfl ?_
      refine x_icmp_neT (tgt := 33) dX3_placeOf_28 (by decide) (by rw [← e20]; exact hx) ?_
      refine x_iinc (v := nI (k + 1)) dX3_placeOf_33 rfl (nI_1 _) (by decide) rfl ?_
      refine x_goto (tgt := 2) dX3_placeOf_36 (by decide) ?_
      exact ih (k + 1) (by omega)
theorem c_X3_placeOf (g : xG) (A : xA) (E τ : Nat → Nat) (σ : Nat → Nat → Nat) (tf : Nat → Nat → Int32) (S Y : Nat → Int32) (hB : HB g E τ σ tf S Y A) (x : Int32) : xC g iX3_placeOf 3 [.ref (σ 0 0), .int x] A (xRet (some (.int (oI (plcS S x (rowS S) 0)))) A) := by
  show xW g _ _ 0 [some (.ref (σ 0 0)), some (.int x), none] [] _ _
  obtain ⟨mcf, edf, hfl, hflt, -⟩ := hB.fl.l
  obtain ⟨mcr, edr, hrl, hrlt, -⟩ := hB.rl.l
  obtain ⟨hm10, hr10⟩ := hB.le
  refine x_iconst (v := 0) dX3_placeOf_0 rfl ?_
  refine x_istore_n dX3_placeOf_1 (by decide) rfl ?_
  exact pl_l g A E τ σ tf S Y hB x (rowS S) 0 (by omega)
