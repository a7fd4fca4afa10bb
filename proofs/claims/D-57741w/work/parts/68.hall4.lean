set_option maxRecDepth 100000
/-! A HALL CHANGES: the pegs of its methods -/
theorem c_X3_turnPeg_i1 (g : xG) (A : xA) (E τ : Nat → Nat) (σ : Nat → Nat → Nat) (tf : Nat → Nat → Int32) (S Y : Nat → Int32) (hB : HB g E τ σ tf S Y A) (hl : g.1.stackTraces = false) (x y : Int32) (c : Int32) (hx : inI x 0 (nI (manyS S) - 1) = 0) : xC g iX3_turnPeg 15 [.ref (σ 0 0), .int x, .int y, .int c] A (xThG 26 A 1 6) := by
  show xW g _ _ 0 [some (.ref (σ 0 0)), some (.int x), some (.int y), some (.int c), none, none] [] _ _
  refine x_aload_n dX3_turnPeg_0 rfl ?_
  refine x_iload_n dX3_turnPeg_1 rfl ?_
  refine x_iload_n dX3_turnPeg_2 rfl ?_
  exact v_cvO (q := (RX3, TX3, 18)) cvX3_164_X3 dX3_turnPeg_3 (Or.inl hB.h) rfl (c_X3_peg_no1 g A E τ σ tf S Y hB hl x y hx) rfl ⟨_, rfl⟩ (fun _ _ h => h)
theorem c_X3_turnPeg_i2 (g : xG) (A : xA) (E τ : Nat → Nat) (σ : Nat → Nat → Nat) (tf : Nat → Nat → Int32) (S Y : Nat → Int32) (hB : HB g E τ σ tf S Y A) (hl : g.1.stackTraces = false) (f : Nat) (y : Int32) (c : Int32) (hf : f < manyS S) (hy : inI y 0 3 = 0) : xC g iX3_turnPeg 15 [.ref (σ 0 0), .int (nI f), .int y, .int c] A (xThG 26 A 1 6) := by
  show xW g _ _ 0 [some (.ref (σ 0 0)), some (.int (nI f)), some (.int y), some (.int c), none, none] [] _ _
  refine x_aload_n dX3_turnPeg_0 rfl ?_
  refine x_iload_n dX3_turnPeg_1 rfl ?_
  refine x_iload_n dX3_turnPeg_2 rfl ?_
  exact v_cvO (q := (RX3, TX3, 18)) cvX3_164_X3 dX3_turnPeg_3 (Or.inl hB.h) rfl (c_X3_peg_no2 g A E τ σ tf S Y hB hl f y hf hy) rfl ⟨_, rfl⟩ (fun _ _ h => h)
theorem c_X3_turnPeg (g : xG) (A : xA) (E τ : Nat → Nat) (σ : Nat → Nat → Nat) (tf : Nat → Nat → Int32) (S Y : Nat → Int32) (hB : HB g E τ σ tf S Y A) (f q : Nat) (hf : f < manyS S) (hq : q < 4) (c : Int32) (h0 : ¬ c = 0) (hc : ¬ inI c (-300) 300 = 0) (hb : hs S f (13 + q) = 0) : xC g iX3_turnPeg 6 [.ref (σ 0 0), .int (nI f), .int (nI q), .int c] A (xRs fun w A' => w = some (.int (hs (turnsS S f q c) f (17 + q))) ∧ ∃ τ', HB g E τ' σ tf (turnsS S f q c) Y A' ∧ hst τ A τ' A' 1 2) := by
  show xW g _ _ 0 [some (.ref (σ 0 0)), some (.int (nI f)), some (.int (nI q)), some (.int c), none, none] [] _ _
  refine x_aload_n dX3_turnPeg_0 rfl ?_
  refine x_iload_n dX3_turnPeg_1 rfl ?_
  refine x_iload_n dX3_turnPeg_2 rfl ?_
  refine x_cvV (q := (RX3, TX3, 18)) cvX3_164_X3 dX3_turnPeg_3 (Or.inl hB.h) rfl (c_X3_peg g A E τ σ tf S Y hB f q hf hq) rfl ?_
  have hB2 : HB g E (tgU τ A.2.1 0) σ tf S Y (xal A (.inr (4, [.int (nI f), .int (nI q)])) 2) := hB.al
  have s2 : hst τ A (tgU τ A.2.1 0) (xal A (.inr (4, [.int (nI f), .int (nI q)])) 2) 1 2 := hst_al
  refine x_astore dX3_turnPeg_6 (by decide) rfl ?_
  refine x_iload_n dX3_turnPeg_8 rfl ?_
  refine x_if_eqF dX3_turnPeg_9 29 (by decide) h0 ?_
  refine x_iload_n dX3_turnPeg_12 rfl ?_
  refine x_sipush (v := (-300)) dX3_turnPeg_13 (by decide) ?_
  refine x_sipush (v := 300) dX3_turnPeg_16 (by decide) ?_
  refine x_csV csX3_150 dX3_turnPeg_19 (c_X1_isIn _ _ _ _ _) rfl ?_
  refine x_if_eqF dX3_turnPeg_22 29 (by decide) hc ?_
  refine x_iconst (v := 1) dX3_turnPeg_25 rfl ?_
  refine x_goto (tgt := 30) dX3_turnPeg_26 (by decide) ?_
  refine x_csN csX3_256 dX3_turnPeg_30 (c_X1_checkArgument_ok _ _ _ (by decide)) rfl ?_
  refine x_aload dX3_turnPeg_33 rfl ?_
  refine x_get fgX3_168_5 dX3_turnPeg_35 (Or.inl (hB2.pA hf hq)) rfl ?_
  refine x_top (y := 0) hb ?_
  refine x_if_neF dX3_turnPeg_38 45 (by decide) rfl ?_
  refine x_iconst (v := 1) dX3_turnPeg_41 rfl ?_
  refine x_goto (tgt := 46) dX3_turnPeg_42 (by decide) ?_
  refine x_csN csX3_172 dX3_turnPeg_46 (c_X1_checkState_ok _ _ _ (by decide)) rfl ?_
  refine x_aload_n dX3_turnPeg_49 rfl ?_
  refine x_aload dX3_turnPeg_50 rfl ?_
  refine x_iload_n dX3_turnPeg_52 rfl ?_
  refine v_cvE (q := (RX3, TX3, 18)) cvX3_233_X3 dX3_turnPeg_53 (Or.inl hB2.h) rfl (c_X3_turn g _ E _ σ tf S Y hB2 f q c hf hq hb) rfl (fun w A3 hP => ?_)
  obtain ⟨rfl, hB3, s3⟩ := hP
  have hf3 : f < manyS (turnsS S f q c) := by rw [(hdE_turns f q c).many]; exact hf
  refine x_istore dX3_turnPeg_56 (by decide) rfl ?_
  refine x_aload dX3_turnPeg_58 rfl ?_
  refine x_get fgX3_259_5 dX3_turnPeg_60 (Or.inl (hB3.pA hf3 hq)) rfl ?_
  exact x_ireturn dX3_turnPeg_63 rfl rfl ⟨_, rfl, rfl, _, hB3, s2.tr s3⟩
theorem c_X3_turnPeg_a0 (g : xG) (A : xA) (E τ : Nat → Nat) (σ : Nat → Nat → Nat) (tf : Nat → Nat → Int32) (S Y : Nat → Int32) (hB : HB g E τ σ tf S Y A) (f q : Nat) (hf : f < manyS S) (hq : q < 4) (hl : g.1.stackTraces = false) (c : Int32) (h0 : c = 0) : xC g iX3_turnPeg 15 [.ref (σ 0 0), .int (nI f), .int (nI q), .int c] A (xThG 27 A 2 8) := by
  show xW g _ _ 0 [some (.ref (σ 0 0)), some (.int (nI f)), some (.int (nI q)), some (.int c), none, none] [] _ _
  refine x_aload_n dX3_turnPeg_0 rfl ?_
  refine x_iload_n dX3_turnPeg_1 rfl ?_
  refine x_iload_n dX3_turnPeg_2 rfl ?_
  refine x_cvV (q := (RX3, TX3, 18)) cvX3_164_X3 dX3_turnPeg_3 (Or.inl hB.h) rfl (c_X3_peg g A E τ σ tf S Y hB f q hf hq) rfl ?_
  have hB2 : HB g E (tgU τ A.2.1 0) σ tf S Y (xal A (.inr (4, [.int (nI f), .int (nI q)])) 2) := hB.al
  have s2 : hst τ A (tgU τ A.2.1 0) (xal A (.inr (4, [.int (nI f), .int (nI q)])) 2) 1 2 := hst_al
  refine x_astore dX3_turnPeg_6 (by decide) rfl ?_
  refine x_iload_n dX3_turnPeg_8 rfl ?_
  refine x_if_eqT (tgt := 29) dX3_turnPeg_9 (by decide) h0 ?_
  refine x_iconst (v := 0) dX3_turnPeg_29 rfl ?_
  exact v_csO csX3_256 dX3_turnPeg_30 (c_X1_checkArgument_G _ _ hl) rfl ⟨_, rfl⟩ (fun o A' h => (h.of s2.1 (fun r hr => xal_ne (Nat.ne_of_lt hr))))
theorem c_X3_turnPeg_a1 (g : xG) (A : xA) (E τ : Nat → Nat) (σ : Nat → Nat → Nat) (tf : Nat → Nat → Int32) (S Y : Nat → Int32) (hB : HB g E τ σ tf S Y A) (f q : Nat) (hf : f < manyS S) (hq : q < 4) (hl : g.1.stackTraces = false) (c : Int32) (h0 : ¬ c = 0) (hc : inI c (-300) 300 = 0) : xC g iX3_turnPeg 15 [.ref (σ 0 0), .int (nI f), .int (nI q), .int c] A (xThG 27 A 2 8) := by
  show xW g _ _ 0 [some (.ref (σ 0 0)), some (.int (nI f)), some (.int (nI q)), some (.int c), none, none] [] _ _
  refine x_aload_n dX3_turnPeg_0 rfl ?_
  refine x_iload_n dX3_turnPeg_1 rfl ?_
  refine x_iload_n dX3_turnPeg_2 rfl ?_
  refine x_cvV (q := (RX3, TX3, 18)) cvX3_164_X3 dX3_turnPeg_3 (Or.inl hB.h) rfl (c_X3_peg g A E τ σ tf S Y hB f q hf hq) rfl ?_
  have hB2 : HB g E (tgU τ A.2.1 0) σ tf S Y (xal A (.inr (4, [.int (nI f), .int (nI q)])) 2) := hB.al
  have s2 : hst τ A (tgU τ A.2.1 0) (xal A (.inr (4, [.int (nI f), .int (nI q)])) 2) 1 2 := hst_al
  refine x_astore dX3_turnPeg_6 (by decide) rfl ?_
  refine x_iload_n dX3_turnPeg_8 rfl ?_
  refine x_if_eqF dX3_turnPeg_9 29 (by decide) h0 ?_
  refine x_iload_n dX3_turnPeg_12 rfl ?_
  refine x_sipush (v := (-300)) dX3_turnPeg_13 (by decide) ?_
  refine x_sipush (v := 300) dX3_turnPeg_16 (by decide) ?_
  refine x_csV csX3_150 dX3_turnPeg_19 (c_X1_isIn _ _ _ _ _) rfl ?_
  refine x_if_eqT (tgt := 29) dX3_turnPeg_22 (by decide) hc ?_
  refine x_iconst (v := 0) dX3_turnPeg_29 rfl ?_
  exact v_csO csX3_256 dX3_turnPeg_30 (c_X1_checkArgument_G _ _ hl) rfl ⟨_, rfl⟩ (fun o A' h => (h.of s2.1 (fun r hr => xal_ne (Nat.ne_of_lt hr))))
theorem c_X3_turnPeg_s (g : xG) (A : xA) (E τ : Nat → Nat) (σ : Nat → Nat → Nat) (tf : Nat → Nat → Int32) (S Y : Nat → Int32) (hB : HB g E τ σ tf S Y A) (f q : Nat) (hf : f < manyS S) (hq : q < 4) (hl : g.1.stackTraces = false) (c : Int32) (h0 : ¬ c = 0) (hc : ¬ inI c (-300) 300 = 0) (hb : ¬ hs S f (13 + q) = 0) : xC g iX3_turnPeg 15 [.ref (σ 0 0), .int (nI f), .int (nI q), .int c] A (xThG 28 A 2 8) := by
  show xW g _ _ 0 [some (.ref (σ 0 0)), some (.int (nI f)), some (.int (nI q)), some (.int c), none, none] [] _ _
  refine x_aload_n dX3_turnPeg_0 rfl ?_
  refine x_iload_n dX3_turnPeg_1 rfl ?_
  refine x_iload_n dX3_turnPeg_2 rfl ?_
  refine x_cvV (q := (RX3, TX3, 18)) cvX3_164_X3 dX3_turnPeg_3 (Or.inl hB.h) rfl (c_X3_peg g A E τ σ tf S Y hB f q hf hq) rfl ?_
  have hB2 : HB g E (tgU τ A.2.1 0) σ tf S Y (xal A (.inr (4, [.int (nI f), .int (nI q)])) 2) := hB.al
  have s2 : hst τ A (tgU τ A.2.1 0) (xal A (.inr (4, [.int (nI f), .int (nI q)])) 2) 1 2 := hst_al
  refine x_astore dX3_turnPeg_6 (by decide) rfl ?_
  refine x_iload_n dX3_turnPeg_8 rfl ?_
  refine x_if_eqF dX3_turnPeg_9 29 (by decide) h0 ?_
  refine x_iload_n dX3_turnPeg_12 rfl ?_
  refine x_sipush (v := (-300)) dX3_turnPeg_13 (by decide) ?_
  refine x_sipush (v := 300) dX3_turnPeg_16 (by decide) ?_
  refine x_csV csX3_150 dX3_turnPeg_19 (c_X1_isIn _ _ _ _ _) rfl ?_
  refine x_if_eqF dX3_turnPeg_22 29 (by decide) hc ?_
  refine x_iconst (v := 1) dX3_turnPeg_25 rfl ?_
  refine x_goto (tgt := 30) dX3_turnPeg_26 (by decide) ?_
  refine x_csN csX3_256 dX3_turnPeg_30 (c_X1_checkArgument_ok _ _ _ (by decide)) rfl ?_
  refine x_aload dX3_turnPeg_33 rfl ?_
  refine x_get fgX3_168_5 dX3_turnPeg_35 (Or.inl (hB2.pA hf hq)) rfl ?_
  refine x_if_neT (tgt := 45) dX3_turnPeg_38 (by decide) hb ?_
  refine x_iconst (v := 0) dX3_turnPeg_45 rfl ?_
  exact v_csO csX3_172 dX3_turnPeg_46 (c_X1_checkState_G _ _ hl) rfl ⟨_, rfl⟩ (fun o A' h => (h.of s2.1 (fun r hr => xal_ne (Nat.ne_of_lt hr))))
theorem c_X3_pegWithString_i1 (g : xG) (A : xA) (E τ : Nat → Nat) (σ : Nat → Nat → Nat) (tf : Nat → Nat → Int32) (S Y : Nat → Int32) (hB : HB g E τ σ tf S Y A) (hl : g.1.stackTraces = false) (x y : Int32) (hx : inI x 0 (nI (manyS S) - 1) = 0) : xC g iX3_pegWithString 15 [.ref (σ 0 0), .int x, .int y] A (xThG 26 A 1 6) := by
  show xW g _ _ 0 [some (.ref (σ 0 0)), some (.int x), some (.int y), none] [] _ _
  refine x_aload_n dX3_pegWithString_0 rfl ?_
  refine x_iload_n dX3_pegWithString_1 rfl ?_
  refine x_iload_n dX3_pegWithString_2 rfl ?_
  exact v_cvO (q := (RX3, TX3, 18)) cvX3_164_X3 dX3_pegWithString_3 (Or.inl hB.h) rfl (c_X3_peg_no1 g A E τ σ tf S Y hB hl x y hx) rfl ⟨_, rfl⟩ (fun _ _ h => h)
theorem c_X3_pegWithString_i2 (g : xG) (A : xA) (E τ : Nat → Nat) (σ : Nat → Nat → Nat) (tf : Nat → Nat → Int32) (S Y : Nat → Int32) (hB : HB g E τ σ tf S Y A) (hl : g.1.stackTraces = false) (f : Nat) (y : Int32) (hf : f < manyS S) (hy : inI y 0 3 = 0) : xC g iX3_pegWithString 15 [.ref (σ 0 0), .int (nI f), .int y] A (xThG 26 A 1 6) := by
  show xW g _ _ 0 [some (.ref (σ 0 0)), some (.int (nI f)), some (.int y), none] [] _ _
  refine x_aload_n dX3_pegWithString_0 rfl ?_
  refine x_iload_n dX3_pegWithString_1 rfl ?_
  refine x_iload_n dX3_pegWithString_2 rfl ?_
  exact v_cvO (q := (RX3, TX3, 18)) cvX3_164_X3 dX3_pegWithString_3 (Or.inl hB.h) rfl (c_X3_peg_no2 g A E τ σ tf S Y hB hl f y hf hy) rfl ⟨_, rfl⟩ (fun _ _ h => h)
theorem c_X3_pegWithString (g : xG) (A : xA) (E τ : Nat → Nat) (σ : Nat → Nat → Nat) (tf : Nat → Nat → Int32) (S Y : Nat → Int32) (hB : HB g E τ σ tf S Y A) (f q : Nat) (hf : f < manyS S) (hq : q < 4) (hb : hs S f (13 + q) = 0) : xC g iX3_pegWithString 6 [.ref (σ 0 0), .int (nI f), .int (nI q)] A (xRet (some (.ref (σ 6 (4 * f + q)))) (xal A (.inr (4, [.int (nI f), .int (nI q)])) 2)) := by
  show xW g _ _ 0 [some (.ref (σ 0 0)), some (.int (nI f)), some (.int (nI q)), none] [] _ _
  refine x_aload_n dX3_pegWithString_0 rfl ?_
  refine x_iload_n dX3_pegWithString_1 rfl ?_
  refine x_iload_n dX3_pegWithString_2 rfl ?_
  refine x_cvV (q := (RX3, TX3, 18)) cvX3_164_X3 dX3_pegWithString_3 (Or.inl hB.h) rfl (c_X3_peg g A E τ σ tf S Y hB f q hf hq) rfl ?_
  have hB2 : HB g E (tgU τ A.2.1 0) σ tf S Y (xal A (.inr (4, [.int (nI f), .int (nI q)])) 2) := hB.al
  have s2 : hst τ A (tgU τ A.2.1 0) (xal A (.inr (4, [.int (nI f), .int (nI q)])) 2) 1 2 := hst_al
  refine x_astore_n dX3_pegWithString_6 (by decide) rfl ?_
  refine x_aload_n dX3_pegWithString_7 rfl ?_
  refine x_get fgX3_168_5 dX3_pegWithString_8 (Or.inl (hB2.pA hf hq)) rfl ?_
  refine x_top (y := 0) hb ?_
  refine x_if_neF dX3_pegWithString_11 18 (by decide) rfl ?_
  refine x_iconst (v := 1) dX3_pegWithString_14 rfl ?_
  refine x_goto (tgt := 19) dX3_pegWithString_15 (by decide) ?_
  refine x_csN csX3_172 dX3_pegWithString_19 (c_X1_checkState_ok _ _ _ (by decide)) rfl ?_
  refine x_aload_n dX3_pegWithString_22 rfl ?_
  exact x_areturn dX3_pegWithString_23 rfl (Or.inl ⟨_, rfl⟩) (Or.inr ⟨_, rfl⟩) ⟨rfl, rfl⟩
theorem c_X3_pegWithString_s (g : xG) (A : xA) (E τ : Nat → Nat) (σ : Nat → Nat → Nat) (tf : Nat → Nat → Int32) (S Y : Nat → Int32) (hB : HB g E τ σ tf S Y A) (f q : Nat) (hf : f < manyS S) (hq : q < 4) (hl : g.1.stackTraces = false) (hb : ¬ hs S f (13 + q) = 0) : xC g iX3_pegWithString 15 [.ref (σ 0 0), .int (nI f), .int (nI q)] A (xThG 28 A 2 8) := by
  show xW g _ _ 0 [some (.ref (σ 0 0)), some (.int (nI f)), some (.int (nI q)), none] [] _ _
  refine x_aload_n dX3_pegWithString_0 rfl ?_
  refine x_iload_n dX3_pegWithString_1 rfl ?_
  refine x_iload_n dX3_pegWithString_2 rfl ?_
  refine x_cvV (q := (RX3, TX3, 18)) cvX3_164_X3 dX3_pegWithString_3 (Or.inl hB.h) rfl (c_X3_peg g A E τ σ tf S Y hB f q hf hq) rfl ?_
  have hB2 : HB g E (tgU τ A.2.1 0) σ tf S Y (xal A (.inr (4, [.int (nI f), .int (nI q)])) 2) := hB.al
  have s2 : hst τ A (tgU τ A.2.1 0) (xal A (.inr (4, [.int (nI f), .int (nI q)])) 2) 1 2 := hst_al
  refine x_astore_n dX3_pegWithString_6 (by decide) rfl ?_
  refine x_aload_n dX3_pegWithString_7 rfl ?_
  refine x_get fgX3_168_5 dX3_pegWithString_8 (Or.inl (hB2.pA hf hq)) rfl ?_
  refine x_if_neT (tgt := 18) dX3_pegWithString_11 (by decide) hb ?_
  refine x_iconst (v := 0) dX3_pegWithString_18 rfl ?_
  exact v_csO csX3_172 dX3_pegWithString_19 (c_X1_checkState_G _ _ hl) rfl ⟨_, rfl⟩ (fun o A' h => (h.of s2.1 (fun r hr => xal_ne (Nat.ne_of_lt hr))))
theorem c_X3_chalkPeg_i1 (g : xG) (A : xA) (E τ : Nat → Nat) (σ : Nat → Nat → Nat) (tf : Nat → Nat → Int32) (S Y : Nat → Int32) (hB : HB g E τ σ tf S Y A) (hl : g.1.stackTraces = false) (x y : Int32) (hx : inI x 0 (nI (manyS S) - 1) = 0) : xC g iX3_chalkPeg 15 [.ref (σ 0 0), .int x, .int y] A (xThG 26 A 1 6) := by
  show xW g _ _ 0 [some (.ref (σ 0 0)), some (.int x), some (.int y), none] [] _ _
  refine x_aload_n dX3_chalkPeg_0 rfl ?_
  refine x_iload_n dX3_chalkPeg_1 rfl ?_
  refine x_iload_n dX3_chalkPeg_2 rfl ?_
  exact v_cvO (q := (RX3, TX3, 18)) cvX3_164_X3 dX3_chalkPeg_3 (Or.inl hB.h) rfl (c_X3_peg_no1 g A E τ σ tf S Y hB hl x y hx) rfl ⟨_, rfl⟩ (fun _ _ h => h)
theorem c_X3_chalkPeg_i2 (g : xG) (A : xA) (E τ : Nat → Nat) (σ : Nat → Nat → Nat) (tf : Nat → Nat → Int32) (S Y : Nat → Int32) (hB : HB g E τ σ tf S Y A) (hl : g.1.stackTraces = false) (f : Nat) (y : Int32) (hf : f < manyS S) (hy : inI y 0 3 = 0) : xC g iX3_chalkPeg 15 [.ref (σ 0 0), .int (nI f), .int y] A (xThG 26 A 1 6) := by
  show xW g _ _ 0 [some (.ref (σ 0 0)), some (.int (nI f)), some (.int y), none] [] _ _
  refine x_aload_n dX3_chalkPeg_0 rfl ?_
  refine x_iload_n dX3_chalkPeg_1 rfl ?_
  refine x_iload_n dX3_chalkPeg_2 rfl ?_
  exact v_cvO (q := (RX3, TX3, 18)) cvX3_164_X3 dX3_chalkPeg_3 (Or.inl hB.h) rfl (c_X3_peg_no2 g A E τ σ tf S Y hB hl f y hf hy) rfl ⟨_, rfl⟩ (fun _ _ h => h)
theorem chS_B {g : xG} {E τ : Nat → Nat} {σ : Nat → Nat → Nat} {tf : Nat → Nat → Int32} {S Y : Nat → Int32} {A : xA} (hB : HB g E τ σ tf S Y A) {f q : Nat} (hf : f < manyS S) (hq : q < 4) : HB g E τ σ tf (su S f (17 + q) 9) Y (xup A (σ 6 (4 * f + q)) (xPg (hs S f (9 + q)) 9 (hs S f (13 + q)))) := by
  have h := hB.up (S' := su S f (17 + q) 9) hf hq (fun i hi => upd_ne _ _ (by omega)) (by rw [hs_su (by omega)]; exact (hB.pB hf hq).1) ⟨9, by omega, hs_sus⟩
  rw [hs_su (by omega), hs_sus, hs_su (by omega)] at h
  exact h
theorem pg_t {g : xG} {E τ : Nat → Nat} {σ : Nat → Nat → Nat} {tf : Nat → Nat → Int32} {S Y : Nat → Int32} {A : xA} (hB : HB g E τ σ tf S Y A) {f q : Nat} (hf : f < manyS S) (hq : q < 4) : τ (σ 6 (4 * f + q)) ≠ 0 := by
  rw [(hB.pg (k := 4 * f + q) (by omega)).1.1]
  omega
theorem h_t {g : xG} {E τ : Nat → Nat} {σ : Nat → Nat → Nat} {tf : Nat → Nat → Int32} {S Y : Nat → Int32} {A : xA} (hB : HB g E τ σ tf S Y A) : τ (σ 0 0) ≠ 0 := by
  rw [hB.lt.2]
  decide
theorem nI_9 : nI 9 = 9 := rfl
theorem c_X3_chalkPeg (g : xG) (A : xA) (E τ : Nat → Nat) (σ : Nat → Nat → Nat) (tf : Nat → Nat → Int32) (S Y : Nat → Int32) (hB : HB g E τ σ tf S Y A) (f q : Nat) (hf : f < manyS S) (hq : q < 4) (hg : ¬ 9 ≤ hs S f (17 + q)) (hc : ¬ S 3 ≤ 0) : xC g iX3_chalkPeg 6 [.ref (σ 0 0), .int (nI f), .int (nI q)] A (xRs fun w A' => w = some (.int (chalkS S f q 3)) ∧ ∃ τ', HB g E τ' σ tf (chalkS S f q) Y A' ∧ hst τ A τ' A' 1 2) := by
  show xW g _ _ 0 [some (.ref (σ 0 0)), some (.int (nI f)), some (.int (nI q)), none] [] _ _
  refine x_aload_n dX3_chalkPeg_0 rfl ?_
  refine x_iload_n dX3_chalkPeg_1 rfl ?_
  refine x_iload_n dX3_chalkPeg_2 rfl ?_
  refine x_cvV (q := (RX3, TX3, 18)) cvX3_164_X3 dX3_chalkPeg_3 (Or.inl hB.h) rfl (c_X3_peg g A E τ σ tf S Y hB f q hf hq) rfl ?_
  have hB2 : HB g E (tgU τ A.2.1 0) σ tf S Y (xal A (.inr (4, [.int (nI f), .int (nI q)])) 2) := hB.al
  have s2 : hst τ A (tgU τ A.2.1 0) (xal A (.inr (4, [.int (nI f), .int (nI q)])) 2) 1 2 := hst_al
  refine x_astore_n dX3_chalkPeg_6 (by decide) rfl ?_
  refine x_aload_n dX3_chalkPeg_7 rfl ?_
  refine x_get fgX3_259_5 dX3_chalkPeg_8 (Or.inl (hB2.pA hf hq)) rfl ?_
  refine x_bipush (v := 9) dX3_chalkPeg_11 (by decide) ?_
  refine x_icmp_geF dX3_chalkPeg_13 27 (by decide) hg ?_
  refine x_aload_n dX3_chalkPeg_16 rfl ?_
  refine x_get fgX3_46_2 dX3_chalkPeg_17 (Or.inl hB2.h) rfl ?_
  refine x_if_leF dX3_chalkPeg_20 27 (by decide) hc ?_
  refine x_iconst (v := 1) dX3_chalkPeg_23 rfl ?_
  refine x_goto (tgt := 28) dX3_chalkPeg_24 (by decide) ?_
  refine x_csN csX3_172 dX3_chalkPeg_28 (c_X1_checkState_ok _ _ _ (by decide)) rfl ?_
  refine x_aload_n dX3_chalkPeg_31 rfl ?_
  refine x_bipush (v := 9) dX3_chalkPeg_32 (by decide) ?_
  refine x_put fpX3_259_5 dX3_chalkPeg_34 (hB2.pA hf hq) ⟨rfl, rfl⟩ (by exact Nat.le_of_ble_eq_true rfl) ?_
  have hB3 := chS_B hB2 hf hq
  have s3 := s2.tr (hst_up (e := xPg (hs S f (9 + q)) 9 (hs S f (13 + q))) (pg_t hB2 hf hq))
  have hB4 := hB3.uh (S' := upd (su S f (17 + q) 9) 3 (su S f (17 + q) 9 3 - 1)) (fun i hi => upd_ne _ _ (by omega))
  have s4 := s3.tr (hst_up (e := xHl (upd (su S f (17 + q) 9) 3 (su S f (17 + q) 9 3 - 1)) (σ 0 1) (σ 0 2) (σ 0 3) (σ 0 4) (σ 0 5)) (h_t hB3))
  have hB5 := hB4.uh (S' := chalkS S f q) (fun i hi => upd_ne _ _ (by omega))
  have s5 := s4.tr (hst_up (e := xHl (chalkS S f q) (σ 0 1) (σ 0 2) (σ 0 3) (σ 0 4) (σ 0 5)) (h_t hB4))
  have e3 : su S f (17 + q) 9 3 = S 3 := upd_ne _ _ (by omega)
  refine x_aload_n dX3_chalkPeg_37 rfl ?_
  refine x_dup dX3_chalkPeg_38 rfl ?_
  refine x_get fgX3_46_2 dX3_chalkPeg_39 (Or.inl hB3.h) rfl ?_
  refine x_iconst (v := 1) dX3_chalkPeg_42 rfl ?_
  refine x_isub dX3_chalkPeg_43 ?_
  refine x_put fpX3_46_2 dX3_chalkPeg_44 hB3.h ⟨rfl, rfl⟩ (by exact Nat.le_of_ble_eq_true rfl) ?_
  refine x_aload_n dX3_chalkPeg_47 rfl ?_
  refine x_dup dX3_chalkPeg_48 rfl ?_
  refine x_get fgX3_73_2 dX3_chalkPeg_49 (Or.inl hB4.h) rfl ?_
  refine x_iconst (v := 1) dX3_chalkPeg_52 rfl ?_
  refine x_iadd dX3_chalkPeg_53 ?_
  refine x_put fpX3_73_2 dX3_chalkPeg_54 hB4.h ⟨rfl, rfl⟩ (by exact Nat.le_of_ble_eq_true rfl) ?_
  refine x_aload_n dX3_chalkPeg_57 rfl ?_
  refine x_get fgX3_46_2 dX3_chalkPeg_58 (Or.inl hB5.h) rfl ?_
  exact x_ireturn dX3_chalkPeg_61 rfl rfl ⟨_, rfl, rfl, _, hB5, s5⟩
theorem c_X3_chalkPeg_s1 (g : xG) (A : xA) (E τ : Nat → Nat) (σ : Nat → Nat → Nat) (tf : Nat → Nat → Int32) (S Y : Nat → Int32) (hB : HB g E τ σ tf S Y A) (f q : Nat) (hf : f < manyS S) (hq : q < 4) (hl : g.1.stackTraces = false) (hg : 9 ≤ hs S f (17 + q)) : xC g iX3_chalkPeg 15 [.ref (σ 0 0), .int (nI f), .int (nI q)] A (xThG 28 A 2 8) := by
  show xW g _ _ 0 [some (.ref (σ 0 0)), some (.int (nI f)), some (.int (nI q)), none] [] _ _
  refine x_aload_n dX3_chalkPeg_0 rfl ?_
  refine x_iload_n dX3_chalkPeg_1 rfl ?_
  refine x_iload_n dX3_chalkPeg_2 rfl ?_
  refine x_cvV (q := (RX3, TX3, 18)) cvX3_164_X3 dX3_chalkPeg_3 (Or.inl hB.h) rfl (c_X3_peg g A E τ σ tf S Y hB f q hf hq) rfl ?_
  have hB2 : HB g E (tgU τ A.2.1 0) σ tf S Y (xal A (.inr (4, [.int (nI f), .int (nI q)])) 2) := hB.al
  have s2 : hst τ A (tgU τ A.2.1 0) (xal A (.inr (4, [.int (nI f), .int (nI q)])) 2) 1 2 := hst_al
  refine x_astore_n dX3_chalkPeg_6 (by decide) rfl ?_
  refine x_aload_n dX3_chalkPeg_7 rfl ?_
  refine x_get fgX3_259_5 dX3_chalkPeg_8 (Or.inl (hB2.pA hf hq)) rfl ?_
  refine x_bipush (v := 9) dX3_chalkPeg_11 (by decide) ?_
  refine x_icmp_geT (tgt := 27) dX3_chalkPeg_13 (by decide) hg ?_
  refine x_iconst (v := 0) dX3_chalkPeg_27 rfl ?_
  exact v_csO csX3_172 dX3_chalkPeg_28 (c_X1_checkState_G _ _ hl) rfl ⟨_, rfl⟩ (fun o A' h => (h.of s2.1 (fun r hr => xal_ne (Nat.ne_of_lt hr))))
theorem c_X3_chalkPeg_s2 (g : xG) (A : xA) (E τ : Nat → Nat) (σ : Nat → Nat → Nat) (tf : Nat → Nat → Int32) (S Y : Nat → Int32) (hB : HB g E τ σ tf S Y A) (f q : Nat) (hf : f < manyS S) (hq : q < 4) (hl : g.1.stackTraces = false) (hg : ¬ 9 ≤ hs S f (17 + q)) (hc : S 3 ≤ 0) : xC g iX3_chalkPeg 15 [.ref (σ 0 0), .int (nI f), .int (nI q)] A (xThG 28 A 2 8) := by
  show xW g _ _ 0 [some (.ref (σ 0 0)), some (.int (nI f)), some (.int (nI q)), none] [] _ _
  refine x_aload_n dX3_chalkPeg_0 rfl ?_
  refine x_iload_n dX3_chalkPeg_1 rfl ?_
  refine x_iload_n dX3_chalkPeg_2 rfl ?_
  refine x_cvV (q := (RX3, TX3, 18)) cvX3_164_X3 dX3_chalkPeg_3 (Or.inl hB.h) rfl (c_X3_peg g A E τ σ tf S Y hB f q hf hq) rfl ?_
  have hB2 : HB g E (tgU τ A.2.1 0) σ tf S Y (xal A (.inr (4, [.int (nI f), .int (nI q)])) 2) := hB.al
  have s2 : hst τ A (tgU τ A.2.1 0) (xal A (.inr (4, [.int (nI f), .int (nI q)])) 2) 1 2 := hst_al
  refine x_astore_n dX3_chalkPeg_6 (by decide) rfl ?_
  refine x_aload_n dX3_chalkPeg_7 rfl ?_
  refine x_get fgX3_259_5 dX3_chalkPeg_8 (Or.inl (hB2.pA hf hq)) rfl ?_
  refine x_bipush (v := 9) dX3_chalkPeg_11 (by decide) ?_
  refine x_icmp_geF dX3_chalkPeg_13 27 (by decide) hg ?_
  refine x_aload_n dX3_chalkPeg_16 rfl ?_
  refine x_get fgX3_46_2 dX3_chalkPeg_17 (Or.inl hB2.h) rfl ?_
  refine x_if_leT (tgt := 27) dX3_chalkPeg_20 (by decide) hc ?_
  refine x_iconst (v := 0) dX3_chalkPeg_27 rfl ?_
  exact v_csO csX3_172 dX3_chalkPeg_28 (c_X1_checkState_G _ _ hl) rfl ⟨_, rfl⟩ (fun o A' h => (h.of s2.1 (fun r hr => xal_ne (Nat.ne_of_lt hr))))
theorem c_X3_replaceString_i1 (g : xG) (A : xA) (E τ : Nat → Nat) (σ : Nat → Nat → Nat) (tf : Nat → Nat → Int32) (S Y : Nat → Int32) (hB : HB g E τ σ tf S Y A) (hl : g.1.stackTraces = false) (x y : Int32) (hx : inI x 0 (nI (manyS S) - 1) = 0) : xC g iX3_replaceString 15 [.ref (σ 0 0), .int x, .int y] A (xThG 26 A 1 6) := by
  show xW g _ _ 0 [some (.ref (σ 0 0)), some (.int x), some (.int y), none] [] _ _
  refine x_aload_n dX3_replaceString_0 rfl ?_
  refine x_iload_n dX3_replaceString_1 rfl ?_
  refine x_iload_n dX3_replaceString_2 rfl ?_
  exact v_cvO (q := (RX3, TX3, 18)) cvX3_164_X3 dX3_replaceString_3 (Or.inl hB.h) rfl (c_X3_peg_no1 g A E τ σ tf S Y hB hl x y hx) rfl ⟨_, rfl⟩ (fun _ _ h => h)
theorem c_X3_replaceString_i2 (g : xG) (A : xA) (E τ : Nat → Nat) (σ : Nat → Nat → Nat) (tf : Nat → Nat → Int32) (S Y : Nat → Int32) (hB : HB g E τ σ tf S Y A) (hl : g.1.stackTraces = false) (f : Nat) (y : Int32) (hf : f < manyS S) (hy : inI y 0 3 = 0) : xC g iX3_replaceString 15 [.ref (σ 0 0), .int (nI f), .int y] A (xThG 26 A 1 6) := by
  show xW g _ _ 0 [some (.ref (σ 0 0)), some (.int (nI f)), some (.int y), none] [] _ _
  refine x_aload_n dX3_replaceString_0 rfl ?_
  refine x_iload_n dX3_replaceString_1 rfl ?_
  refine x_iload_n dX3_replaceString_2 rfl ?_
  exact v_cvO (q := (RX3, TX3, 18)) cvX3_164_X3 dX3_replaceString_3 (Or.inl hB.h) rfl (c_X3_peg_no2 g A E τ σ tf S Y hB hl f y hf hy) rfl ⟨_, rfl⟩ (fun _ _ h => h)
theorem rpS_B {g : xG} {E τ : Nat → Nat} {σ : Nat → Nat → Nat} {tf : Nat → Nat → Int32} {S Y : Nat → Int32} {A : xA} (hB : HB g E τ σ tf S Y A) {f q : Nat} (hf : f < manyS S) (hq : q < 4) : HB g E τ σ tf (su S f (13 + q) 0) Y (xup A (σ 6 (4 * f + q)) (xPg (hs S f (9 + q)) (hs S f (17 + q)) 0)) := by
  have h := hB.up (S' := su S f (13 + q) 0) hf hq (fun i hi => upd_ne _ _ (by omega)) (by rw [hs_sus]; exact Or.inl rfl) (by rw [hs_su (by omega)]; exact (hB.pB hf hq).2)
  rw [hs_su (by omega), hs_sus, hs_su (by omega)] at h
  exact h
theorem rpS_D {g : xG} {E τ : Nat → Nat} {σ : Nat → Nat → Nat} {tf : Nat → Nat → Int32} {S Y : Nat → Int32} {A : xA} (hB : HB g E τ σ tf S Y A) {f q : Nat} (hf : f < manyS S) (hq : q < 4) (v : Int32) : HB g E τ σ tf (su S f (9 + q) v) Y (xup A (σ 6 (4 * f + q)) (xPg v (hs S f (17 + q)) (hs S f (13 + q)))) := by
  have h := hB.up (S' := su S f (9 + q) v) hf hq (fun i hi => upd_ne _ _ (by omega)) (by rw [hs_su (by omega)]; exact (hB.pB hf hq).1) (by rw [hs_su (by omega)]; exact (hB.pB hf hq).2)
  rw [hs_sus, hs_su (by omega), hs_su (by omega)] at h
  exact h
theorem c_X3_replaceString (g : xG) (A : xA) (E τ : Nat → Nat) (σ : Nat → Nat → Nat) (tf : Nat → Nat → Int32) (S Y : Nat → Int32) (hB : HB g E τ σ tf S Y A) (f q : Nat) (hf : f < manyS S) (hq : q < 4) (hb : ¬ hs S f (13 + q) = 0) (hc : ¬ S 4 ≤ 0) : xC g iX3_replaceString 6 [.ref (σ 0 0), .int (nI f), .int (nI q)] A (xRs fun w A' => w = some (.int (replS S f q 4)) ∧ ∃ τ', HB g E τ' σ tf (replS S f q) Y A' ∧ hst τ A τ' A' 1 2) := by
  show xW g _ _ 0 [some (.ref (σ 0 0)), some (.int (nI f)), some (.int (nI q)), none] [] _ _
  refine x_aload_n dX3_replaceString_0 rfl ?_
  refine x_iload_n dX3_replaceString_1 rfl ?_
  refine x_iload_n dX3_replaceString_2 rfl ?_
  refine x_cvV (q := (RX3, TX3, 18)) cvX3_164_X3 dX3_replaceString_3 (Or.inl hB.h) rfl (c_X3_peg g A E τ σ tf S Y hB f q hf hq) rfl ?_
  have hB2 : HB g E (tgU τ A.2.1 0) σ tf S Y (xal A (.inr (4, [.int (nI f), .int (nI q)])) 2) := hB.al
  have s2 : hst τ A (tgU τ A.2.1 0) (xal A (.inr (4, [.int (nI f), .int (nI q)])) 2) 1 2 := hst_al
  refine x_astore_n dX3_replaceString_6 (by decide) rfl ?_
  refine x_aload_n dX3_replaceString_7 rfl ?_
  refine x_get fgX3_168_5 dX3_replaceString_8 (Or.inl (hB2.pA hf hq)) rfl ?_
  refine x_if_eqF dX3_replaceString_11 25 (by decide) hb ?_
  refine x_aload_n dX3_replaceString_14 rfl ?_
  refine x_get fgX3_49_2 dX3_replaceString_15 (Or.inl hB2.h) rfl ?_
  refine x_if_leF dX3_replaceString_18 25 (by decide) hc ?_
  refine x_iconst (v := 1) dX3_replaceString_21 rfl ?_
  refine x_goto (tgt := 26) dX3_replaceString_22 (by decide) ?_
  refine x_csN csX3_172 dX3_replaceString_26 (c_X1_checkState_ok _ _ _ (by decide)) rfl ?_
  refine x_aload_n dX3_replaceString_29 rfl ?_
  refine x_iconst (v := 0) dX3_replaceString_30 rfl ?_
  refine x_put fpX3_168_5 dX3_replaceString_31 (hB2.pA hf hq) ⟨rfl, rfl⟩ (by exact Nat.le_of_ble_eq_true rfl) ?_
  have hB3 := rpS_B hB2 hf hq
  have s3 := s2.tr (hst_up (e := xPg (hs S f (9 + q)) (hs S f (17 + q)) 0) (pg_t hB2 hf hq))
  refine x_aload_n dX3_replaceString_34 rfl ?_
  refine x_bipush (v := (-120)) dX3_replaceString_35 (by decide) ?_
  have hf3 : f < manyS (su S f (13 + q) 0) := by rw [((hdE.rf (S := S)).su f (13 + q) 0).many]; exact hf
  refine x_put fpX3_220_5 dX3_replaceString_37 (hB3.pA hf3 hq) ⟨rfl, rfl⟩ (by exact Nat.le_of_ble_eq_true rfl) ?_
  have hB4 := rpS_D hB3 hf3 hq (-120)
  have s4 := s3.tr (hst_up (e := xPg (-120) (hs (su S f (13 + q) 0) f (17 + q)) (hs (su S f (13 + q) 0) f (13 + q))) (pg_t hB3 hf3 hq))
  have hB5 := hB4.uh (S' := upd (su (su S f (13 + q) 0) f (9 + q) (-120)) 4 (su (su S f (13 + q) 0) f (9 + q) (-120) 4 - 1)) (fun i hi => upd_ne _ _ (by omega))
  have s5 := s4.tr (hst_up (e := xHl (upd (su (su S f (13 + q) 0) f (9 + q) (-120)) 4 (su (su S f (13 + q) 0) f (9 + q) (-120) 4 - 1)) (σ 0 1) (σ 0 2) (σ 0 3) (σ 0 4) (σ 0 5)) (h_t hB4))
  have hB6 := hB5.uh (S' := replS S f q) (fun i hi => upd_ne _ _ (by omega))
  have s6 := s5.tr (hst_up (e := xHl (replS S f q) (σ 0 1) (σ 0 2) (σ 0 3) (σ 0 4) (σ 0 5)) (h_t hB5))
  refine x_aload_n dX3_replaceString_40 rfl ?_
  refine x_dup dX3_replaceString_41 rfl ?_
  refine x_get fgX3_49_2 dX3_replaceString_42 (Or.inl hB4.h) rfl ?_
  refine x_iconst (v := 1) dX3_replaceString_45 rfl ?_
  refine x_isub dX3_replaceString_46 ?_
  refine x_put fpX3_49_2 dX3_replaceString_47 hB4.h ⟨rfl, rfl⟩ (by exact Nat.le_of_ble_eq_true rfl) ?_
  refine x_aload_n dX3_replaceString_50 rfl ?_
  refine x_dup dX3_replaceString_51 rfl ?_
  refine x_get fgX3_76_2 dX3_replaceString_52 (Or.inl hB5.h) rfl ?_
  refine x_iconst (v := 1) dX3_replaceString_55 rfl ?_
  refine x_iadd dX3_replaceString_56 ?_
  refine x_put fpX3_76_2 dX3_replaceString_57 hB5.h ⟨rfl, rfl⟩ (by exact Nat.le_of_ble_eq_true rfl) ?_
  refine x_aload_n dX3_replaceString_60 rfl ?_
  refine x_get fgX3_49_2 dX3_replaceString_61 (Or.inl hB6.h) rfl ?_
  exact x_ireturn dX3_replaceString_64 rfl rfl ⟨_, rfl, rfl, _, hB6, s6⟩
theorem c_X3_replaceString_s1 (g : xG) (A : xA) (E τ : Nat → Nat) (σ : Nat → Nat → Nat) (tf : Nat → Nat → Int32) (S Y : Nat → Int32) (hB : HB g E τ σ tf S Y A) (f q : Nat) (hf : f < manyS S) (hq : q < 4) (hl : g.1.stackTraces = false) (hb : hs S f (13 + q) = 0) : xC g iX3_replaceString 15 [.ref (σ 0 0), .int (nI f), .int (nI q)] A (xThG 28 A 2 8) := by
  show xW g _ _ 0 [some (.ref (σ 0 0)), some (.int (nI f)), some (.int (nI q)), none] [] _ _
  refine x_aload_n dX3_replaceString_0 rfl ?_
  refine x_iload_n dX3_replaceString_1 rfl ?_
  refine x_iload_n dX3_replaceString_2 rfl ?_
  refine x_cvV (q := (RX3, TX3, 18)) cvX3_164_X3 dX3_replaceString_3 (Or.inl hB.h) rfl (c_X3_peg g A E τ σ tf S Y hB f q hf hq) rfl ?_
  have hB2 : HB g E (tgU τ A.2.1 0) σ tf S Y (xal A (.inr (4, [.int (nI f), .int (nI q)])) 2) := hB.al
  have s2 : hst τ A (tgU τ A.2.1 0) (xal A (.inr (4, [.int (nI f), .int (nI q)])) 2) 1 2 := hst_al
  refine x_astore_n dX3_replaceString_6 (by decide) rfl ?_
  refine x_aload_n dX3_replaceString_7 rfl ?_
  refine x_get fgX3_168_5 dX3_replaceString_8 (Or.inl (hB2.pA hf hq)) rfl ?_
  refine x_if_eqT (tgt := 25) dX3_replaceString_11 (by decide) hb ?_
  refine x_iconst (v := 0) dX3_replaceString_25 rfl ?_
  exact v_csO csX3_172 dX3_replaceString_26 (c_X1_checkState_G _ _ hl) rfl ⟨_, rfl⟩ (fun o A' h => (h.of s2.1 (fun r hr => xal_ne (Nat.ne_of_lt hr))))
theorem c_X3_replaceString_s2 (g : xG) (A : xA) (E τ : Nat → Nat) (σ : Nat → Nat → Nat) (tf : Nat → Nat → Int32) (S Y : Nat → Int32) (hB : HB g E τ σ tf S Y A) (f q : Nat) (hf : f < manyS S) (hq : q < 4) (hl : g.1.stackTraces = false) (hb : ¬ hs S f (13 + q) = 0) (hc : S 4 ≤ 0) : xC g iX3_replaceString 15 [.ref (σ 0 0), .int (nI f), .int (nI q)] A (xThG 28 A 2 8) := by
  show xW g _ _ 0 [some (.ref (σ 0 0)), some (.int (nI f)), some (.int (nI q)), none] [] _ _
  refine x_aload_n dX3_replaceString_0 rfl ?_
  refine x_iload_n dX3_replaceString_1 rfl ?_
  refine x_iload_n dX3_replaceString_2 rfl ?_
  refine x_cvV (q := (RX3, TX3, 18)) cvX3_164_X3 dX3_replaceString_3 (Or.inl hB.h) rfl (c_X3_peg g A E τ σ tf S Y hB f q hf hq) rfl ?_
  have hB2 : HB g E (tgU τ A.2.1 0) σ tf S Y (xal A (.inr (4, [.int (nI f), .int (nI q)])) 2) := hB.al
  have s2 : hst τ A (tgU τ A.2.1 0) (xal A (.inr (4, [.int (nI f), .int (nI q)])) 2) 1 2 := hst_al
  refine x_astore_n dX3_replaceString_6 (by decide) rfl ?_
  refine x_aload_n dX3_replaceString_7 rfl ?_
  refine x_get fgX3_168_5 dX3_replaceString_8 (Or.inl (hB2.pA hf hq)) rfl ?_
  refine x_if_eqF dX3_replaceString_11 25 (by decide) hb ?_
  refine x_aload_n dX3_replaceString_14 rfl ?_
  refine x_get fgX3_49_2 dX3_replaceString_15 (Or.inl hB2.h) rfl ?_
  refine x_if_leT (tgt := 25) dX3_replaceString_18 (by decide) hc ?_
  refine x_iconst (v := 0) dX3_replaceString_25 rfl ?_
  exact v_csO csX3_172 dX3_replaceString_26 (c_X1_checkState_G _ _ hl) rfl ⟨_, rfl⟩ (fun o A' h => (h.of s2.1 (fun r hr => xal_ne (Nat.ne_of_lt hr))))
theorem c_X3_setTarget (g : xG) (A : xA) (E τ : Nat → Nat) (σ : Nat → Nat → Nat) (tf : Nat → Nat → Int32) (S Y : Nat → Int32) (hB : HB g E τ σ tf S Y A) (x : Int32) (hx : ¬ inI x 0 40 = 0) : xC g iX3_setTarget 5 [.ref (σ 0 0), .int x] A (xRs fun w A' => w = some (.int (S 2)) ∧ HB g E τ σ tf (upd S 2 x) Y A' ∧ hst τ A τ A' 0 0) := by
  show xW g _ _ 0 [some (.ref (σ 0 0)), some (.int x), none] [] _ _
  obtain ⟨mcf, edf, hfl, hflt, -⟩ := hB.fl.l
  obtain ⟨mcr, edr, hrl, hrlt, -⟩ := hB.rl.l
  obtain ⟨hm10, hr10⟩ := hB.le
  refine x_iload_n dX3_setTarget_0 rfl ?_
  refine x_iconst (v := 0) dX3_setTarget_1 rfl ?_
  refine x_bipush (v := 40) dX3_setTarget_2 (by decide) ?_
  refine x_csV csX3_150 dX3_setTarget_4 (c_X1_isIn _ _ _ _ _) rfl ?_
  refine x_csN csX3_256 dX3_setTarget_7 (c_X1_checkArgument_ok _ _ _ hx) rfl ?_
  refine x_aload_n dX3_setTarget_10 rfl ?_
  refine x_get fgX3_43_2 dX3_setTarget_11 (Or.inl hB.h) rfl ?_
  refine x_istore_n dX3_setTarget_14 (by decide) rfl ?_
  refine x_aload_n dX3_setTarget_15 rfl ?_
  refine x_iload_n dX3_setTarget_16 rfl ?_
  refine x_put fpX3_43_2 dX3_setTarget_17 hB.h ⟨rfl, rfl⟩ (by exact Nat.le_of_ble_eq_true rfl) ?_
  refine x_iload_n dX3_setTarget_20 rfl ?_
  exact x_ireturn dX3_setTarget_21 rfl rfl ⟨_, rfl, rfl, hB.uh (S' := upd S 2 x) (fun i hi => upd_ne _ _ (by omega)), hst_up (h_t hB)⟩
theorem c_X3_setTarget_a (g : xG) (A : xA) (E τ : Nat → Nat) (σ : Nat → Nat → Nat) (tf : Nat → Nat → Int32) (S Y : Nat → Int32) (hB : HB g E τ σ tf S Y A) (hl : g.1.stackTraces = false) (x : Int32) (hx : inI x 0 40 = 0) : xC g iX3_setTarget 15 [.ref (σ 0 0), .int x] A (xThG 27 A 1 6) := by
  show xW g _ _ 0 [some (.ref (σ 0 0)), some (.int x), none] [] _ _
  obtain ⟨mcf, edf, hfl, hflt, -⟩ := hB.fl.l
  obtain ⟨mcr, edr, hrl, hrlt, -⟩ := hB.rl.l
  obtain ⟨hm10, hr10⟩ := hB.le
  refine x_iload_n dX3_setTarget_0 rfl ?_
  refine x_iconst (v := 0) dX3_setTarget_1 rfl ?_
  refine x_bipush (v := 40) dX3_setTarget_2 (by decide) ?_
  refine x_csV csX3_150 dX3_setTarget_4 (c_X1_isIn _ _ _ _ _) rfl ?_
  refine x_top hx ?_
  exact v_csO csX3_256 dX3_setTarget_7 (c_X1_checkArgument_G _ _ hl) rfl ⟨_, rfl⟩ (fun _ _ h => h)
