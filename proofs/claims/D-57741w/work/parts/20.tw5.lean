set_option maxRecDepth 100000
theorem c_X7_turnsPeg (g : xG) (B : xA) (m : Nat) (F : Nat → Int32) (W : Int64) (S : Nat → Int32) (Z : Nat → Nat → Int32) (f k : Nat) (c : Int32) (hf : f < 10) (hk : k < 4) : xC g iX7_turnsPeg 4 [.ref m, .int (nI f), .int (nI k), .int c] (tA B m F W S Z) (xRet (some (.int (hs (turnsS S f k c) f (17 + k)))) (tA B m F W (turnsS S f k c) Z)) := by
  show xW g _ _ 0 [some (.ref m), some (.int (nI f)), some (.int (nI k)), some (.int c)] [] _ _
  refine x_aload_n dX7_turnsPeg_0 rfl ?_
  refine x_iload_n dX7_turnsPeg_1 rfl ?_
  refine x_iload_n dX7_turnsPeg_2 rfl ?_
  refine x_iload_n dX7_turnsPeg_3 rfl ?_
  refine t_cvN cvX7_100_X7 dX7_turnsPeg_4 (c_X7_turns _ _ _ _ _ _ _ f k _ (by omega) (by omega)) rfl ?_
  refine x_aload_n dX7_turnsPeg_7 rfl ?_
  refine x_iload_n dX7_turnsPeg_8 rfl ?_
  refine x_bipush (v := 17) dX7_turnsPeg_9 (by decide) ?_
  refine x_iload_n dX7_turnsPeg_11 rfl ?_
  refine x_iadd dX7_turnsPeg_12 ?_
  refine x_top (y := nI (17 + k)) (nI_add 17 k) ?_
  refine t_cvV cvX7_75_X7 dX7_turnsPeg_13 (c_X7_has _ _ _ _ _ _ _ f (17 + k) (by omega) (by omega)) rfl ?_
  exact x_ireturn dX7_turnsPeg_16 rfl rfl ⟨rfl, rfl⟩
theorem c_X7_canChalk (g : xG) (B : xA) (m : Nat) (F : Nat → Int32) (W : Int64) (S : Nat → Int32) (Z : Nat → Nat → Int32) (f k : Nat) (hf : f < 10) (hk : k < 4) : xC g iX7_canChalk 2 [.ref m, .int (nI f), .int (nI k)] (tA B m F W S Z) (xRet (some (.int (flI (hs S f (17 + k) < 9 ∧ 0 < S 3)))) (tA B m F W S Z)) := by
  show xW g _ _ 0 [some (.ref m), some (.int (nI f)), some (.int (nI k))] [] _ _
  refine x_aload_n dX7_canChalk_0 rfl ?_
  refine x_iload_n dX7_canChalk_1 rfl ?_
  refine x_bipush (v := 17) dX7_canChalk_2 (by decide) ?_
  refine x_iload_n dX7_canChalk_4 rfl ?_
  refine x_iadd dX7_canChalk_5 ?_
  refine x_top (y := nI (17 + k)) (nI_add 17 k) ?_
  refine t_cvV cvX7_75_X7 dX7_canChalk_6 (c_X7_has _ _ _ _ _ _ _ f (17 + k) (by omega) (by omega)) rfl ?_
  refine x_bipush (v := 9) dX7_canChalk_9 (by decide) ?_
  refine x_icmp_ge 27 dX7_canChalk_11 (by decide) (fun c11 => ?_) (fun c11 => ?_)
  · refine x_iconst (v := 0) dX7_canChalk_27 rfl ?_
    exact x_ireturn dX7_canChalk_28 rfl rfl ⟨by simp only [flI_0, Decidable.not_not, ← Int32.not_le] at *; simp [flI, *], rfl⟩
  · refine x_aload_n dX7_canChalk_14 rfl ?_
    refine t_get fgX7_7_6 dX7_canChalk_15 rfl ?_
    refine x_iconst (v := 3) dX7_canChalk_18 rfl ?_
    refine t_aldS 3 dX7_canChalk_19 rfl (by decide) ?_
    refine x_if_le 27 dX7_canChalk_20 (by decide) (fun c20 => ?_) (fun c20 => ?_)
    · refine x_iconst (v := 0) dX7_canChalk_27 rfl ?_
      exact x_ireturn dX7_canChalk_28 rfl rfl ⟨by simp only [flI_0, Decidable.not_not, ← Int32.not_le] at *; simp [flI, *], rfl⟩
    · refine x_iconst (v := 1) dX7_canChalk_23 rfl ?_
      refine x_goto (tgt := 28) dX7_canChalk_24 (by decide) ?_
      exact x_ireturn dX7_canChalk_28 rfl rfl ⟨by simp only [flI_0, Decidable.not_not, ← Int32.not_le] at *; simp [flI, *], rfl⟩
theorem c_X7_chalks (g : xG) (B : xA) (m : Nat) (F : Nat → Int32) (W : Int64) (S : Nat → Int32) (Z : Nat → Nat → Int32) (f k : Nat) (hf : f < 10) (hk : k < 4) : xC g iX7_chalks 1 [.ref m, .int (nI f), .int (nI k)] (tA B m F W S Z) (xRet (some (.int (chalkS S f k 3))) (tA B m F W (chalkS S f k) Z)) := by
  show xW g _ _ 0 [some (.ref m), some (.int (nI f)), some (.int (nI k))] [] _ _
  refine x_aload_n dX7_chalks_0 rfl ?_
  refine t_get fgX7_7_6 dX7_chalks_1 rfl ?_
  refine x_iload_n dX7_chalks_4 rfl ?_
  refine x_bipush (v := 17) dX7_chalks_5 (by decide) ?_
  refine x_iload_n dX7_chalks_7 rfl ?_
  refine x_iadd dX7_chalks_8 ?_
  refine x_top (y := nI (17 + k)) (nI_add 17 k) ?_
  refine x_csV csX7_65 dX7_chalks_9 (c_X7_at _ _ f (17 + k)) rfl ?_
  refine x_bipush (v := 9) dX7_chalks_12 (by decide) ?_
  refine t_astS (70 + 21 * f + (17 + k)) dX7_chalks_14 rfl (by omega) ?_
  refine x_aload_n dX7_chalks_15 rfl ?_
  refine t_get fgX7_7_6 dX7_chalks_16 rfl ?_
  refine x_iconst (v := 3) dX7_chalks_19 rfl ?_
  refine x_dup2 dX7_chalks_20 rfl rfl ?_
  refine t_aldS 3 dX7_chalks_21 rfl (by decide) ?_
  refine x_iconst (v := 1) dX7_chalks_22 rfl ?_
  refine x_isub dX7_chalks_23 ?_
  refine t_astS 3 dX7_chalks_24 rfl (by decide) ?_
  refine x_aload_n dX7_chalks_25 rfl ?_
  refine t_get fgX7_7_6 dX7_chalks_26 rfl ?_
  refine x_bipush (v := 7) dX7_chalks_29 (by decide) ?_
  refine x_dup2 dX7_chalks_31 rfl rfl ?_
  refine t_aldS 7 dX7_chalks_32 rfl (by decide) ?_
  refine x_iconst (v := 1) dX7_chalks_33 rfl ?_
  refine x_iadd dX7_chalks_34 ?_
  refine t_astS 7 dX7_chalks_35 rfl (by decide) ?_
  refine x_aload_n dX7_chalks_36 rfl ?_
  refine t_get fgX7_7_6 dX7_chalks_37 rfl ?_
  refine x_iconst (v := 3) dX7_chalks_40 rfl ?_
  refine t_aldS 3 dX7_chalks_41 rfl (by decide) ?_
  exact x_ireturn dX7_chalks_42 rfl rfl ⟨rfl, rfl⟩
theorem c_X7_canReplace (g : xG) (B : xA) (m : Nat) (F : Nat → Int32) (W : Int64) (S : Nat → Int32) (Z : Nat → Nat → Int32) (f k : Nat) (hf : f < 10) (hk : k < 4) : xC g iX7_canReplace 3 [.ref m, .int (nI f), .int (nI k)] (tA B m F W S Z) (xRet (some (.int (flI (hs S f (13 + k) = 1 ∧ 0 < S 4)))) (tA B m F W S Z)) := by
  show xW g _ _ 0 [some (.ref m), some (.int (nI f)), some (.int (nI k))] [] _ _
  refine x_aload_n dX7_canReplace_0 rfl ?_
  refine x_iload_n dX7_canReplace_1 rfl ?_
  refine x_iload_n dX7_canReplace_2 rfl ?_
  refine t_cvV cvX7_85_X7 dX7_canReplace_3 (c_X7_isOff _ _ _ _ _ _ _ f k (by omega) (by omega)) rfl ?_
  refine x_if_eq 22 dX7_canReplace_6 (by decide) (fun c6 => ?_) (fun c6 => ?_)
  · refine x_iconst (v := 0) dX7_canReplace_22 rfl ?_
    exact x_ireturn dX7_canReplace_23 rfl rfl ⟨by simp only [flI_0, Decidable.not_not, ← Int32.not_le] at *; simp [flI, *], rfl⟩
  · refine x_aload_n dX7_canReplace_9 rfl ?_
    refine t_get fgX7_7_6 dX7_canReplace_10 rfl ?_
    refine x_iconst (v := 4) dX7_canReplace_13 rfl ?_
    refine t_aldS 4 dX7_canReplace_14 rfl (by decide) ?_
    refine x_if_le 22 dX7_canReplace_15 (by decide) (fun c15 => ?_) (fun c15 => ?_)
    · refine x_iconst (v := 0) dX7_canReplace_22 rfl ?_
      exact x_ireturn dX7_canReplace_23 rfl rfl ⟨by simp only [flI_0, Decidable.not_not, ← Int32.not_le] at *; simp [flI, *], rfl⟩
    · refine x_iconst (v := 1) dX7_canReplace_18 rfl ?_
      refine x_goto (tgt := 23) dX7_canReplace_19 (by decide) ?_
      exact x_ireturn dX7_canReplace_23 rfl rfl ⟨by simp only [flI_0, Decidable.not_not, ← Int32.not_le] at *; simp [flI, *], rfl⟩
theorem c_X7_replaces (g : xG) (B : xA) (m : Nat) (F : Nat → Int32) (W : Int64) (S : Nat → Int32) (Z : Nat → Nat → Int32) (f k : Nat) (hf : f < 10) (hk : k < 4) : xC g iX7_replaces 1 [.ref m, .int (nI f), .int (nI k)] (tA B m F W S Z) (xRet (some (.int (replS S f k 4))) (tA B m F W (replS S f k) Z)) := by
  show xW g _ _ 0 [some (.ref m), some (.int (nI f)), some (.int (nI k))] [] _ _
  refine x_aload_n dX7_replaces_0 rfl ?_
  refine t_get fgX7_7_6 dX7_replaces_1 rfl ?_
  refine x_iload_n dX7_replaces_4 rfl ?_
  refine x_bipush (v := 13) dX7_replaces_5 (by decide) ?_
  refine x_iload_n dX7_replaces_7 rfl ?_
  refine x_iadd dX7_replaces_8 ?_
  refine x_top (y := nI (13 + k)) (nI_add 13 k) ?_
  refine x_csV csX7_65 dX7_replaces_9 (c_X7_at _ _ f (13 + k)) rfl ?_
  refine x_iconst (v := 0) dX7_replaces_12 rfl ?_
  refine t_astS (70 + 21 * f + (13 + k)) dX7_replaces_13 rfl (by omega) ?_
  refine x_aload_n dX7_replaces_14 rfl ?_
  refine t_get fgX7_7_6 dX7_replaces_15 rfl ?_
  refine x_iload_n dX7_replaces_18 rfl ?_
  refine x_bipush (v := 9) dX7_replaces_19 (by decide) ?_
  refine x_iload_n dX7_replaces_21 rfl ?_
  refine x_iadd dX7_replaces_22 ?_
  refine x_top (y := nI (9 + k)) (nI_add 9 k) ?_
  refine x_csV csX7_65 dX7_replaces_23 (c_X7_at _ _ f (9 + k)) rfl ?_
  refine x_bipush (v := (-120)) dX7_replaces_26 (by decide) ?_
  refine t_astS (70 + 21 * f + (9 + k)) dX7_replaces_28 rfl (by omega) ?_
  refine x_aload_n dX7_replaces_29 rfl ?_
  refine t_get fgX7_7_6 dX7_replaces_30 rfl ?_
  refine x_iconst (v := 4) dX7_replaces_33 rfl ?_
  refine x_dup2 dX7_replaces_34 rfl rfl ?_
  refine t_aldS 4 dX7_replaces_35 rfl (by decide) ?_
  refine x_iconst (v := 1) dX7_replaces_36 rfl ?_
  refine x_isub dX7_replaces_37 ?_
  refine t_astS 4 dX7_replaces_38 rfl (by decide) ?_
  refine x_aload_n dX7_replaces_39 rfl ?_
  refine t_get fgX7_7_6 dX7_replaces_40 rfl ?_
  refine x_bipush (v := 8) dX7_replaces_43 (by decide) ?_
  refine x_dup2 dX7_replaces_45 rfl rfl ?_
  refine t_aldS 8 dX7_replaces_46 rfl (by decide) ?_
  refine x_iconst (v := 1) dX7_replaces_47 rfl ?_
  refine x_iadd dX7_replaces_48 ?_
  refine t_astS 8 dX7_replaces_49 rfl (by decide) ?_
  refine x_aload_n dX7_replaces_50 rfl ?_
  refine t_get fgX7_7_6 dX7_replaces_51 rfl ?_
  refine x_iconst (v := 4) dX7_replaces_54 rfl ?_
  refine t_aldS 4 dX7_replaces_55 rfl (by decide) ?_
  exact x_ireturn dX7_replaces_56 rfl rfl ⟨rfl, rfl⟩
theorem c_X7_canSwap (g : xG) (B : xA) (m : Nat) (F : Nat → Int32) (W : Int64) (S : Nat → Int32) (Z : Nat → Nat → Int32) (x y : Int32) (hk : tOk S) : xC g iX7_canSwap 2 [.ref m, .int x, .int y] (tA B m F W S Z) (xRet (some (.int (flI (plcS S x (rowS S) 0 ≠ none ∧ plcS S y (rowS S) 0 ≠ none)))) (tA B m F W S Z)) := by
  show xW g _ _ 0 [some (.ref m), some (.int x), some (.int y)] [] _ _
  refine x_aload_n dX7_canSwap_0 rfl ?_
  refine x_iload_n dX7_canSwap_1 rfl ?_
  refine t_cvV cvX7_127_X7 dX7_canSwap_2 (c_X7_place _ _ _ _ _ _ _ _ hk) rfl ?_
  refine x_iconst (v := (-1)) dX7_canSwap_5 rfl ?_
  refine x_icmp_eq 22 dX7_canSwap_6 (by decide) (fun c6 => ?_) (fun c6 => ?_)
  · refine x_iconst (v := 0) dX7_canSwap_22 rfl ?_
    exact x_ireturn dX7_canSwap_23 rfl rfl ⟨by simp only [oI_plc hk] at *; simp [flI, *], rfl⟩
  · refine x_aload_n dX7_canSwap_9 rfl ?_
    refine x_iload_n dX7_canSwap_10 rfl ?_
    refine t_cvV cvX7_127_X7 dX7_canSwap_11 (c_X7_place _ _ _ _ _ _ _ _ hk) rfl ?_
    refine x_iconst (v := (-1)) dX7_canSwap_14 rfl ?_
    refine x_icmp_eq 22 dX7_canSwap_15 (by decide) (fun c15 => ?_) (fun c15 => ?_)
    · refine x_iconst (v := 0) dX7_canSwap_22 rfl ?_
      exact x_ireturn dX7_canSwap_23 rfl rfl ⟨by simp only [oI_plc hk] at *; simp [flI, *], rfl⟩
    · refine x_iconst (v := 1) dX7_canSwap_18 rfl ?_
      refine x_goto (tgt := 23) dX7_canSwap_19 (by decide) ?_
      exact x_ireturn dX7_canSwap_23 rfl rfl ⟨by simp only [oI_plc hk] at *; simp [flI, *], rfl⟩
theorem c_X7_swaps (g : xG) (B : xA) (m : Nat) (F : Nat → Int32) (W : Int64) (S : Nat → Int32) (Z : Nat → Nat → Int32) (x y : Int32) (p q : Nat) (hk : tOk S) (hp : plcS S x (rowS S) 0 = some p) (hq : plcS S y (rowS S) 0 = some q) : xC g iX7_swaps 2 [.ref m, .int x, .int y] (tA B m F W S Z) (xRet (some (.int (nI q))) (tA B m F W (swapS S p q x y) Z)) := by
  show xW g _ _ 0 [some (.ref m), some (.int x), some (.int y), none, none] [] _ _
  refine x_aload_n dX7_swaps_0 rfl ?_
  refine x_iload_n dX7_swaps_1 rfl ?_
  refine t_cvV cvX7_127_X7 dX7_swaps_2 (c_X7_place _ _ _ _ _ _ _ _ hk) rfl ?_
  refine x_top (by rw [hp]; rfl : oI (plcS S x (rowS S) 0) = nI p) ?_
  refine x_istore_n dX7_swaps_5 (by decide) rfl ?_
  refine x_aload_n dX7_swaps_6 rfl ?_
  refine x_iload_n dX7_swaps_7 rfl ?_
  refine t_cvV cvX7_127_X7 dX7_swaps_8 (c_X7_place _ _ _ _ _ _ _ _ hk) rfl ?_
  refine x_top (by rw [hq]; rfl : oI (plcS S y (rowS S) 0) = nI q) ?_
  refine x_istore dX7_swaps_11 (by decide) rfl ?_
  refine x_aload_n dX7_swaps_13 rfl ?_
  refine t_get fgX7_7_6 dX7_swaps_14 rfl ?_
  refine x_bipush (v := 20) dX7_swaps_17 (by decide) ?_
  refine x_iload_n dX7_swaps_19 rfl ?_
  refine x_iadd dX7_swaps_20 ?_
  refine x_top (y := nI (20 + p)) (nI_add 20 p) ?_
  refine x_iload_n dX7_swaps_21 rfl ?_
  refine t_astS (20 + p) dX7_swaps_22 rfl (by have := (plc_lt hp).2.1; have := hk.2.1.2; omega) ?_
  refine x_aload_n dX7_swaps_23 rfl ?_
  refine t_get fgX7_7_6 dX7_swaps_24 rfl ?_
  refine x_bipush (v := 20) dX7_swaps_27 (by decide) ?_
  refine x_iload dX7_swaps_29 rfl ?_
  refine x_iadd dX7_swaps_31 ?_
  refine x_top (y := nI (20 + q)) (nI_add 20 q) ?_
  refine x_iload_n dX7_swaps_32 rfl ?_
  refine t_astS (20 + q) dX7_swaps_33 rfl (by have := (plc_lt hq).2.1; have := hk.2.1.2; omega) ?_
  refine x_iload dX7_swaps_34 rfl ?_
  exact x_ireturn dX7_swaps_36 rfl rfl ⟨rfl, rfl⟩
theorem lv_l {g : xG} {B : xA} {m : Nat} {F : Nat → Int32} {W : Int64} {Z : Nat → Nat → Int32} {Q : Outcome → xA → Prop} (x : Int32) (N : Nat) (hN : N ≤ 10) : ∀ n i (T : Nat → Int32), i + n = N - 1 → T 14 = nI N → 1 ≤ N → xW g iX7_leaves 2 6 [some (.ref m), some (.int x), some (.int (nI (N - 1)))] [] (tA B m F W (shS n i T) Z) Q → xW g iX7_leaves 2 6 [some (.ref m), some (.int x), some (.int (nI i))] [] (tA B m F W T Z) Q := by
  intro n
  induction n with
  | zero =>
    intro i T hi h14 h1 kont
    rw [show i = N - 1 by omega]
    exact kont
  | succ n ih =>
    intro i T hi h14 h1 kont
    refine x_iload_n dX7_leaves_6 rfl ?_
    refine x_aload_n dX7_leaves_7 rfl ?_
    refine t_get fgX7_7_6 dX7_leaves_8 rfl ?_
    refine x_bipush (v := 14) dX7_leaves_11 (by decide) ?_
    refine t_aldS 14 dX7_leaves_13 rfl (by decide) ?_
    refine x_top h14 ?_
    refine x_iconst (v := 1) dX7_leaves_14 rfl ?_
    refine x_isub dX7_leaves_15 ?_
    refine x_top (pk_sub (by omega) : nI N - nI 1 = nI (N - 1)) ?_
    refine x_icmp_geF dX7_leaves_16 45 (by decide) (nI_ge (a := i) (b := N - 1) (by omega) (by omega)) ?_
    refine x_aload_n dX7_leaves_19 rfl ?_
    refine t_get fgX7_7_6 dX7_leaves_20 rfl ?_
    refine x_bipush (v := 20) dX7_leaves_23 (by decide) ?_
    refine x_iload_n dX7_leaves_25 rfl ?_
    refine x_iadd dX7_leaves_26 ?_
    refine x_top (y := nI (20 + i)) (nI_add 20 i) ?_
    refine x_aload_n dX7_leaves_27 rfl ?_
    refine t_get fgX7_7_6 dX7_leaves_28 rfl ?_
    refine x_bipush (v := 20) dX7_leaves_31 (by decide) ?_
    refine x_iload_n dX7_leaves_33 rfl ?_
    refine x_iadd dX7_leaves_34 ?_
    refine x_top (y := nI (20 + i)) (nI_add 20 i) ?_
    refine x_iconst (v := 1) dX7_leaves_35 rfl ?_
    refine x_iadd dX7_leaves_36 ?_
    refine x_top (y := nI (20 + i + 1)) (nI_add (20 + i) 1) ?_
    refine t_aldS (20 + i + 1) dX7_leaves_37 rfl (by omega) ?_
    refine t_astS (20 + i) dX7_leaves_38 rfl (by omega) ?_
    refine x_iinc (v := nI (i + 1)) dX7_leaves_39 rfl (nI_1 _) (by decide) rfl ?_
    refine x_goto (tgt := 6) dX7_leaves_42 (by decide) ?_
    exact ih (i + 1) (shK i T) (by omega) ((upd_ne _ _ (by omega)).trans h14) h1 kont
theorem c_X7_leaves (g : xG) (B : xA) (m : Nat) (F : Nat → Int32) (W : Int64) (S : Nat → Int32) (Z : Nat → Nat → Int32) (x : Int32) (p : Nat) (hk : tOk S) (hp : plcS S x (rowS S) 0 = some p) : xC g iX7_leaves 2 [.ref m, .int x] (tA B m F W S Z) (xRet (some (.int (leS S p 14))) (tA B m F W (leS S p) Z)) := by
  have hb := hk.2.1.2
  have hl := (plc_lt hp).2.1
  show xW g _ _ 0 [some (.ref m), some (.int x), none] [] _ _
  refine x_aload_n dX7_leaves_0 rfl ?_
  refine x_iload_n dX7_leaves_1 rfl ?_
  refine t_cvV cvX7_127_X7 dX7_leaves_2 (c_X7_place _ _ _ _ _ _ _ _ hk) rfl ?_
  refine x_top (by rw [hp]; rfl : oI (plcS S x (rowS S) 0) = nI p) ?_
  refine x_istore_n dX7_leaves_5 (by decide) rfl ?_
  refine lv_l x (rowS S) hb (rowS S - 1 - p) p S (by omega) hk.2.1.1 (by omega) ?_
  have e14 : shS (rowS S - 1 - p) p S 14 = nI (rowS S) := (shS_lo _ _ _ (by decide)).trans hk.2.1.1
  refine x_iload_n dX7_leaves_6 rfl ?_
  refine x_aload_n dX7_leaves_7 rfl ?_
  refine t_get fgX7_7_6 dX7_leaves_8 rfl ?_
  refine x_bipush (v := 14) dX7_leaves_11 (by decide) ?_
  refine t_aldS 14 dX7_leaves_13 rfl (by decide) ?_
  refine x_top e14 ?_
  refine x_iconst (v := 1) dX7_leaves_14 rfl ?_
  refine x_isub dX7_leaves_15 ?_
  refine x_top (pk_sub (by omega) : nI (rowS S) - nI 1 = nI (rowS S - 1)) ?_
  refine x_icmp_geT (tgt := 45) dX7_leaves_16 (by decide) (nI_le (Nat.le_refl _) (by omega)) ?_
  refine x_aload_n dX7_leaves_45 rfl ?_
  refine t_get fgX7_7_6 dX7_leaves_46 rfl ?_
  refine x_bipush (v := 14) dX7_leaves_49 (by decide) ?_
  refine x_dup2 dX7_leaves_51 rfl rfl ?_
  refine t_aldS 14 dX7_leaves_52 rfl (by decide) ?_
  refine x_iconst (v := 1) dX7_leaves_53 rfl ?_
  refine x_isub dX7_leaves_54 ?_
  refine t_astS 14 dX7_leaves_55 rfl (by decide) ?_
  refine x_aload_n dX7_leaves_56 rfl ?_
  refine t_get fgX7_7_6 dX7_leaves_57 rfl ?_
  refine x_bipush (v := 14) dX7_leaves_60 (by decide) ?_
  refine t_aldS 14 dX7_leaves_62 rfl (by decide) ?_
  exact x_ireturn dX7_leaves_63 rfl rfl ⟨rfl, rfl⟩
theorem c_X7_joins (g : xG) (B : xA) (m : Nat) (F : Nat → Int32) (W : Int64) (S : Nat → Int32) (Z : Nat → Nat → Int32) (f : Nat) (hk : tOk S) (hr : rowS S < 10) : xC g iX7_joins 0 [.ref m, .int (nI f)] (tA B m F W S Z) (xRet (some (.int (joS S f 14 - 1))) (tA B m F W (joS S f) Z)) := by
  show xW g _ _ 0 [some (.ref m), some (.int (nI f))] [] _ _
  refine x_aload_n dX7_joins_0 rfl ?_
  refine t_get fgX7_7_6 dX7_joins_1 rfl ?_
  refine x_bipush (v := 20) dX7_joins_4 (by decide) ?_
  refine x_aload_n dX7_joins_6 rfl ?_
  refine t_get fgX7_7_6 dX7_joins_7 rfl ?_
  refine x_bipush (v := 14) dX7_joins_10 (by decide) ?_
  refine t_aldS 14 dX7_joins_12 rfl (by decide) ?_
  refine x_top hk.2.1.1 ?_
  refine x_iadd dX7_joins_13 ?_
  refine x_top (y := nI (20 + rowS S)) (nI_add 20 (rowS S)) ?_
  refine x_iload_n dX7_joins_14 rfl ?_
  refine t_astS (20 + rowS S) dX7_joins_15 rfl (by omega) ?_
  refine x_aload_n dX7_joins_16 rfl ?_
  refine t_get fgX7_7_6 dX7_joins_17 rfl ?_
  refine x_bipush (v := 14) dX7_joins_20 (by decide) ?_
  refine x_dup2 dX7_joins_22 rfl rfl ?_
  refine t_aldS 14 dX7_joins_23 rfl (by decide) ?_
  refine x_iconst (v := 1) dX7_joins_24 rfl ?_
  refine x_iadd dX7_joins_25 ?_
  refine t_astS 14 dX7_joins_26 rfl (by decide) ?_
  refine x_aload_n dX7_joins_27 rfl ?_
  refine t_get fgX7_7_6 dX7_joins_28 rfl ?_
  refine x_bipush (v := 14) dX7_joins_31 (by decide) ?_
  refine t_aldS 14 dX7_joins_33 rfl (by decide) ?_
  refine x_iconst (v := 1) dX7_joins_34 rfl ?_
  refine x_isub dX7_joins_35 ?_
  exact x_ireturn dX7_joins_36 rfl rfl ⟨rfl, rfl⟩
theorem c_X7_setsTarget (g : xG) (B : xA) (m : Nat) (F : Nat → Int32) (W : Int64) (S : Nat → Int32) (Z : Nat → Nat → Int32) (x : Int32) : xC g iX7_setsTarget 0 [.ref m, .int x] (tA B m F W S Z) (xRet (some (.int (S 2))) (tA B m F W (upd S 2 x) Z)) := by
  show xW g _ _ 0 [some (.ref m), some (.int x), none] [] _ _
  refine x_aload_n dX7_setsTarget_0 rfl ?_
  refine t_get fgX7_7_6 dX7_setsTarget_1 rfl ?_
  refine x_iconst (v := 2) dX7_setsTarget_4 rfl ?_
  refine t_aldS 2 dX7_setsTarget_5 rfl (by decide) ?_
  refine x_istore_n dX7_setsTarget_6 (by decide) rfl ?_
  refine x_aload_n dX7_setsTarget_7 rfl ?_
  refine t_get fgX7_7_6 dX7_setsTarget_8 rfl ?_
  refine x_iconst (v := 2) dX7_setsTarget_11 rfl ?_
  refine x_iload_n dX7_setsTarget_12 rfl ?_
  refine t_astS 2 dX7_setsTarget_13 rfl (by decide) ?_
  refine x_iload_n dX7_setsTarget_14 rfl ?_
  exact x_ireturn dX7_setsTarget_15 rfl rfl ⟨rfl, rfl⟩
theorem c_X7_comes (g : xG) (B : xA) (m : Nat) (F : Nat → Int32) (W : Int64) (S : Nat → Int32) (Z : Nat → Nat → Int32) (nm pat : Int32) (h13 : S 13 = nI (manyS S)) (h14 : S 14 = nI (rowS S)) (hm : manyS S < 10) (hr : rowS S < 10) : xC g iX7_comes 1 [.ref m, .int nm, .int pat] (tA B m F W S Z) (xRet none (tA B m F W (comesS S nm pat) Z)) := by
  show xW g _ _ 0 [some (.ref m), some (.int nm), some (.int pat), none, none] [] _ _
  refine x_aload_n dX7_comes_0 rfl ?_
  refine t_get fgX7_7_6 dX7_comes_1 rfl ?_
  refine x_bipush (v := 13) dX7_comes_4 (by decide) ?_
  refine t_aldS 13 dX7_comes_6 rfl (by decide) ?_
  refine x_top h13 ?_
  refine x_istore_n dX7_comes_7 (by decide) rfl ?_
  refine x_aload_n dX7_comes_8 rfl ?_
  refine t_get fgX7_7_6 dX7_comes_9 rfl ?_
  refine x_bipush (v := 13) dX7_comes_12 (by decide) ?_
  refine x_dup2 dX7_comes_14 rfl rfl ?_
  refine t_aldS 13 dX7_comes_15 rfl (by decide) ?_
  refine x_iconst (v := 1) dX7_comes_16 rfl ?_
  refine x_iadd dX7_comes_17 ?_
  refine t_astS 13 dX7_comes_18 rfl (by decide) ?_
  refine x_aload_n dX7_comes_19 rfl ?_
  refine t_get fgX7_7_6 dX7_comes_20 rfl ?_
  refine x_iload_n dX7_comes_23 rfl ?_
  refine x_iconst (v := 0) dX7_comes_24 rfl ?_
  refine x_csV csX7_65 dX7_comes_25 (c_X7_at _ _ (manyS S) 0) rfl ?_
  refine x_iload_n dX7_comes_28 rfl ?_
  refine t_astS (70 + 21 * (manyS S) + 0) dX7_comes_29 rfl (by omega) ?_
  refine x_aload_n dX7_comes_30 rfl ?_
  refine t_get fgX7_7_6 dX7_comes_31 rfl ?_
  refine x_iload_n dX7_comes_34 rfl ?_
  refine x_iconst (v := 1) dX7_comes_35 rfl ?_
  refine x_csV csX7_65 dX7_comes_36 (c_X7_at _ _ (manyS S) 1) rfl ?_
  refine x_iload_n dX7_comes_39 rfl ?_
  refine t_astS (70 + 21 * (manyS S) + 1) dX7_comes_40 rfl (by omega) ?_
  refine x_aload_n dX7_comes_41 rfl ?_
  refine t_get fgX7_7_6 dX7_comes_42 rfl ?_
  refine x_iload_n dX7_comes_45 rfl ?_
  refine x_iconst (v := 3) dX7_comes_46 rfl ?_
  refine x_csV csX7_65 dX7_comes_47 (c_X7_at _ _ (manyS S) 3) rfl ?_
  refine x_iconst (v := (-1)) dX7_comes_50 rfl ?_
  refine t_astS (70 + 21 * (manyS S) + 3) dX7_comes_51 rfl (by omega) ?_
  refine x_iconst (v := 0) dX7_comes_52 rfl ?_
  refine x_istore dX7_comes_53 (by decide) rfl ?_
  refine x_iload dX7_comes_55 rfl ?_
  refine x_iconst (v := 4) dX7_comes_57 rfl ?_
  refine x_icmp_geF dX7_comes_58 83 (by decide) (by decide) ?_
  refine x_aload_n dX7_comes_61 rfl ?_
  refine t_get fgX7_7_6 dX7_comes_62 rfl ?_
  refine x_iload_n dX7_comes_65 rfl ?_
  refine x_bipush (v := 17) dX7_comes_66 (by decide) ?_
  refine x_iload dX7_comes_68 rfl ?_
  refine x_iadd dX7_comes_70 ?_
  refine x_top (y := nI (17)) (nI_add 17 0) ?_
  refine x_csV csX7_65 dX7_comes_71 (c_X7_at _ _ (manyS S) 17) rfl ?_
  refine x_bipush (v := 9) dX7_comes_74 (by decide) ?_
  refine t_astS (70 + 21 * (manyS S) + 17) dX7_comes_76 rfl (by omega) ?_
  refine x_iinc (v := nI (1)) dX7_comes_77 rfl (nI_1 _) (by decide) rfl ?_
  refine x_goto (tgt := 55) dX7_comes_80 (by decide) ?_
  refine x_iload dX7_comes_55 rfl ?_
  refine x_iconst (v := 4) dX7_comes_57 rfl ?_
  refine x_icmp_geF dX7_comes_58 83 (by decide) (by decide) ?_
  refine x_aload_n dX7_comes_61 rfl ?_
  refine t_get fgX7_7_6 dX7_comes_62 rfl ?_
  refine x_iload_n dX7_comes_65 rfl ?_
  refine x_bipush (v := 17) dX7_comes_66 (by decide) ?_
  refine x_iload dX7_comes_68 rfl ?_
  refine x_iadd dX7_comes_70 ?_
  refine x_top (y := nI (18)) (nI_add 17 1) ?_
  refine x_csV csX7_65 dX7_comes_71 (c_X7_at _ _ (manyS S) 18) rfl ?_
  refine x_bipush (v := 9) dX7_comes_74 (by decide) ?_
  refine t_astS (70 + 21 * (manyS S) + 18) dX7_comes_76 rfl (by omega) ?_
  refine x_iinc (v := nI (2)) dX7_comes_77 rfl (nI_1 _) (by decide) rfl ?_
  refine x_goto (tgt := 55) dX7_comes_80 (by decide) ?_
  refine x_iload dX7_comes_55 rfl ?_
  refine x_iconst (v := 4) dX7_comes_57 rfl ?_
  refine x_icmp_geF dX7_comes_58 83 (by decide) (by decide) ?_
  refine x_aload_n dX7_comes_61 rfl ?_
  refine t_get fgX7_7_6 dX7_comes_62 rfl ?_
  refine x_iload_n dX7_comes_65 rfl ?_
  refine x_bipush (v := 17) dX7_comes_66 (by decide) ?_
  refine x_iload dX7_comes_68 rfl ?_
  refine x_iadd dX7_comes_70 ?_
  refine x_top (y := nI (19)) (nI_add 17 2) ?_
  refine x_csV csX7_65 dX7_comes_71 (c_X7_at _ _ (manyS S) 19) rfl ?_
  refine x_bipush (v := 9) dX7_comes_74 (by decide) ?_
  refine t_astS (70 + 21 * (manyS S) + 19) dX7_comes_76 rfl (by omega) ?_
  refine x_iinc (v := nI (3)) dX7_comes_77 rfl (nI_1 _) (by decide) rfl ?_
  refine x_goto (tgt := 55) dX7_comes_80 (by decide) ?_
  refine x_iload dX7_comes_55 rfl ?_
  refine x_iconst (v := 4) dX7_comes_57 rfl ?_
  refine x_icmp_geF dX7_comes_58 83 (by decide) (by decide) ?_
  refine x_aload_n dX7_comes_61 rfl ?_
  refine t_get fgX7_7_6 dX7_comes_62 rfl ?_
  refine x_iload_n dX7_comes_65 rfl ?_
  refine x_bipush (v := 17) dX7_comes_66 (by decide) ?_
  refine x_iload dX7_comes_68 rfl ?_
  refine x_iadd dX7_comes_70 ?_
  refine x_top (y := nI (20)) (nI_add 17 3) ?_
  refine x_csV csX7_65 dX7_comes_71 (c_X7_at _ _ (manyS S) 20) rfl ?_
  refine x_bipush (v := 9) dX7_comes_74 (by decide) ?_
  refine t_astS (70 + 21 * (manyS S) + 20) dX7_comes_76 rfl (by omega) ?_
  refine x_iinc (v := nI (4)) dX7_comes_77 rfl (nI_1 _) (by decide) rfl ?_
  refine x_goto (tgt := 55) dX7_comes_80 (by decide) ?_
  refine x_iload dX7_comes_55 rfl ?_
  refine x_iconst (v := 4) dX7_comes_57 rfl ?_
  refine x_icmp_geT (tgt := 83) dX7_comes_58 (by decide) (by decide) ?_
  refine x_aload_n dX7_comes_83 rfl ?_
  refine t_get fgX7_7_6 dX7_comes_84 rfl ?_
  refine x_bipush (v := 20) dX7_comes_87 (by decide) ?_
  refine x_aload_n dX7_comes_89 rfl ?_
  refine t_get fgX7_7_6 dX7_comes_90 rfl ?_
  refine x_bipush (v := 14) dX7_comes_93 (by decide) ?_
  refine t_aldS 14 dX7_comes_95 rfl (by decide) ?_
  refine x_top (y := nI (rowS S)) (by rw [upd_ne _ _ (by omega), upd_ne _ _ (by omega), upd_ne _ _ (by omega), upd_ne _ _ (by omega), upd_ne _ _ (by omega), upd_ne _ _ (by omega), upd_ne _ _ (by omega), upd_ne _ _ (by omega)]; exact h14) ?_
  refine x_iadd dX7_comes_96 ?_
  refine x_top (y := nI (20 + rowS S)) (nI_add 20 (rowS S)) ?_
  refine x_iload_n dX7_comes_97 rfl ?_
  refine t_astS (20 + rowS S) dX7_comes_98 rfl (by omega) ?_
  refine x_aload_n dX7_comes_99 rfl ?_
  refine t_get fgX7_7_6 dX7_comes_100 rfl ?_
  refine x_bipush (v := 14) dX7_comes_103 (by decide) ?_
  refine x_dup2 dX7_comes_105 rfl rfl ?_
  refine t_aldS 14 dX7_comes_106 rfl (by decide) ?_
  refine x_iconst (v := 1) dX7_comes_107 rfl ?_
  refine x_iadd dX7_comes_108 ?_
  refine t_astS 14 dX7_comes_109 rfl (by decide) ?_
  exact x_return dX7_comes_110 rfl ⟨rfl, rfl⟩
theorem c_X7_stores (g : xG) (B : xA) (m : Nat) (F : Nat → Int32) (W : Int64) (S : Nat → Int32) (Z : Nat → Nat → Int32)  : xC g iX7_stores 0 [.ref m] (tA B m F W S Z) (xRet none (tA B m F W (storesS S) Z)) := by
  show xW g _ _ 0 [some (.ref m)] [] _ _
  refine x_aload_n dX7_stores_0 rfl ?_
  refine t_get fgX7_7_6 dX7_stores_1 rfl ?_
  refine x_iconst (v := 5) dX7_stores_4 rfl ?_
  refine x_aload_n dX7_stores_5 rfl ?_
  refine t_get fgX7_7_6 dX7_stores_6 rfl ?_
  refine x_iconst (v := 3) dX7_stores_9 rfl ?_
  refine t_aldS 3 dX7_stores_10 rfl (by decide) ?_
  refine t_astS 5 dX7_stores_11 rfl (by decide) ?_
  refine x_aload_n dX7_stores_12 rfl ?_
  refine t_get fgX7_7_6 dX7_stores_13 rfl ?_
  refine x_bipush (v := 6) dX7_stores_16 (by decide) ?_
  refine x_aload_n dX7_stores_18 rfl ?_
  refine t_get fgX7_7_6 dX7_stores_19 rfl ?_
  refine x_iconst (v := 4) dX7_stores_22 rfl ?_
  refine t_aldS 4 dX7_stores_23 rfl (by decide) ?_
  refine t_astS 6 dX7_stores_24 rfl (by decide) ?_
  exact x_return dX7_stores_25 rfl ⟨rfl, rfl⟩
theorem xup_xup {A : xA} {a : Nat} {e1 e2 : xE} : xup (xup A a e1) a e2 = xup A a e2 := by
  refine Prod.ext (funext fun j => ?_) rfl
  show va_up (va_up A.1 a _) a _ j = va_up A.1 a _ j
  unfold va_up
  split <;> rfl
theorem cp_l {g : xG} {A : xA} {Q : Outcome → xA → Prop} (a b n0 n1 fr to : Nat) (f h : Nat → Int32) (hab : a ≠ b) (ha : xAt g A a (.inl (0, n0, .inl f))) (hb : A.1 b = some (.inl (0, n1, .inl h))) (h0 : fr + 280 ≤ n0) (h1 : to + 280 ≤ n1) (hn0 : n0 < 65536) (hn1 : n1 < 65536)
    (kont : xW g iX7_copies 0 3 [some (.ref a), some (.int (nI fr)), some (.ref b), some (.int (nI to)), some (.int (nI 280))] [] (xup A b (.inl (0, n1, .inl (va_cpy f h fr to 280)))) Q) : ∀ n i, i + n = 280 → xW g iX7_copies 0 3 [some (.ref a), some (.int (nI fr)), some (.ref b), some (.int (nI to)), some (.int (nI i))] [] (xup A b (.inl (0, n1, .inl (va_cpy f h fr to i)))) Q := by
  intro n
  induction n with
  | zero =>
    intro i hi
    rw [show i = 280 by omega]
    exact kont
  | succ n ih =>
    intro i hi
    have haX : xAt g (xup A b (.inl (0, n1, .inl (va_cpy f h fr to i)))) a (.inl (0, n0, .inl f)) := ha.elim (fun e => Or.inl ((xup_ne hab).trans e)) Or.inr
    refine x_iload dX7_copies_3 rfl ?_
    refine x_sipush (v := 280) dX7_copies_5 (by decide) ?_
    refine x_icmp_geF dX7_copies_8 29 (by decide) (nI_ge (a := i) (b := 280) (by omega) (by omega)) ?_
    refine x_aload_n dX7_copies_11 rfl ?_
    refine x_iload_n dX7_copies_12 rfl ?_
    refine x_iload dX7_copies_13 rfl ?_
    refine x_iadd dX7_copies_15 ?_
    refine x_top (nI_add to i) ?_
    refine x_aload_n dX7_copies_16 rfl ?_
    refine x_iload_n dX7_copies_17 rfl ?_
    refine x_iload dX7_copies_18 rfl ?_
    refine x_iadd dX7_copies_20 ?_
    refine x_top (nI_add fr i) ?_
    refine x_iald dX7_copies_21 haX (vp_in_nI (by omega) (by omega)) ?_
    refine x_iast dX7_copies_22 xup_self (vp_in_nI (by omega) (by omega)) ?_
    rw [nI_clamp (by omega), nI_clamp (by omega), xup_xup]
    refine x_iinc (v := nI (i + 1)) dX7_copies_23 rfl (nI_1 _) (by decide) rfl ?_
    refine x_goto (tgt := 3) dX7_copies_26 (by decide) ?_
    have e : upd (va_cpy f h fr to i) (to + i) (f (fr + i)) = va_cpy f h fr to (i + 1) := by
      funext j
      unfold upd va_cpy
      by_cases hj : j = to + i
      · subst hj
        rw [if_pos rfl, if_pos (by omega), show to + i - to = i by omega]
      · rw [if_neg hj]
        by_cases h2 : to ≤ j ∧ j < to + i
        · rw [if_pos h2, if_pos (by omega)]
        · rw [if_neg h2, if_neg (by omega)]
    rw [e]
    exact ih (i + 1) (by omega)
theorem c_X7_copies (g : xG) (A : xA) (a b n0 n1 fr to : Nat) (f h : Nat → Int32) (hab : a ≠ b) (ha : xAt g A a (.inl (0, n0, .inl f))) (hb : A.1 b = some (.inl (0, n1, .inl h))) (h0 : fr + 280 ≤ n0) (h1 : to + 280 ≤ n1) (hn0 : n0 < 65536) (hn1 : n1 < 65536) : xC g iX7_copies 0 [.ref a, .int (nI fr), .ref b, .int (nI to)] A (xRet none (xup A b (.inl (0, n1, .inl (va_cpy f h fr to 280))))) := by
  show xW g _ _ 0 [some (.ref a), some (.int (nI fr)), some (.ref b), some (.int (nI to)), none] [] _ _
  refine x_iconst (v := 0) dX7_copies_0 rfl ?_
  refine x_istore dX7_copies_1 (by decide) rfl ?_
  rw [show A = xup A b (.inl (0, n1, .inl (va_cpy f h fr to 0))) by
    refine Prod.ext (funext fun j => ?_) rfl
    show A.1 j = va_up A.1 b _ j
    by_cases hj : j = b
    · subst hj
      rw [va_up_self, hb]
      congr 2
      · congr 2
        congr 1
        funext q
        unfold va_cpy
        rw [if_neg (by omega)]
    · rw [va_up_ne _ _ hj]]
  rw [show xup (xup A b (.inl (0, n1, .inl (va_cpy f h fr to 0)))) b (.inl (0, n1, .inl (va_cpy f h fr to 280))) = xup A b (.inl (0, n1, .inl (va_cpy f h fr to 280))) from xup_xup]
  refine cp_l a b n0 n1 fr to f h hab ha hb h0 h1 hn0 hn1 ?_ 280 0 (by omega)
  refine x_iload dX7_copies_3 rfl ?_
  refine x_sipush (v := 280) dX7_copies_5 (by decide) ?_
  refine x_icmp_geT (tgt := 29) dX7_copies_8 (by decide) (nI_le (Nat.le_refl _) (by omega)) ?_
  exact x_return dX7_copies_29 rfl ⟨rfl, rfl⟩
