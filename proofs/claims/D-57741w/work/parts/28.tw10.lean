set_option maxRecDepth 100000
theorem so_t {g : xG} {B : xA} {m : Nat} {F : Nat → Int32} {W : Int64} {S : Nat → Int32} {Z : Nat → Nat → Int32} (kind : Int64) (hk : kind = 677454) (a : Option Nat) (k : Nat) (c : Int32) (R : tQ × tH) (hR : R = doX (F, W) (S, Z 8) (soO (S, Z 8) kind a k c)) (ht : tOk S) (h4 : k < 4) (ha : ∀ i, a = some i → i < 10) : xW g iX7_stringOrder 8 28 [some (.ref m), some (.long kind), none, some (.int (oI a)), some (.int (nI k)), some (.int c), none, none] [] (tA B m F W S Z) (xRet none (tA B m R.1.1 R.1.2 R.2.1 (zup Z 8 R.2.2))) := by
  have h1 : lg_cmp kind 677454 = 0 := (lg_cmp_eq _ _).mpr hk
  refine x_aload_n dX7_stringOrder_28 rfl ?_
  refine t_cvV cvX7_287_X7 dX7_stringOrder_29 (c_X7_isActive _ _ _ _ _ _ _ ) rfl ?_
  refine x_if_ne 36 dX7_stringOrder_32 (by decide) (fun c32 => ?_) (fun c32 => ?_)
  · have hac : ¬ acI F = 0 := c32
    refine x_iload_n dX7_stringOrder_36 rfl ?_
    refine x_iconst (v := (-1)) dX7_stringOrder_37 rfl ?_
    refine x_icmp_eq 97 dX7_stringOrder_38 (by decide) (fun c38 => ?_) (fun c38 => ?_)
    · rw [(oI_m ha).mp c38, show soO (S, Z 8) kind none k c = none from rfl, doX_n hac] at hR
      refine x_iconst (v := 0) dX7_stringOrder_97 rfl ?_
      refine x_istore dX7_stringOrder_98 (by decide) rfl ?_
      refine x_iload dX7_stringOrder_100 rfl ?_
      refine x_if_neF dX7_stringOrder_102 109 (by decide) (by decide) ?_
      refine x_iconst (v := (-1)) dX7_stringOrder_105 rfl ?_
      refine x_goto (tgt := 154) dX7_stringOrder_106 (by decide) ?_
      refine x_istore dX7_stringOrder_154 (by decide) rfl ?_
      refine x_aload_n dX7_stringOrder_156 rfl ?_
      refine x_iload dX7_stringOrder_157 rfl ?_
      refine t_cvN cvX7_296_X7 dX7_stringOrder_159 (c_X7_came _ _ _ _ _ _ _ _) rfl ?_
      exact x_return dX7_stringOrder_162 rfl ⟨rfl, by rw [hR] <;> simp only [zup_id]⟩
    · obtain ⟨f, rfl⟩ := oI_y c38
      have hf := ha f rfl
      refine x_lload_n dX7_stringOrder_41 rfl ?_
      refine x_ldc2 (v := 677454) q3767 dX7_stringOrder_42 ?_
      refine x_lcmp dX7_stringOrder_45 ?_
      refine x_if_neF dX7_stringOrder_46 62 (by decide) h1 ?_
      refine x_aload_n dX7_stringOrder_49 rfl ?_
      refine x_iload_n dX7_stringOrder_50 rfl ?_
      refine x_iload dX7_stringOrder_51 rfl ?_
      refine t_cvV cvX7_85_X7 dX7_stringOrder_53 (c_X7_isOff _ _ _ _ _ _ _ f k hf h4) rfl ?_
      refine x_if_ne 97 dX7_stringOrder_56 (by decide) (fun c56 => ?_) (fun c56 => ?_)
      · have hc : hs S f (13 + k) = 1 := flI_n.mp c56
        rw [show soO (S, Z 8) kind (some f) k c = none by unfold soO; simp only [hk, if_true, if_pos hc], doX_n hac] at hR
        refine x_iconst (v := 0) dX7_stringOrder_97 rfl ?_
        refine x_istore dX7_stringOrder_98 (by decide) rfl ?_
        refine x_iload dX7_stringOrder_100 rfl ?_
        refine x_if_neF dX7_stringOrder_102 109 (by decide) (by decide) ?_
        refine x_iconst (v := (-1)) dX7_stringOrder_105 rfl ?_
        refine x_goto (tgt := 154) dX7_stringOrder_106 (by decide) ?_
        refine x_istore dX7_stringOrder_154 (by decide) rfl ?_
        refine x_aload_n dX7_stringOrder_156 rfl ?_
        refine x_iload dX7_stringOrder_157 rfl ?_
        refine t_cvN cvX7_296_X7 dX7_stringOrder_159 (c_X7_came _ _ _ _ _ _ _ _) rfl ?_
        exact x_return dX7_stringOrder_162 rfl ⟨rfl, by rw [hR] <;> simp only [zup_id]⟩
      · have hc : ¬ hs S f (13 + k) = 1 := flI_0.mp c56
        rw [show soO (S, Z 8) kind (some f) k c = some (turnsS S f k c, Z 8) by unfold soO; simp only [hk, if_true, if_neg hc], doX_s hac] at hR
        refine x_goto (tgt := 93) dX7_stringOrder_59 (by decide) ?_
        refine x_iconst (v := 1) dX7_stringOrder_93 rfl ?_
        refine x_goto (tgt := 98) dX7_stringOrder_94 (by decide) ?_
        refine x_istore dX7_stringOrder_98 (by decide) rfl ?_
        refine x_iload dX7_stringOrder_100 rfl ?_
        refine x_if_neT (tgt := 109) dX7_stringOrder_102 (by decide) (by decide) ?_
        refine x_lload_n dX7_stringOrder_109 rfl ?_
        refine x_ldc2 (v := 677454) q3767 dX7_stringOrder_110 ?_
        refine x_lcmp dX7_stringOrder_113 ?_
        refine x_if_neF dX7_stringOrder_114 129 (by decide) h1 ?_
        refine x_aload_n dX7_stringOrder_117 rfl ?_
        refine x_iload_n dX7_stringOrder_118 rfl ?_
        refine x_iload dX7_stringOrder_119 rfl ?_
        refine x_iload dX7_stringOrder_121 rfl ?_
        refine t_cvV cvX7_315_X7 dX7_stringOrder_123 (c_X7_turnsPeg _ _ _ _ _ _ _ f k c hf h4) rfl ?_
        refine x_goto (tgt := 154) dX7_stringOrder_126 (by decide) ?_
        refine x_istore dX7_stringOrder_154 (by decide) rfl ?_
        refine x_aload_n dX7_stringOrder_156 rfl ?_
        refine x_iload dX7_stringOrder_157 rfl ?_
        refine t_cvN cvX7_296_X7 dX7_stringOrder_159 (c_X7_came _ _ _ _ _ _ _ _) rfl ?_
        exact x_return dX7_stringOrder_162 rfl ⟨rfl, by rw [hR] <;> simp only [zup_id]⟩
  · rw [doX_0 c32] at hR
    exact x_return dX7_stringOrder_35 rfl ⟨rfl, by rw [hR] <;> simp only [zup_id]⟩
theorem so_c {g : xG} {B : xA} {m : Nat} {F : Nat → Int32} {W : Int64} {S : Nat → Int32} {Z : Nat → Nat → Int32} (kind : Int64) (hk : kind = 3409291) (a : Option Nat) (k : Nat) (c : Int32) (R : tQ × tH) (hR : R = doX (F, W) (S, Z 8) (soO (S, Z 8) kind a k c)) (ht : tOk S) (h4 : k < 4) (ha : ∀ i, a = some i → i < 10) : xW g iX7_stringOrder 8 28 [some (.ref m), some (.long kind), none, some (.int (oI a)), some (.int (nI k)), some (.int c), none, none] [] (tA B m F W S Z) (xRet none (tA B m R.1.1 R.1.2 R.2.1 (zup Z 8 R.2.2))) := by
  have h1n : ¬ lg_cmp kind 677454 = 0 := fun e => by rw [hk] at e; exact absurd ((lg_cmp_eq _ _).mp e) (by decide)
  have h2 : lg_cmp kind 3409291 = 0 := (lg_cmp_eq _ _).mpr hk
  have hk1 : ¬ kind = 677454 := fun e => by rw [hk] at e; exact absurd e (by decide)
  refine x_aload_n dX7_stringOrder_28 rfl ?_
  refine t_cvV cvX7_287_X7 dX7_stringOrder_29 (c_X7_isActive _ _ _ _ _ _ _ ) rfl ?_
  refine x_if_ne 36 dX7_stringOrder_32 (by decide) (fun c32 => ?_) (fun c32 => ?_)
  · have hac : ¬ acI F = 0 := c32
    refine x_iload_n dX7_stringOrder_36 rfl ?_
    refine x_iconst (v := (-1)) dX7_stringOrder_37 rfl ?_
    refine x_icmp_eq 97 dX7_stringOrder_38 (by decide) (fun c38 => ?_) (fun c38 => ?_)
    · rw [(oI_m ha).mp c38, show soO (S, Z 8) kind none k c = none from rfl, doX_n hac] at hR
      refine x_iconst (v := 0) dX7_stringOrder_97 rfl ?_
      refine x_istore dX7_stringOrder_98 (by decide) rfl ?_
      refine x_iload dX7_stringOrder_100 rfl ?_
      refine x_if_neF dX7_stringOrder_102 109 (by decide) (by decide) ?_
      refine x_iconst (v := (-1)) dX7_stringOrder_105 rfl ?_
      refine x_goto (tgt := 154) dX7_stringOrder_106 (by decide) ?_
      refine x_istore dX7_stringOrder_154 (by decide) rfl ?_
      refine x_aload_n dX7_stringOrder_156 rfl ?_
      refine x_iload dX7_stringOrder_157 rfl ?_
      refine t_cvN cvX7_296_X7 dX7_stringOrder_159 (c_X7_came _ _ _ _ _ _ _ _) rfl ?_
      exact x_return dX7_stringOrder_162 rfl ⟨rfl, by rw [hR] <;> simp only [zup_id]⟩
    · obtain ⟨f, rfl⟩ := oI_y c38
      have hf := ha f rfl
      refine x_lload_n dX7_stringOrder_41 rfl ?_
      refine x_ldc2 (v := 677454) q3767 dX7_stringOrder_42 ?_
      refine x_lcmp dX7_stringOrder_45 ?_
      refine x_if_neT (tgt := 62) dX7_stringOrder_46 (by decide) h1n ?_
      refine x_lload_n dX7_stringOrder_62 rfl ?_
      refine x_ldc2 (v := 3409291) q3768 dX7_stringOrder_63 ?_
      refine x_lcmp dX7_stringOrder_66 ?_
      refine x_if_neF dX7_stringOrder_67 83 (by decide) h2 ?_
      refine x_aload_n dX7_stringOrder_70 rfl ?_
      refine x_iload_n dX7_stringOrder_71 rfl ?_
      refine x_iload dX7_stringOrder_72 rfl ?_
      refine t_cvV cvX7_309_X7 dX7_stringOrder_74 (c_X7_canChalk _ _ _ _ _ _ _ f k hf h4) rfl ?_
      refine x_if_eq 97 dX7_stringOrder_77 (by decide) (fun c77 => ?_) (fun c77 => ?_)
      · have hc := flI_0.mp c77
        rw [show soO (S, Z 8) kind (some f) k c = none by unfold soO; simp only [if_neg hk1, if_pos hk]; exact if_neg hc, doX_n hac] at hR
        refine x_iconst (v := 0) dX7_stringOrder_97 rfl ?_
        refine x_istore dX7_stringOrder_98 (by decide) rfl ?_
        refine x_iload dX7_stringOrder_100 rfl ?_
        refine x_if_neF dX7_stringOrder_102 109 (by decide) (by decide) ?_
        refine x_iconst (v := (-1)) dX7_stringOrder_105 rfl ?_
        refine x_goto (tgt := 154) dX7_stringOrder_106 (by decide) ?_
        refine x_istore dX7_stringOrder_154 (by decide) rfl ?_
        refine x_aload_n dX7_stringOrder_156 rfl ?_
        refine x_iload dX7_stringOrder_157 rfl ?_
        refine t_cvN cvX7_296_X7 dX7_stringOrder_159 (c_X7_came _ _ _ _ _ _ _ _) rfl ?_
        exact x_return dX7_stringOrder_162 rfl ⟨rfl, by rw [hR] <;> simp only [zup_id]⟩
      · have hc := flI_n.mp c77
        rw [show soO (S, Z 8) kind (some f) k c = some (chalkS S f k, Z 8) by unfold soO; simp only [if_neg hk1, if_pos hk]; exact if_pos hc, doX_s hac] at hR
        refine x_goto (tgt := 93) dX7_stringOrder_80 (by decide) ?_
        refine x_iconst (v := 1) dX7_stringOrder_93 rfl ?_
        refine x_goto (tgt := 98) dX7_stringOrder_94 (by decide) ?_
        refine x_istore dX7_stringOrder_98 (by decide) rfl ?_
        refine x_iload dX7_stringOrder_100 rfl ?_
        refine x_if_neT (tgt := 109) dX7_stringOrder_102 (by decide) (by decide) ?_
        refine x_lload_n dX7_stringOrder_109 rfl ?_
        refine x_ldc2 (v := 677454) q3767 dX7_stringOrder_110 ?_
        refine x_lcmp dX7_stringOrder_113 ?_
        refine x_if_neT (tgt := 129) dX7_stringOrder_114 (by decide) h1n ?_
        refine x_lload_n dX7_stringOrder_129 rfl ?_
        refine x_ldc2 (v := 3409291) q3768 dX7_stringOrder_130 ?_
        refine x_lcmp dX7_stringOrder_133 ?_
        refine x_if_neF dX7_stringOrder_134 147 (by decide) h2 ?_
        refine x_aload_n dX7_stringOrder_137 rfl ?_
        refine x_iload_n dX7_stringOrder_138 rfl ?_
        refine x_iload dX7_stringOrder_139 rfl ?_
        refine t_cvV cvX7_318_X7 dX7_stringOrder_141 (c_X7_chalks _ _ _ _ _ _ _ f k hf h4) rfl ?_
        refine x_goto (tgt := 154) dX7_stringOrder_144 (by decide) ?_
        refine x_istore dX7_stringOrder_154 (by decide) rfl ?_
        refine x_aload_n dX7_stringOrder_156 rfl ?_
        refine x_iload dX7_stringOrder_157 rfl ?_
        refine t_cvN cvX7_296_X7 dX7_stringOrder_159 (c_X7_came _ _ _ _ _ _ _ _) rfl ?_
        exact x_return dX7_stringOrder_162 rfl ⟨rfl, by rw [hR] <;> simp only [zup_id]⟩
  · rw [doX_0 c32] at hR
    exact x_return dX7_stringOrder_35 rfl ⟨rfl, by rw [hR] <;> simp only [zup_id]⟩
theorem so_r {g : xG} {B : xA} {m : Nat} {F : Nat → Int32} {W : Int64} {S : Nat → Int32} {Z : Nat → Nat → Int32} (kind : Int64) (hk1 : ¬ kind = 677454) (hk2 : ¬ kind = 3409291) (a : Option Nat) (k : Nat) (c : Int32) (R : tQ × tH) (hR : R = doX (F, W) (S, Z 8) (soO (S, Z 8) kind a k c)) (ht : tOk S) (h4 : k < 4) (ha : ∀ i, a = some i → i < 10) : xW g iX7_stringOrder 8 28 [some (.ref m), some (.long kind), none, some (.int (oI a)), some (.int (nI k)), some (.int c), none, none] [] (tA B m F W S Z) (xRet none (tA B m R.1.1 R.1.2 R.2.1 (zup Z 8 R.2.2))) := by
  have h1n : ¬ lg_cmp kind 677454 = 0 := fun e => hk1 ((lg_cmp_eq _ _).mp e)
  have h2n : ¬ lg_cmp kind 3409291 = 0 := fun e => hk2 ((lg_cmp_eq _ _).mp e)
  refine x_aload_n dX7_stringOrder_28 rfl ?_
  refine t_cvV cvX7_287_X7 dX7_stringOrder_29 (c_X7_isActive _ _ _ _ _ _ _ ) rfl ?_
  refine x_if_ne 36 dX7_stringOrder_32 (by decide) (fun c32 => ?_) (fun c32 => ?_)
  · have hac : ¬ acI F = 0 := c32
    refine x_iload_n dX7_stringOrder_36 rfl ?_
    refine x_iconst (v := (-1)) dX7_stringOrder_37 rfl ?_
    refine x_icmp_eq 97 dX7_stringOrder_38 (by decide) (fun c38 => ?_) (fun c38 => ?_)
    · rw [(oI_m ha).mp c38, show soO (S, Z 8) kind none k c = none from rfl, doX_n hac] at hR
      refine x_iconst (v := 0) dX7_stringOrder_97 rfl ?_
      refine x_istore dX7_stringOrder_98 (by decide) rfl ?_
      refine x_iload dX7_stringOrder_100 rfl ?_
      refine x_if_neF dX7_stringOrder_102 109 (by decide) (by decide) ?_
      refine x_iconst (v := (-1)) dX7_stringOrder_105 rfl ?_
      refine x_goto (tgt := 154) dX7_stringOrder_106 (by decide) ?_
      refine x_istore dX7_stringOrder_154 (by decide) rfl ?_
      refine x_aload_n dX7_stringOrder_156 rfl ?_
      refine x_iload dX7_stringOrder_157 rfl ?_
      refine t_cvN cvX7_296_X7 dX7_stringOrder_159 (c_X7_came _ _ _ _ _ _ _ _) rfl ?_
      exact x_return dX7_stringOrder_162 rfl ⟨rfl, by rw [hR] <;> simp only [zup_id]⟩
    · obtain ⟨f, rfl⟩ := oI_y c38
      have hf := ha f rfl
      refine x_lload_n dX7_stringOrder_41 rfl ?_
      refine x_ldc2 (v := 677454) q3767 dX7_stringOrder_42 ?_
      refine x_lcmp dX7_stringOrder_45 ?_
      refine x_if_neT (tgt := 62) dX7_stringOrder_46 (by decide) h1n ?_
      refine x_lload_n dX7_stringOrder_62 rfl ?_
      refine x_ldc2 (v := 3409291) q3768 dX7_stringOrder_63 ?_
      refine x_lcmp dX7_stringOrder_66 ?_
      refine x_if_neT (tgt := 83) dX7_stringOrder_67 (by decide) h2n ?_
      refine x_aload_n dX7_stringOrder_83 rfl ?_
      refine x_iload_n dX7_stringOrder_84 rfl ?_
      refine x_iload dX7_stringOrder_85 rfl ?_
      refine t_cvV cvX7_312_X7 dX7_stringOrder_87 (c_X7_canReplace _ _ _ _ _ _ _ f k hf h4) rfl ?_
      refine x_if_eq 97 dX7_stringOrder_90 (by decide) (fun c90 => ?_) (fun c90 => ?_)
      · have hc := flI_0.mp c90
        rw [show soO (S, Z 8) kind (some f) k c = none by unfold soO; simp only [if_neg hk1, if_neg hk2]; exact if_neg hc, doX_n hac] at hR
        refine x_iconst (v := 0) dX7_stringOrder_97 rfl ?_
        refine x_istore dX7_stringOrder_98 (by decide) rfl ?_
        refine x_iload dX7_stringOrder_100 rfl ?_
        refine x_if_neF dX7_stringOrder_102 109 (by decide) (by decide) ?_
        refine x_iconst (v := (-1)) dX7_stringOrder_105 rfl ?_
        refine x_goto (tgt := 154) dX7_stringOrder_106 (by decide) ?_
        refine x_istore dX7_stringOrder_154 (by decide) rfl ?_
        refine x_aload_n dX7_stringOrder_156 rfl ?_
        refine x_iload dX7_stringOrder_157 rfl ?_
        refine t_cvN cvX7_296_X7 dX7_stringOrder_159 (c_X7_came _ _ _ _ _ _ _ _) rfl ?_
        exact x_return dX7_stringOrder_162 rfl ⟨rfl, by rw [hR] <;> simp only [zup_id]⟩
      · have hc := flI_n.mp c90
        rw [show soO (S, Z 8) kind (some f) k c = some (replS S f k, Z 8) by unfold soO; simp only [if_neg hk1, if_neg hk2]; exact if_pos hc, doX_s hac] at hR
        refine x_iconst (v := 1) dX7_stringOrder_93 rfl ?_
        refine x_goto (tgt := 98) dX7_stringOrder_94 (by decide) ?_
        refine x_istore dX7_stringOrder_98 (by decide) rfl ?_
        refine x_iload dX7_stringOrder_100 rfl ?_
        refine x_if_neT (tgt := 109) dX7_stringOrder_102 (by decide) (by decide) ?_
        refine x_lload_n dX7_stringOrder_109 rfl ?_
        refine x_ldc2 (v := 677454) q3767 dX7_stringOrder_110 ?_
        refine x_lcmp dX7_stringOrder_113 ?_
        refine x_if_neT (tgt := 129) dX7_stringOrder_114 (by decide) h1n ?_
        refine x_lload_n dX7_stringOrder_129 rfl ?_
        refine x_ldc2 (v := 3409291) q3768 dX7_stringOrder_130 ?_
        refine x_lcmp dX7_stringOrder_133 ?_
        refine x_if_neT (tgt := 147) dX7_stringOrder_134 (by decide) h2n ?_
        refine x_aload_n dX7_stringOrder_147 rfl ?_
        refine x_iload_n dX7_stringOrder_148 rfl ?_
        refine x_iload dX7_stringOrder_149 rfl ?_
        refine t_cvV cvX7_321_X7 dX7_stringOrder_151 (c_X7_replaces _ _ _ _ _ _ _ f k hf h4) rfl ?_
        refine x_istore dX7_stringOrder_154 (by decide) rfl ?_
        refine x_aload_n dX7_stringOrder_156 rfl ?_
        refine x_iload dX7_stringOrder_157 rfl ?_
        refine t_cvN cvX7_296_X7 dX7_stringOrder_159 (c_X7_came _ _ _ _ _ _ _ _) rfl ?_
        exact x_return dX7_stringOrder_162 rfl ⟨rfl, by rw [hR] <;> simp only [zup_id]⟩
  · rw [doX_0 c32] at hR
    exact x_return dX7_stringOrder_35 rfl ⟨rfl, by rw [hR] <;> simp only [zup_id]⟩
theorem so_b {g : xG} {B : xA} {m : Nat} {F : Nat → Int32} {W : Int64} {S : Nat → Int32} {Z : Nat → Nat → Int32} (kind : Int64) (a : Option Nat) (k : Nat) (c : Int32) (R : tQ × tH) (hR : R = doX (F, W) (S, Z 8) (soO (S, Z 8) kind a k c)) (ht : tOk S) (h4 : k < 4) (ha : ∀ i, a = some i → i < 10) : xW g iX7_stringOrder 8 28 [some (.ref m), some (.long kind), none, some (.int (oI a)), some (.int (nI k)), some (.int c), none, none] [] (tA B m F W S Z) (xRet none (tA B m R.1.1 R.1.2 R.2.1 (zup Z 8 R.2.2))) := by
  by_cases h1 : kind = 677454
  · exact so_t kind h1 a k c R hR ht h4 ha
  · by_cases h2 : kind = 3409291
    · exact so_c kind h2 a k c R hR ht h4 ha
    · exact so_r kind h1 h2 a k c R hR ht h4 ha
theorem c_X7_stringOrder (g : xG) (B : xA) (m : Nat) (F : Nat → Int32) (W : Int64) (S : Nat → Int32) (Z : Nat → Nat → Int32) (kind : Int64) (a : Option Nat) (R : tQ × tH) (hR : R = soX (Z 11) kind a (F, W) (S, Z 8)) (h : TI F) (ht : tOk S) (ha : ∀ i, a = some i → i < 10) : xC g iX7_stringOrder 8 [.ref m, .long kind, .int (oI a)] (tA B m F W S Z) (xRet none (tA B m R.1.1 R.1.2 R.2.1 (zup Z 8 R.2.2))) := by
  show xW g iX7_stringOrder 8 0 [some (.ref m), some (.long kind), none, some (.int (oI a)), none, none, none, none] [] (tA B m F W S Z) (xRet none (tA B m R.1.1 R.1.2 R.2.1 (zup Z 8 R.2.2)))
  have hN := sxN_lt (T := Z 11) (q := (F, W))
  have hq : TI (sxT (Z 11) (F, W)).1 := TI_sx h
  unfold soX soT soC at hR
  refine x_aload_n dX7_stringOrder_0 rfl ?_
  refine t_cvV cvX7_306_X7 dX7_stringOrder_1 (c_X7_stringText _ _ _ _ _ _ _  (by apply_rules [TI.j, TI_sc, TI_mu, TI_go, TI_sg, TI_rdF, TI_rd, TI_cm0, TI_cm, TI_nt, TI_swF, TI_swT, TI_sx, TI_soT, TI_woT])) rfl ?_
  change xW g iX7_stringOrder 8 4 _ _ (tA B m (sxT (Z 11) (F, W)).1 (sxT (Z 11) (F, W)).2 S Z) _
  generalize sxT (Z 11) (F, W) = q at hR hq ⊢
  generalize sxN (Z 11) (F, W) = k at hR hN ⊢
  refine x_istore dX7_stringOrder_4 (by decide) rfl ?_
  refine x_lload_n dX7_stringOrder_6 rfl ?_
  refine x_ldc2 (v := 677454) q3767 dX7_stringOrder_7 ?_
  refine x_lcmp dX7_stringOrder_10 ?_
  refine x_if_ne 25 dX7_stringOrder_11 (by decide) (fun c11 => ?_) (fun c11 => ?_)
  · have h1 : ¬ kind = 677454 := fun e => c11 ((lg_cmp_eq _ _).mpr e)
    rw [if_neg h1, if_neg h1] at hR
    refine x_iconst (v := 0) dX7_stringOrder_25 rfl ?_
    refine x_istore dX7_stringOrder_26 (by decide) rfl ?_
    exact so_b kind a k _ R hR ht hN ha
  · have h1 : kind = 677454 := (lg_cmp_eq _ _).mp c11
    rw [if_pos h1, if_pos h1] at hR
    refine x_aload_n dX7_stringOrder_14 rfl ?_
    refine x_iconst (v := 1) dX7_stringOrder_15 rfl ?_
    refine x_sipush (v := 300) dX7_stringOrder_16 (by decide) ?_
    refine t_cvV cvX7_221_X7 dX7_stringOrder_19 (c_X7_centsText _ _ _ _ _ _ _ _ _ (by apply_rules [TI.j, TI_sc, TI_mu, TI_go, TI_sg, TI_rdF, TI_rd, TI_cm0, TI_cm, TI_nt, TI_swF, TI_swT, TI_sx, TI_soT, TI_woT])) rfl ?_
    change xW g iX7_stringOrder 8 22 _ _ (tA B m (cmX (Z 11) 1 300 q).1 (cmX (Z 11) 1 300 q).2 S Z) _
    generalize cmX (Z 11) 1 300 q = q2 at hR ⊢
    refine x_goto (tgt := 26) dX7_stringOrder_22 (by decide) ?_
    refine x_istore dX7_stringOrder_26 (by decide) rfl ?_
    exact so_b kind a k _ R hR ht hN ha
theorem c_X7_nameOrder (g : xG) (B : xA) (m : Nat) (F : Nat → Int32) (W : Int64) (S : Nat → Int32) (Z : Nat → Nat → Int32) (kind : Int64) (R : tQ × tH) (hR : R = noX (Z 11) kind (F, W) (S, Z 8)) (h : TI F) (hk : rOk S) : xC g iX7_nameOrder 9 [.ref m, .long kind] (tA B m F W S Z) (xRet none (tA B m R.1.1 R.1.2 R.2.1 (zup Z 8 R.2.2))) := by
  show xW g iX7_nameOrder 9 0 [some (.ref m), some (.long kind), none, none] [] (tA B m F W S Z) (xRet none (tA B m R.1.1 R.1.2 R.2.1 (zup Z 8 R.2.2)))
  have hq : TI (ntX (Z 11) (F, W)).1 := TI_nt h
  have ht := hk.1
  have ha : ∀ x i, nmO S x = some i → i < manyS S := fun x i hi => nmO_lt hi
  have ha2 : ∀ x i, nmO S x = some i → i < 10 := fun x i hi => by have := nmO_lt hi; have := hk.1.1.2; omega
  unfold noX at hR
  refine x_aload_n dX7_nameOrder_0 rfl ?_
  refine t_cvV cvX7_284_X7 dX7_nameOrder_1 (c_X7_nameText _ _ _ _ _ _ _  (by apply_rules [TI.j, TI_sc, TI_mu, TI_go, TI_sg, TI_rdF, TI_rd, TI_cm0, TI_cm, TI_nt, TI_swF, TI_swT, TI_sx, TI_soT, TI_woT])) rfl ?_
  change xW g iX7_nameOrder 9 4 _ _ (tA B m (ntX (Z 11) (F, W)).1 (ntX (Z 11) (F, W)).2 S Z) _
  generalize ntX (Z 11) (F, W) = q at hR hq ⊢
  generalize ntI (F, W) = n1 at hR ⊢
  refine x_istore_n dX7_nameOrder_4 (by decide) rfl ?_
  refine x_lload_n dX7_nameOrder_5 rfl ?_
  refine x_ldc2 (v := 646192) q3770 dX7_nameOrder_6 ?_
  refine x_lcmp dX7_nameOrder_9 ?_
  refine x_if_ne 21 dX7_nameOrder_10 (by decide) (fun c10 => ?_) (fun c10 => ?_)
  · have h1 : ¬ kind = 646192 := fun e => c10 ((lg_cmp_eq _ _).mpr e)
    rw [if_neg h1] at hR
    refine x_lload_n dX7_nameOrder_21 rfl ?_
    refine x_ldc2 (v := 12748485) q3771 dX7_nameOrder_22 ?_
    refine x_lcmp dX7_nameOrder_25 ?_
    refine x_if_eq 37 dX7_nameOrder_26 (by decide) (fun c26 => ?_) (fun c26 => ?_)
    · have h2 : kind = 12748485 := (lg_cmp_eq _ _).mp c26
      rw [if_pos h2] at hR
      have h2c : lg_cmp kind 12748485 = 0 := c26
      refine x_aload_n dX7_nameOrder_37 rfl ?_
      refine x_aload_n dX7_nameOrder_38 rfl ?_
      refine x_iload_n dX7_nameOrder_39 rfl ?_
      refine t_cvV cvX7_218_X7 dX7_nameOrder_40 (c_X7_namedFiddler _ _ _ _ _ _ _ _ ht) rfl ?_
      refine x_lload_n dX7_nameOrder_43 rfl ?_
      refine x_ldc2 (v := 12748485) q3771 dX7_nameOrder_44 ?_
      refine x_lcmp dX7_nameOrder_47 ?_
      refine x_if_neF dX7_nameOrder_48 55 (by decide) h2c ?_
      refine x_iconst (v := 1) dX7_nameOrder_51 rfl ?_
      refine x_goto (tgt := 56) dX7_nameOrder_52 (by decide) ?_
      refine t_cvN cvX7_327_X7 dX7_nameOrder_56 (c_X7_rowText_1 _ _ _ _ _ _ _ (nmO S n1) R hR hk (ha n1)) rfl ?_
      refine x_goto (tgt := 72) dX7_nameOrder_59 (by decide) ?_
      exact x_return dX7_nameOrder_72 rfl ⟨rfl, rfl⟩
    · have h2 : ¬ kind = 12748485 := fun e => c26 ((lg_cmp_eq _ _).mpr e)
      rw [if_neg h2] at hR
      have h2c : ¬ lg_cmp kind 12748485 = 0 := c26
      refine x_lload_n dX7_nameOrder_29 rfl ?_
      refine x_ldc2 (v := 343342) q3772 dX7_nameOrder_30 ?_
      refine x_lcmp dX7_nameOrder_33 ?_
      refine x_if_ne 62 dX7_nameOrder_34 (by decide) (fun c34 => ?_) (fun c34 => ?_)
      · have h3 : ¬ kind = 343342 := fun e => c34 ((lg_cmp_eq _ _).mpr e)
        rw [if_neg h3] at hR
        refine x_aload_n dX7_nameOrder_62 rfl ?_
        refine x_lload_n dX7_nameOrder_63 rfl ?_
        refine x_aload_n dX7_nameOrder_64 rfl ?_
        refine x_iload_n dX7_nameOrder_65 rfl ?_
        refine t_cvV cvX7_218_X7 dX7_nameOrder_66 (c_X7_namedFiddler _ _ _ _ _ _ _ _ ht) rfl ?_
        refine t_cvN cvX7_331_X7 dX7_nameOrder_69 (c_X7_stringOrder _ _ _ _ _ _ _ kind (nmO S n1) R hR hq ht (ha2 n1)) rfl ?_
        exact x_return dX7_nameOrder_72 rfl ⟨rfl, rfl⟩
      · have h3 : kind = 343342 := (lg_cmp_eq _ _).mp c34
        rw [if_pos h3] at hR
        refine x_aload_n dX7_nameOrder_37 rfl ?_
        refine x_aload_n dX7_nameOrder_38 rfl ?_
        refine x_iload_n dX7_nameOrder_39 rfl ?_
        refine t_cvV cvX7_218_X7 dX7_nameOrder_40 (c_X7_namedFiddler _ _ _ _ _ _ _ _ ht) rfl ?_
        refine x_lload_n dX7_nameOrder_43 rfl ?_
        refine x_ldc2 (v := 12748485) q3771 dX7_nameOrder_44 ?_
        refine x_lcmp dX7_nameOrder_47 ?_
        refine x_if_neT (tgt := 55) dX7_nameOrder_48 (by decide) h2c ?_
        refine x_iconst (v := 0) dX7_nameOrder_55 rfl ?_
        refine t_cvN cvX7_327_X7 dX7_nameOrder_56 (c_X7_rowText_0 _ _ _ _ _ _ _ (nmO S n1) R hR hk (ha n1)) rfl ?_
        refine x_goto (tgt := 72) dX7_nameOrder_59 (by decide) ?_
        exact x_return dX7_nameOrder_72 rfl ⟨rfl, rfl⟩
  · have h1 : kind = 646192 := (lg_cmp_eq _ _).mp c10
    rw [if_pos h1] at hR
    refine x_aload_n dX7_nameOrder_13 rfl ?_
    refine x_iload_n dX7_nameOrder_14 rfl ?_
    refine t_cvN cvX7_324_X7 dX7_nameOrder_15 (c_X7_swapText _ _ _ _ _ _ _ n1 R hR hq ht) rfl ?_
    refine x_goto (tgt := 72) dX7_nameOrder_18 (by decide) ?_
    exact x_return dX7_nameOrder_72 rfl ⟨rfl, rfl⟩
theorem wo_b {g : xG} {B : xA} {m : Nat} {F : Nat → Int32} {W : Int64} {S : Nat → Int32} {Z : Nat → Nat → Int32} (kind : Int64) (v : Int32) (j : Nat) (R : tQ × tH) (hR : R = doX (F, W) (S, Z 8) (woO (S, Z 8) kind v)) (hk : tOk S) (hv : kind = 8902227 → v = nI j ∧ j ≤ 48) : xW g iX7_wholeOrder 9 38 [some (.ref m), some (.long kind), none, some (.int v), none, none] [] (tA B m F W S Z) (xRet none (tA B m R.1.1 R.1.2 R.2.1 (zup Z 8 R.2.2))) := by
  refine x_aload_n dX7_wholeOrder_38 rfl ?_
  refine t_cvV cvX7_287_X7 dX7_wholeOrder_39 (c_X7_isActive _ _ _ _ _ _ _ ) rfl ?_
  refine x_if_eq 127 dX7_wholeOrder_42 (by decide) (fun c42 => ?_) (fun c42 => ?_)
  · rw [doX_0 c42] at hR
    exact x_return dX7_wholeOrder_127 rfl ⟨rfl, by rw [hR] <;> simp only [zup_id]⟩
  · have hac : ¬ acI F = 0 := c42
    refine x_lload_n dX7_wholeOrder_45 rfl ?_
    refine x_ldc2 (v := 8902227) q3775 dX7_wholeOrder_46 ?_
    refine x_lcmp dX7_wholeOrder_49 ?_
    refine x_if_ne 67 dX7_wholeOrder_50 (by decide) (fun c50 => ?_) (fun c50 => ?_)
    · have h2 : ¬ kind = 8902227 := fun e => c50 ((lg_cmp_eq _ _).mpr e)
      have h2c : ¬ lg_cmp kind 8902227 = 0 := c50
      refine x_iconst (v := 1) dX7_wholeOrder_67 rfl ?_
      refine x_goto (tgt := 72) dX7_wholeOrder_68 (by decide) ?_
      refine x_istore dX7_wholeOrder_72 (by decide) rfl ?_
      refine x_iload dX7_wholeOrder_74 rfl ?_
      refine x_if_neT (tgt := 83) dX7_wholeOrder_76 (by decide) (by decide) ?_
      refine x_lload_n dX7_wholeOrder_83 rfl ?_
      refine x_ldc2 (v := 672734388) q3774 dX7_wholeOrder_84 ?_
      refine x_lcmp dX7_wholeOrder_87 ?_
      refine x_if_ne 99 dX7_wholeOrder_88 (by decide) (fun c88 => ?_) (fun c88 => ?_)
      · have h1 : ¬ kind = 672734388 := fun e => c88 ((lg_cmp_eq _ _).mpr e)
        rw [show woO (S, Z 8) kind v = some (roundS S (Z 8)) by unfold woO; rw [if_neg h1, if_neg h2], doX_s hac] at hR
        refine x_lload_n dX7_wholeOrder_99 rfl ?_
        refine x_ldc2 (v := 8902227) q3775 dX7_wholeOrder_100 ?_
        refine x_lcmp dX7_wholeOrder_103 ?_
        refine x_if_neT (tgt := 115) dX7_wholeOrder_104 (by decide) h2c ?_
        refine x_aload_n dX7_wholeOrder_115 rfl ?_
        refine t_cvV cvX7_345_X7 dX7_wholeOrder_116 (c_X7_round _ _ _ _ _ _ _ hk) rfl ?_
        refine x_istore dX7_wholeOrder_119 (by decide) rfl ?_
        refine x_aload_n dX7_wholeOrder_121 rfl ?_
        refine x_iload dX7_wholeOrder_122 rfl ?_
        refine t_cvN cvX7_296_X7 dX7_wholeOrder_124 (c_X7_came _ _ _ _ _ _ _ _) rfl ?_
        exact x_return dX7_wholeOrder_127 rfl ⟨rfl, by rw [hR] <;> simp only [zup_id]⟩
      · have h1 : kind = 672734388 := (lg_cmp_eq _ _).mp c88
        rw [show woO (S, Z 8) kind v = some (upd S 2 v, Z 8) by unfold woO; rw [if_pos h1], doX_s hac] at hR
        refine x_aload_n dX7_wholeOrder_91 rfl ?_
        refine x_iload_n dX7_wholeOrder_92 rfl ?_
        refine t_cvV cvX7_339_X7 dX7_wholeOrder_93 (c_X7_setsTarget _ _ _ _ _ _ _ v) rfl ?_
        refine x_goto (tgt := 119) dX7_wholeOrder_96 (by decide) ?_
        refine x_istore dX7_wholeOrder_119 (by decide) rfl ?_
        refine x_aload_n dX7_wholeOrder_121 rfl ?_
        refine x_iload dX7_wholeOrder_122 rfl ?_
        refine t_cvN cvX7_296_X7 dX7_wholeOrder_124 (c_X7_came _ _ _ _ _ _ _ _) rfl ?_
        exact x_return dX7_wholeOrder_127 rfl ⟨rfl, by rw [hR] <;> simp only [zup_id]⟩
    · have h2 : kind = 8902227 := (lg_cmp_eq _ _).mp c50
      have h2c : lg_cmp kind 8902227 = 0 := c50
      obtain ⟨rfl, hj⟩ := hv h2
      have h1 : ¬ kind = 672734388 := fun e => by rw [h2] at e; exact absurd e (by decide)
      have h1c : ¬ lg_cmp kind 672734388 = 0 := fun e => h1 ((lg_cmp_eq _ _).mp e)
      refine x_aload_n dX7_wholeOrder_53 rfl ?_
      refine t_get fgX7_7_6 dX7_wholeOrder_54 rfl ?_
      refine x_iconst (v := 0) dX7_wholeOrder_57 rfl ?_
      refine t_aldS 0 dX7_wholeOrder_58 rfl (by decide) ?_
      refine x_iload_n dX7_wholeOrder_59 rfl ?_
      refine x_iadd dX7_wholeOrder_60 ?_
      refine x_sipush (v := 9999) dX7_wholeOrder_61 (by decide) ?_
      refine x_icmp_gt 71 dX7_wholeOrder_64 (by decide) (fun c64 => ?_) (fun c64 => ?_)
      · have hn : ¬ S 0 + nI j ≤ 9999 := Int32.not_le.mpr c64
        rw [show woO (S, Z 8) kind (nI j) = none by unfold woO; rw [if_neg h1, if_pos h2]; exact if_neg hn, doX_n hac] at hR
        refine x_iconst (v := 0) dX7_wholeOrder_71 rfl ?_
        refine x_istore dX7_wholeOrder_72 (by decide) rfl ?_
        refine x_iload dX7_wholeOrder_74 rfl ?_
        refine x_if_neF dX7_wholeOrder_76 83 (by decide) (by decide) ?_
        refine x_iconst (v := (-1)) dX7_wholeOrder_79 rfl ?_
        refine x_goto (tgt := 119) dX7_wholeOrder_80 (by decide) ?_
        refine x_istore dX7_wholeOrder_119 (by decide) rfl ?_
        refine x_aload_n dX7_wholeOrder_121 rfl ?_
        refine x_iload dX7_wholeOrder_122 rfl ?_
        refine t_cvN cvX7_296_X7 dX7_wholeOrder_124 (c_X7_came _ _ _ _ _ _ _ _) rfl ?_
        exact x_return dX7_wholeOrder_127 rfl ⟨rfl, by rw [hR] <;> simp only [zup_id]⟩
      · have hn : S 0 + nI j ≤ 9999 := Int32.not_lt.mp c64
        rw [show woO (S, Z 8) kind (nI j) = some (hoursS j S, Z 8) by unfold woO; rw [if_neg h1, if_pos h2, if_pos hn, nI_clamp (by omega)], doX_s hac] at hR
        refine x_iconst (v := 1) dX7_wholeOrder_67 rfl ?_
        refine x_goto (tgt := 72) dX7_wholeOrder_68 (by decide) ?_
        refine x_istore dX7_wholeOrder_72 (by decide) rfl ?_
        refine x_iload dX7_wholeOrder_74 rfl ?_
        refine x_if_neT (tgt := 83) dX7_wholeOrder_76 (by decide) (by decide) ?_
        refine x_lload_n dX7_wholeOrder_83 rfl ?_
        refine x_ldc2 (v := 672734388) q3774 dX7_wholeOrder_84 ?_
        refine x_lcmp dX7_wholeOrder_87 ?_
        refine x_if_neT (tgt := 99) dX7_wholeOrder_88 (by decide) h1c ?_
        refine x_lload_n dX7_wholeOrder_99 rfl ?_
        refine x_ldc2 (v := 8902227) q3775 dX7_wholeOrder_100 ?_
        refine x_lcmp dX7_wholeOrder_103 ?_
        refine x_if_neF dX7_wholeOrder_104 115 (by decide) h2c ?_
        refine x_aload_n dX7_wholeOrder_107 rfl ?_
        refine x_iload_n dX7_wholeOrder_108 rfl ?_
        refine t_cvV cvX7_342_X7 dX7_wholeOrder_109 (c_X7_hours1 _ _ _ _ _ _ _ j hk (by omega)) rfl ?_
        refine x_goto (tgt := 119) dX7_wholeOrder_112 (by decide) ?_
        refine x_istore dX7_wholeOrder_119 (by decide) rfl ?_
        refine x_aload_n dX7_wholeOrder_121 rfl ?_
        refine x_iload dX7_wholeOrder_122 rfl ?_
        refine t_cvN cvX7_296_X7 dX7_wholeOrder_124 (c_X7_came _ _ _ _ _ _ _ _) rfl ?_
        exact x_return dX7_wholeOrder_127 rfl ⟨rfl, by rw [hR] <;> simp only [zup_id]⟩
theorem c_X7_wholeOrder (g : xG) (B : xA) (m : Nat) (F : Nat → Int32) (W : Int64) (S : Nat → Int32) (Z : Nat → Nat → Int32) (kind : Int64) (R : tQ × tH) (hR : R = woX (Z 11) kind (F, W) (S, Z 8)) (h : TI F) (hk : tOk S) : xC g iX7_wholeOrder 9 [.ref m, .long kind] (tA B m F W S Z) (xRet none (tA B m R.1.1 R.1.2 R.2.1 (zup Z 8 R.2.2))) := by
  show xW g iX7_wholeOrder 9 0 [some (.ref m), some (.long kind), none, none, none, none] [] (tA B m F W S Z) (xRet none (tA B m R.1.1 R.1.2 R.2.1 (zup Z 8 R.2.2)))
  have hr := rd_rng (T := Z 11) (lo := 1) (hi := 48) (q := (F, W)) (by decide)
  unfold woX woT woV at hR
  refine x_lload_n dX7_wholeOrder_0 rfl ?_
  refine x_ldc2 (v := 672734388) q3774 dX7_wholeOrder_1 ?_
  refine x_lcmp dX7_wholeOrder_4 ?_
  refine x_if_ne 18 dX7_wholeOrder_5 (by decide) (fun c5 => ?_) (fun c5 => ?_)
  · have h1 : ¬ kind = 672734388 := fun e => c5 ((lg_cmp_eq _ _).mpr e)
    rw [if_neg h1, if_neg h1] at hR
    refine x_lload_n dX7_wholeOrder_18 rfl ?_
    refine x_ldc2 (v := 8902227) q3775 dX7_wholeOrder_19 ?_
    refine x_lcmp dX7_wholeOrder_22 ?_
    refine x_if_ne 36 dX7_wholeOrder_23 (by decide) (fun c23 => ?_) (fun c23 => ?_)
    · have h2 : ¬ kind = 8902227 := fun e => c23 ((lg_cmp_eq _ _).mpr e)
      rw [if_neg h2, if_neg h2] at hR
      have fin := fun v => (fun e => absurd e h2 : kind = 8902227 → v = nI 0 ∧ 0 ≤ 48)
      refine x_iconst (v := 0) dX7_wholeOrder_36 rfl ?_
      refine x_istore_n dX7_wholeOrder_37 (by decide) rfl ?_
      exact wo_b kind _ _ R hR hk (fin _)
    · have h2 : kind = 8902227 := (lg_cmp_eq _ _).mp c23
      rw [if_pos h2, if_pos h2] at hR
      obtain ⟨j, hj, hje⟩ := nI_of2 (n := 48) (M := 48) (by decide) (Int32.not_lt.mpr (Int32.le_trans (by decide : (0 : Int32) ≤ 1) hr.1)) hr.2
      have fin := fun (_ : Int32) => (fun _ => ⟨hje, hj⟩ : kind = 8902227 → rdI (Z 11) 1 48 (F, W) = nI j ∧ j ≤ 48)
      refine x_aload_n dX7_wholeOrder_26 rfl ?_
      refine x_iconst (v := 1) dX7_wholeOrder_27 rfl ?_
      refine x_bipush (v := 48) dX7_wholeOrder_28 (by decide) ?_
      refine t_cvV cvX7_208_X7 dX7_wholeOrder_30 (c_X7_reads _ _ _ _ _ _ _ _ _ (by apply_rules [TI.j, TI_sc, TI_mu, TI_go, TI_sg, TI_rdF, TI_rd, TI_cm0, TI_cm, TI_nt, TI_swF, TI_swT, TI_sx, TI_soT, TI_woT])) rfl ?_
      generalize rdX (Z 11) 1 48 (F, W) = q2 at hR ⊢
      refine x_goto (tgt := 37) dX7_wholeOrder_33 (by decide) ?_
      refine x_istore_n dX7_wholeOrder_37 (by decide) rfl ?_
      exact wo_b kind _ _ R hR hk (fin 0)
  · have h1 : kind = 672734388 := (lg_cmp_eq _ _).mp c5
    rw [if_pos h1, if_pos h1] at hR
    have h2 : ¬ kind = 8902227 := fun e => by rw [h1] at e; exact absurd e (by decide)
    have fin := fun v => (fun e => absurd e h2 : kind = 8902227 → v = nI 0 ∧ 0 ≤ 48)
    refine x_aload_n dX7_wholeOrder_8 rfl ?_
    refine x_iconst (v := 0) dX7_wholeOrder_9 rfl ?_
    refine x_bipush (v := 40) dX7_wholeOrder_10 (by decide) ?_
    refine t_cvV cvX7_208_X7 dX7_wholeOrder_12 (c_X7_reads _ _ _ _ _ _ _ _ _ (by apply_rules [TI.j, TI_sc, TI_mu, TI_go, TI_sg, TI_rdF, TI_rd, TI_cm0, TI_cm, TI_nt, TI_swF, TI_swT, TI_sx, TI_soT, TI_woT])) rfl ?_
    generalize rdX (Z 11) 0 40 (F, W) = q2 at hR ⊢
    refine x_goto (tgt := 37) dX7_wholeOrder_15 (by decide) ?_
    refine x_istore_n dX7_wholeOrder_37 (by decide) rfl ?_
    exact wo_b kind _ _ R hR hk (fin _)
