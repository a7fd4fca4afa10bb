set_option maxRecDepth 100000
theorem wn_l {g : xG} {B : xA} {m : Nat} {F : Nat → Int32} {W : Int64} {S : Nat → Int32} {Z : Nat → Nat → Int32} (n : Nat) (hb : F 12 = nI n) (hn : n ≤ 800) : ∀ f k a, f + k = n → xW g iX7_wholeName 2 4 [some (.ref m), some (.int a), some (.int (nI k))] [] (tA B m F W S Z) (xRet (some (.int (wnK (Z 10) f k a))) (tA B m F W S Z)) := by
  intro f
  induction f with
  | zero =>
    intro k a hk
    have e : k = n := by omega
    subst e
    refine x_iload_n dX7_wholeName_4 rfl ?_
    refine x_aload_n dX7_wholeName_5 rfl ?_
    refine t_get fgX7_130_6 dX7_wholeName_6 rfl ?_
    refine x_top hb ?_
    refine x_icmp_geT (tgt := 53) dX7_wholeName_9 (by decide) (nI_le (Nat.le_refl _) (by omega)) ?_
    refine x_iload_n dX7_wholeName_53 rfl ?_
    exact x_ireturn dX7_wholeName_54 rfl (by first | rfl | exact ite_nar | exact itn_nar) ⟨rfl, rfl⟩
  | succ f ih =>
    intro k a hk
    have e1 : wnK (Z 10) (f + 1) k a = if inI (Z 10 k) 97 122 = 0 ∨ k = 6 then 0 else wnK (Z 10) f (k + 1) (32 * a + Z 10 k - 96) := rfl
    rw [e1]
    refine x_iload_n dX7_wholeName_4 rfl ?_
    refine x_aload_n dX7_wholeName_5 rfl ?_
    refine t_get fgX7_130_6 dX7_wholeName_6 rfl ?_
    refine x_top hb ?_
    refine x_icmp_geF dX7_wholeName_9 53 (by decide) (nI_ge (a := k) (b := n) (by omega) (by omega)) ?_
    refine x_aload_n dX7_wholeName_12 rfl ?_
    refine t_get fgX7_42_6 dX7_wholeName_13 rfl ?_
    refine x_iload_n dX7_wholeName_16 rfl ?_
    refine t_aldZ tz10 k dX7_wholeName_17 rfl (by omega) ?_
    refine x_csV csX7_170 dX7_wholeName_18 (c_X7_isSmall _ _ _) rfl ?_
    refine x_if_eq 30 dX7_wholeName_21 (by decide) (fun c21 => ?_) (fun c21 => ?_)
    · rw [if_pos (Or.inl c21)]
      refine x_iconst (v := 0) dX7_wholeName_30 rfl ?_
      exact x_ireturn dX7_wholeName_31 rfl (by first | rfl | exact ite_nar | exact itn_nar) ⟨rfl, rfl⟩
    · have hs := c21
      refine x_iload_n dX7_wholeName_24 rfl ?_
      refine x_bipush (v := 6) dX7_wholeName_25 (by decide) ?_
      refine x_icmp_ne 32 dX7_wholeName_27 (by decide) (fun c27 => ?_) (fun c27 => ?_)
      · have h6 : k ≠ 6 := fun e => c27 (by rw [e]; rfl)
        rw [if_neg (fun e => e.elim hs h6)]
        refine x_bipush (v := 32) dX7_wholeName_32 (by decide) ?_
        refine x_iload_n dX7_wholeName_34 rfl ?_
        refine x_imul dX7_wholeName_35 ?_
        refine x_aload_n dX7_wholeName_36 rfl ?_
        refine t_get fgX7_42_6 dX7_wholeName_37 rfl ?_
        refine x_iload_n dX7_wholeName_40 rfl ?_
        refine t_aldZ tz10 k dX7_wholeName_41 rfl (by omega) ?_
        refine x_iadd dX7_wholeName_42 ?_
        refine x_bipush (v := 96) dX7_wholeName_43 (by decide) ?_
        refine x_isub dX7_wholeName_45 ?_
        refine x_istore_n dX7_wholeName_46 (by decide) rfl ?_
        refine x_iinc (v := nI (k + 1)) dX7_wholeName_47 rfl (nI_1 _) (by decide) rfl ?_
        refine x_goto (tgt := 4) dX7_wholeName_50 (by decide) ?_
        exact ih (k + 1) _ (by omega)
      · have h6 : k = 6 := nI_inj (by omega) (by decide) c27
        rw [if_pos (Or.inr h6)]
        refine x_iconst (v := 0) dX7_wholeName_30 rfl ?_
        exact x_ireturn dX7_wholeName_31 rfl (by first | rfl | exact ite_nar | exact itn_nar) ⟨rfl, rfl⟩
theorem c_X7_wholeName (g : xG) (B : xA) (m : Nat) (F : Nat → Int32) (W : Int64) (S : Nat → Int32) (Z : Nat → Nat → Int32) (n : Nat) (hb : F 12 = nI n) (hn : n ≤ 800) : xC g iX7_wholeName 2 [.ref m] (tA B m F W S Z) (xRet (some (.int (wnK (Z 10) n 0 0))) (tA B m F W S Z)) := by
  show xW g _ _ 0 [some (.ref m), none, none] [] _ _
  refine x_iconst (v := 0) dX7_wholeName_0 rfl ?_
  refine x_istore_n dX7_wholeName_1 (by decide) rfl ?_
  refine x_iconst (v := 0) dX7_wholeName_2 rfl ?_
  refine x_istore_n dX7_wholeName_3 (by decide) rfl ?_
  exact wn_l n hb hn n 0 0 (Nat.add_zero _)
theorem c_X7_findFiddler_0 (g : xG) (B : xA) (m : Nat) (F : Nat → Int32) (W : Int64) (S : Nat → Int32) (Z : Nat → Nat → Int32) (n : Nat) (hb : F 12 = nI n) (hn : n ≤ 800) (hk : tOk S) (h0 : wnK (Z 10) n 0 0 = 0) : xC g iX7_findFiddler 3 [.ref m] (tA B m F W S Z) (xRet (some (.int (-1))) (tA B m (upd F 6 0) W S Z)) := by
  show xW g _ _ 0 [some (.ref m), none] [] _ _
  refine x_aload_n dX7_findFiddler_0 rfl ?_
  refine x_iconst (v := 0) dX7_findFiddler_1 rfl ?_
  refine t_put fpX7_72_6 dX7_findFiddler_2 (by decide) ⟨rfl, rfl⟩ ?_
  refine x_aload_n dX7_findFiddler_5 rfl ?_
  refine t_cvV cvX7_403_X7 dX7_findFiddler_6 (c_X7_wholeName _ _ _ _ _ _ _ n hb hn) rfl ?_
  refine x_istore_n dX7_findFiddler_9 (by decide) rfl ?_
  refine x_iload_n dX7_findFiddler_10 rfl ?_
  refine x_if_neF dX7_findFiddler_11 18 (by decide) h0 ?_
  refine x_iconst (v := (-1)) dX7_findFiddler_14 rfl ?_
  refine x_goto (tgt := 23) dX7_findFiddler_15 (by decide) ?_
  exact x_ireturn dX7_findFiddler_23 rfl (by first | rfl | exact ite_nar | exact itn_nar) ⟨rfl, rfl⟩
theorem c_X7_findFiddler_n (g : xG) (B : xA) (m : Nat) (F : Nat → Int32) (W : Int64) (S : Nat → Int32) (Z : Nat → Nat → Int32) (n : Nat) (hb : F 12 = nI n) (hn : n ≤ 800) (hk : tOk S) (h0 : ¬ wnK (Z 10) n 0 0 = 0) : xC g iX7_findFiddler 3 [.ref m] (tA B m F W S Z) (xRet (some (.int (oI (nmO S (wnK (Z 10) n 0 0))))) (tA B m (upd F 6 0) W S Z)) := by
  show xW g _ _ 0 [some (.ref m), none] [] _ _
  refine x_aload_n dX7_findFiddler_0 rfl ?_
  refine x_iconst (v := 0) dX7_findFiddler_1 rfl ?_
  refine t_put fpX7_72_6 dX7_findFiddler_2 (by decide) ⟨rfl, rfl⟩ ?_
  refine x_aload_n dX7_findFiddler_5 rfl ?_
  refine t_cvV cvX7_403_X7 dX7_findFiddler_6 (c_X7_wholeName _ _ _ _ _ _ _ n hb hn) rfl ?_
  refine x_istore_n dX7_findFiddler_9 (by decide) rfl ?_
  refine x_iload_n dX7_findFiddler_10 rfl ?_
  refine x_if_neT (tgt := 18) dX7_findFiddler_11 (by decide) h0 ?_
  refine x_aload_n dX7_findFiddler_18 rfl ?_
  refine x_iload_n dX7_findFiddler_19 rfl ?_
  refine t_cvV cvX7_218_X7 dX7_findFiddler_20 (c_X7_namedFiddler _ _ _ _ _ _ _ _ hk) rfl ?_
  exact x_ireturn dX7_findFiddler_23 rfl (by first | rfl | exact ite_nar | exact itn_nar) ⟨rfl, rfl⟩
theorem fa_l {g : xG} {B : xA} {m : Nat} {F : Nat → Int32} {W : Int64} {S : Nat → Int32} {Z : Nat → Nat → Int32} {Q : Outcome → xA → Prop} (f k : Nat) (x : Int32) (hf : f < 10) (h4 : k < 4) (kont : xW g iX7_farthest 3 4 [some (.ref m), some (.int (nI f)), some (.int (faK S f k x)), some (.int (nI (k + 1)))] [] (tA B m F W S Z) Q) : xW g iX7_farthest 3 4 [some (.ref m), some (.int (nI f)), some (.int x), some (.int (nI k))] [] (tA B m F W S Z) Q := by
  refine x_iload_n dX7_farthest_4 rfl ?_
  refine x_iconst (v := 4) dX7_farthest_5 rfl ?_
  refine x_icmp_geF dX7_farthest_6 41 (by decide) (nI_ge (a := k) (b := 4) h4 (by omega)) ?_
  refine x_aload_n dX7_farthest_9 rfl ?_
  refine x_iload_n dX7_farthest_10 rfl ?_
  refine x_iload_n dX7_farthest_11 rfl ?_
  refine t_cvV cvX7_85_X7 dX7_farthest_12 (c_X7_isOff _ _ _ _ _ _ _ f k hf h4) rfl ?_
  refine x_if_ne 35 dX7_farthest_15 (by decide) (fun c15 => ?_) (fun c15 => ?_)
  · rw [show faK S f k x = x from if_pos (flI_n.mp c15)] at kont
    refine x_iinc (v := nI (k + 1)) dX7_farthest_35 rfl (nI_1 _) (by decide) rfl ?_
    refine x_goto (tgt := 4) dX7_farthest_38 (by decide) ?_
    exact kont
  · rw [show faK S f k x = _ from if_neg (flI_0.mp c15)] at kont
    refine x_iload_n dX7_farthest_18 rfl ?_
    refine x_aload_n dX7_farthest_19 rfl ?_
    refine x_iload_n dX7_farthest_20 rfl ?_
    refine x_bipush (v := 9) dX7_farthest_21 (by decide) ?_
    refine x_iload_n dX7_farthest_23 rfl ?_
    refine x_iadd dX7_farthest_24 ?_
    refine x_top (y := nI (9 + k)) (nI_add 9 k) ?_
    refine t_cvV cvX7_75_X7 dX7_farthest_25 (c_X7_has _ _ _ _ _ _ _ f (9 + k) hf (by omega)) rfl ?_
    refine x_csV csX7_93 dX7_farthest_28 (c_X7_bare _ _ _) rfl ?_
    refine x_csV csX7_82 dX7_farthest_31 (c_X7_greater _ _ _ _) rfl ?_
    refine x_istore_n dX7_farthest_34 (by decide) rfl ?_
    refine x_iinc (v := nI (k + 1)) dX7_farthest_35 rfl (nI_1 _) (by decide) rfl ?_
    refine x_goto (tgt := 4) dX7_farthest_38 (by decide) ?_
    exact kont
theorem c_X7_farthest (g : xG) (B : xA) (m : Nat) (F : Nat → Int32) (W : Int64) (S : Nat → Int32) (Z : Nat → Nat → Int32) (f : Nat) (hf : f < 10) : xC g iX7_farthest 3 [.ref m, .int (nI f)] (tA B m F W S Z) (xRet (some (.int (faI S f))) (tA B m F W S Z)) := by
  show xW g _ _ 0 [some (.ref m), some (.int (nI f)), none, none] [] _ _
  refine x_iconst (v := (-1)) dX7_farthest_0 rfl ?_
  refine x_istore_n dX7_farthest_1 (by decide) rfl ?_
  refine x_iconst (v := 0) dX7_farthest_2 rfl ?_
  refine x_istore_n dX7_farthest_3 (by decide) rfl ?_
  refine fa_l f 0 (-1) hf (by omega) ?_
  refine fa_l f 1 _ hf (by omega) ?_
  refine fa_l f 2 _ hf (by omega) ?_
  refine fa_l f 3 _ hf (by omega) ?_
  refine x_iload_n dX7_farthest_4 rfl ?_
  refine x_iconst (v := 4) dX7_farthest_5 rfl ?_
  refine x_icmp_geT (tgt := 41) dX7_farthest_6 (by decide) (nI_le (a := 4) (b := 4) (by omega) (by omega)) ?_
  refine x_iload_n dX7_farthest_41 rfl ?_
  exact x_ireturn dX7_farthest_42 rfl (by first | rfl | exact ite_nar | exact itn_nar) ⟨rfl, rfl⟩
def huT (f : Nat) : Nat → (Nat → Int32) → (Nat → Int32)
  | 0, S => S
  | n + 1, S => if 2 < faI S f then S else huT f n (hour1S S)
theorem hu_le (f : Nat) : ∀ n S, huN f n S ≤ n
  | 0, S => Nat.le_refl _
  | n + 1, S => by
    unfold huN
    split
    · omega
    · have := hu_le f n (hour1S S); omega
theorem hu_l {g : xG} {B : xA} {m : Nat} {F : Nat → Int32} {W : Int64} {Z : Nat → Nat → Int32} {Q : Outcome → xA → Prop} (f : Nat) (hf : f < 10) : ∀ r i (S : Nat → Int32), tOk S → r + i = 201 → xW g iX7_hoursUntilOff 7 56 [some (.ref m), some (.int (nI f)), some (.int (nI (i + huN f r S)))] [] (tA B m F W (huT f r S) Z) Q → xW g iX7_hoursUntilOff 7 30 [some (.ref m), some (.int (nI f)), some (.int (nI i))] [] (tA B m F W S Z) Q := by
  intro r
  induction r with
  | zero =>
    intro i S hk hi kont
    have e : i = 201 := by omega
    subst e
    refine x_iload_n dX7_hoursUntilOff_30 rfl ?_
    refine x_sipush (v := 200) dX7_hoursUntilOff_31 (by decide) ?_
    refine x_icmp_gtT (tgt := 56) dX7_hoursUntilOff_34 (by decide) (by decide) ?_
    exact kont
  | succ r ih =>
    intro i S hk hi kont
    have e1 : huN f (r + 1) S = if 2 < faI S f then 0 else 1 + huN f r (hour1S S) := rfl
    have e2 : huT f (r + 1) S = if 2 < faI S f then S else huT f r (hour1S S) := rfl
    rw [e1, e2] at kont
    refine x_iload_n dX7_hoursUntilOff_30 rfl ?_
    refine x_sipush (v := 200) dX7_hoursUntilOff_31 (by decide) ?_
    refine x_icmp_gtF dX7_hoursUntilOff_34 56 (by decide) (nI_nlt (a := 200) (b := i) (by omega) (by omega)) ?_
    refine x_aload_n dX7_hoursUntilOff_37 rfl ?_
    refine x_iload_n dX7_hoursUntilOff_38 rfl ?_
    refine t_cvV cvX7_412_X7 dX7_hoursUntilOff_39 (c_X7_farthest _ _ _ _ _ _ _ f hf) rfl ?_
    refine x_iconst (v := 2) dX7_hoursUntilOff_42 rfl ?_
    refine x_icmp_gt 56 dX7_hoursUntilOff_43 (by decide) (fun c43 => ?_) (fun c43 => ?_)
    · rw [if_pos c43, if_pos c43] at kont
      exact kont
    · rw [if_neg c43, if_neg c43] at kont
      refine x_aload_n dX7_hoursUntilOff_46 rfl ?_
      refine t_cvN cvX7_124_X7 dX7_hoursUntilOff_47 (c_X7_hour1 _ _ _ _ _ _ _ hk) rfl ?_
      refine x_iinc (v := nI (i + 1)) dX7_hoursUntilOff_50 rfl (nI_1 _) (by decide) rfl ?_
      refine x_goto (tgt := 30) dX7_hoursUntilOff_53 (by decide) ?_
      refine ih (i + 1) _ (hour1_ok hk) (by omega) ?_
      rw [show i + 1 + huN f r (hour1S S) = i + (1 + huN f r (hour1S S)) by omega]
      exact kont
theorem c_X7_hoursUntilOff_1 (g : xG) (B : xA) (m : Nat) (F : Nat → Int32) (W : Int64) (S : Nat → Int32) (Z : Nat → Nat → Int32) (x : Int32) (hx : inI x 0 (S 13 - 1) = 0) : xC g iX7_hoursUntilOff 7 [.ref m, .int x] (tA B m F W S Z) (xRet (some (.int 0)) (tA B m (upd F 6 1) W S Z)) := by
  show xW g _ _ 0 [some (.ref m), some (.int x), none] [] _ _
  refine x_aload_n dX7_hoursUntilOff_0 rfl ?_
  refine x_iconst (v := 0) dX7_hoursUntilOff_1 rfl ?_
  refine t_put fpX7_72_6 dX7_hoursUntilOff_2 (by decide) ⟨rfl, rfl⟩ ?_
  refine x_aload_n dX7_hoursUntilOff_5 rfl ?_
  refine x_iload_n dX7_hoursUntilOff_6 rfl ?_
  refine t_cvV cvX7_383_X7 dX7_hoursUntilOff_7 (c_X7_noFiddler_1 _ _ _ _ _ _ _ x rfl hx) rfl ?_
  refine x_if_eqF dX7_hoursUntilOff_10 15 (by decide) (by decide) ?_
  refine x_iconst (v := 0) dX7_hoursUntilOff_13 rfl ?_
  exact x_ireturn dX7_hoursUntilOff_14 rfl (by first | rfl | exact ite_nar | exact itn_nar) ⟨rfl, by rw [upd_upd]⟩
theorem c_X7_hoursUntilOff_no (g : xG) (B : xA) (m : Nat) (F : Nat → Int32) (W : Int64) (S : Nat → Int32) (Z : Nat → Nat → Int32) (f : Nat) (hk : tOk S) (hf : f < manyS S) (hn : huN f 201 S = 201) : xC g iX7_hoursUntilOff 7 [.ref m, .int (nI f)] (tA B m F W S Z) (xRet (some (.int (-1))) (tA B m (upd F 6 0) W (va_cpy (va_cpy S (Z 1) 0 0 280) (huT f 201 S) 0 0 280) (zup Z 1 (va_cpy S (Z 1) 0 0 280)))) := by
  have f10 : f < 10 := by have := hk.1.2; omega
  show xW g _ _ 0 [some (.ref m), some (.int (nI f)), none] [] _ _
  refine x_aload_n dX7_hoursUntilOff_0 rfl ?_
  refine x_iconst (v := 0) dX7_hoursUntilOff_1 rfl ?_
  refine t_put fpX7_72_6 dX7_hoursUntilOff_2 (by decide) ⟨rfl, rfl⟩ ?_
  refine x_aload_n dX7_hoursUntilOff_5 rfl ?_
  refine x_iload_n dX7_hoursUntilOff_6 rfl ?_
  refine t_cvV cvX7_383_X7 dX7_hoursUntilOff_7 (c_X7_noFiddler_0 _ _ _ _ _ _ _ f rfl hk hf) rfl ?_
  refine x_if_eqT (tgt := 15) dX7_hoursUntilOff_10 (by decide) (by decide) ?_
  refine x_aload_n dX7_hoursUntilOff_15 rfl ?_
  refine t_get fgX7_7_6 dX7_hoursUntilOff_16 rfl ?_
  refine x_iconst (v := 0) dX7_hoursUntilOff_19 rfl ?_
  refine x_aload_n dX7_hoursUntilOff_20 rfl ?_
  refine t_get fgX7_13_6 dX7_hoursUntilOff_21 rfl ?_
  refine x_iconst (v := 0) dX7_hoursUntilOff_24 rfl ?_
  refine x_csN csX7_246 dX7_hoursUntilOff_25 (c_cpySZ _ _ _ _ _ _ _ tz1 0 (by decide) (by decide)) rfl ?_
  refine x_iconst (v := 0) dX7_hoursUntilOff_28 rfl ?_
  refine x_istore_n dX7_hoursUntilOff_29 (by decide) rfl ?_
  refine hu_l f f10 201 0 S hk (by omega) ?_
  rw [Nat.zero_add]
  refine x_aload_n dX7_hoursUntilOff_56 rfl ?_
  refine t_get fgX7_13_6 dX7_hoursUntilOff_57 rfl ?_
  refine x_iconst (v := 0) dX7_hoursUntilOff_60 rfl ?_
  refine x_aload_n dX7_hoursUntilOff_61 rfl ?_
  refine t_get fgX7_7_6 dX7_hoursUntilOff_62 rfl ?_
  refine x_iconst (v := 0) dX7_hoursUntilOff_65 rfl ?_
  refine x_csN csX7_246 dX7_hoursUntilOff_66 (c_cpyZS _ _ _ _ _ _ _ tz1 0 (by decide) (by decide)) rfl ?_
  refine x_iload_n dX7_hoursUntilOff_69 rfl ?_
  refine x_sipush (v := 200) dX7_hoursUntilOff_70 (by decide) ?_
  refine x_icmp_leF dX7_hoursUntilOff_73 80 (by decide) (by rw [hn]; decide) ?_
  refine x_iconst (v := (-1)) dX7_hoursUntilOff_76 rfl ?_
  refine x_goto (tgt := 81) dX7_hoursUntilOff_77 (by decide) ?_
  exact x_ireturn dX7_hoursUntilOff_81 rfl (by first | rfl | exact ite_nar | exact itn_nar) ⟨rfl, rfl⟩
theorem c_X7_hoursUntilOff_ok (g : xG) (B : xA) (m : Nat) (F : Nat → Int32) (W : Int64) (S : Nat → Int32) (Z : Nat → Nat → Int32) (f : Nat) (hk : tOk S) (hf : f < manyS S) (hn : huN f 201 S ≤ 200) : xC g iX7_hoursUntilOff 7 [.ref m, .int (nI f)] (tA B m F W S Z) (xRet (some (.int (nI (huN f 201 S)))) (tA B m (upd F 6 0) W (va_cpy (va_cpy S (Z 1) 0 0 280) (huT f 201 S) 0 0 280) (zup Z 1 (va_cpy S (Z 1) 0 0 280)))) := by
  have f10 : f < 10 := by have := hk.1.2; omega
  show xW g _ _ 0 [some (.ref m), some (.int (nI f)), none] [] _ _
  refine x_aload_n dX7_hoursUntilOff_0 rfl ?_
  refine x_iconst (v := 0) dX7_hoursUntilOff_1 rfl ?_
  refine t_put fpX7_72_6 dX7_hoursUntilOff_2 (by decide) ⟨rfl, rfl⟩ ?_
  refine x_aload_n dX7_hoursUntilOff_5 rfl ?_
  refine x_iload_n dX7_hoursUntilOff_6 rfl ?_
  refine t_cvV cvX7_383_X7 dX7_hoursUntilOff_7 (c_X7_noFiddler_0 _ _ _ _ _ _ _ f rfl hk hf) rfl ?_
  refine x_if_eqT (tgt := 15) dX7_hoursUntilOff_10 (by decide) (by decide) ?_
  refine x_aload_n dX7_hoursUntilOff_15 rfl ?_
  refine t_get fgX7_7_6 dX7_hoursUntilOff_16 rfl ?_
  refine x_iconst (v := 0) dX7_hoursUntilOff_19 rfl ?_
  refine x_aload_n dX7_hoursUntilOff_20 rfl ?_
  refine t_get fgX7_13_6 dX7_hoursUntilOff_21 rfl ?_
  refine x_iconst (v := 0) dX7_hoursUntilOff_24 rfl ?_
  refine x_csN csX7_246 dX7_hoursUntilOff_25 (c_cpySZ _ _ _ _ _ _ _ tz1 0 (by decide) (by decide)) rfl ?_
  refine x_iconst (v := 0) dX7_hoursUntilOff_28 rfl ?_
  refine x_istore_n dX7_hoursUntilOff_29 (by decide) rfl ?_
  refine hu_l f f10 201 0 S hk (by omega) ?_
  rw [Nat.zero_add]
  refine x_aload_n dX7_hoursUntilOff_56 rfl ?_
  refine t_get fgX7_13_6 dX7_hoursUntilOff_57 rfl ?_
  refine x_iconst (v := 0) dX7_hoursUntilOff_60 rfl ?_
  refine x_aload_n dX7_hoursUntilOff_61 rfl ?_
  refine t_get fgX7_7_6 dX7_hoursUntilOff_62 rfl ?_
  refine x_iconst (v := 0) dX7_hoursUntilOff_65 rfl ?_
  refine x_csN csX7_246 dX7_hoursUntilOff_66 (c_cpyZS _ _ _ _ _ _ _ tz1 0 (by decide) (by decide)) rfl ?_
  refine x_iload_n dX7_hoursUntilOff_69 rfl ?_
  refine x_sipush (v := 200) dX7_hoursUntilOff_70 (by decide) ?_
  refine x_icmp_leT (tgt := 80) dX7_hoursUntilOff_73 (by decide) (nI_le (b := 200) (by omega) (by decide)) ?_
  refine x_iload_n dX7_hoursUntilOff_80 rfl ?_
  exact x_ireturn dX7_hoursUntilOff_81 rfl (by first | rfl | exact ite_nar | exact itn_nar) ⟨rfl, rfl⟩
