set_option maxRecDepth 100000
theorem wg_l {g : xG} {B : xA} {m : Nat} {F : Nat → Int32} {W : Int64} {S : Nat → Int32} {Z : Nat → Nat → Int32} {Q : Outcome → xA → Prop} (k : Nat) (hk : tOk S) (h4 : k < 4) (kont : xW g iX7_widestGap 3 126 [some (.ref m), some (.int (nI k)), some (.int (wgS S k (rowS S - 1))), none, none, none] [] (tA B m F W S Z) Q) : ∀ f p, f + p = rowS S - 1 → xW g iX7_widestGap 3 36 [some (.ref m), some (.int (nI k)), some (.int (wgS S k p)), some (.int (nI (p + 1))), none, none] [] (tA B m F W S Z) Q := by
  have hr := hk.2.1.2
  intro f
  induction f with
  | zero =>
    intro p hp
    have e : p = rowS S - 1 := by omega
    subst e
    refine x_iload_n dX7_widestGap_36 rfl ?_
    refine x_aload_n dX7_widestGap_37 rfl ?_
    refine t_get fgX7_7_6 dX7_widestGap_38 rfl ?_
    refine x_bipush (v := 14) dX7_widestGap_41 (by decide) ?_
    refine t_aldS 14 dX7_widestGap_43 rfl (by decide) ?_
    refine x_top hk.2.1.1 ?_
    refine x_icmp_geT (tgt := 126) dX7_widestGap_44 (by decide) (nI_le (by omega) (by omega)) ?_
    refine xW.loc (L' := [some (.ref m), some (.int (nI k)), some (.int (wgS S k (rowS S - 1))), none, none, none]) ⟨rfl, rfl, rfl, trivial⟩ kont
  | succ f ih =>
    intro p hp
    have hp1 := hk.2.2 (p + 1) (by omega)
    have hp0 := hk.2.2 p (by omega)
    have e1 : wgS S k (p + 1) = wgK S k (p + 1) (wgS S k p) := rfl
    have kk := ih (p + 1) (by omega)
    rw [e1] at kk
    generalize wgS S k p = w at kk ⊢
    unfold wgK at kk
    rw [Nat.add_sub_cancel] at kk
    refine x_iload_n dX7_widestGap_36 rfl ?_
    refine x_aload_n dX7_widestGap_37 rfl ?_
    refine t_get fgX7_7_6 dX7_widestGap_38 rfl ?_
    refine x_bipush (v := 14) dX7_widestGap_41 (by decide) ?_
    refine t_aldS 14 dX7_widestGap_43 rfl (by decide) ?_
    refine x_top hk.2.1.1 ?_
    refine x_icmp_geF dX7_widestGap_44 126 (by decide) (nI_ge (by omega) (by omega)) ?_
    refine x_aload_n dX7_widestGap_47 rfl ?_
    refine t_get fgX7_7_6 dX7_widestGap_48 rfl ?_
    refine x_bipush (v := 20) dX7_widestGap_51 (by decide) ?_
    refine x_iload_n dX7_widestGap_53 rfl ?_
    refine x_iadd dX7_widestGap_54 ?_
    refine x_top (y := nI (20 + p + 1)) (nI_add 20 (p + 1)) ?_
    refine t_aldS (20 + p + 1) dX7_widestGap_55 rfl (by omega) ?_
    refine x_top hp1.1 ?_
    refine x_istore dX7_widestGap_56 (by decide) rfl ?_
    refine x_aload_n dX7_widestGap_58 rfl ?_
    refine t_get fgX7_7_6 dX7_widestGap_59 rfl ?_
    refine x_bipush (v := 20) dX7_widestGap_62 (by decide) ?_
    refine x_iload_n dX7_widestGap_64 rfl ?_
    refine x_iadd dX7_widestGap_65 ?_
    refine x_top (y := nI (20 + p + 1)) (nI_add 20 (p + 1)) ?_
    refine x_iconst (v := 1) dX7_widestGap_66 rfl ?_
    refine x_isub dX7_widestGap_67 ?_
    refine x_top (show nI (20 + (p + 1)) - nI 1 = nI (20 + p) by rw [pk_sub (by omega)]; rfl) ?_
    refine t_aldS (20 + p) dX7_widestGap_68 rfl (by omega) ?_
    refine x_top hp0.1 ?_
    refine x_istore dX7_widestGap_69 (by decide) rfl ?_
    refine x_aload_n dX7_widestGap_71 rfl ?_
    refine x_iload dX7_widestGap_72 rfl ?_
    refine x_iload_n dX7_widestGap_74 rfl ?_
    refine t_cvV cvX7_85_X7 dX7_widestGap_75 (c_X7_isOff _ _ _ _ _ _ _ (plS S (p + 1)) k hp1.2 h4) rfl ?_
    refine x_if_ne 120 dX7_widestGap_78 (by decide) (fun c78 => ?_) (fun c78 => ?_)
    · rw [if_pos (Or.inl (flI_n.mp c78))] at kk
      refine x_iinc (v := nI (p + 1 + 1)) dX7_widestGap_120 rfl (nI_1 _) (by decide) rfl ?_
      refine x_goto (tgt := 36) dX7_widestGap_123 (by decide) ?_
      refine xW.loc (L' := [some (.ref m), some (.int (nI k)), some (.int _), some (.int (nI (p + 1 + 1))), none, none]) ⟨rfl, rfl, rfl, rfl, trivial⟩ ?_
      exact kk
    · have n1 := flI_0.mp c78
      refine x_aload_n dX7_widestGap_81 rfl ?_
      refine x_iload dX7_widestGap_82 rfl ?_
      refine x_iload_n dX7_widestGap_84 rfl ?_
      refine t_cvV cvX7_85_X7 dX7_widestGap_85 (c_X7_isOff _ _ _ _ _ _ _ (plS S p) k hp0.2 h4) rfl ?_
      refine x_if_ne 120 dX7_widestGap_88 (by decide) (fun c88 => ?_) (fun c88 => ?_)
      · rw [if_pos (Or.inr (flI_n.mp c88))] at kk
        refine x_iinc (v := nI (p + 1 + 1)) dX7_widestGap_120 rfl (nI_1 _) (by decide) rfl ?_
        refine x_goto (tgt := 36) dX7_widestGap_123 (by decide) ?_
        refine xW.loc (L' := [some (.ref m), some (.int (nI k)), some (.int _), some (.int (nI (p + 1 + 1))), none, none]) ⟨rfl, rfl, rfl, rfl, trivial⟩ ?_
        exact kk
      · rw [if_neg (fun e => e.elim n1 (flI_0.mp c88))] at kk
        refine x_iload_n dX7_widestGap_91 rfl ?_
        refine x_aload_n dX7_widestGap_92 rfl ?_
        refine x_iload dX7_widestGap_93 rfl ?_
        refine x_bipush (v := 9) dX7_widestGap_95 (by decide) ?_
        refine x_iload_n dX7_widestGap_97 rfl ?_
        refine x_iadd dX7_widestGap_98 ?_
        refine x_top (y := nI (9 + k)) (nI_add 9 k) ?_
        refine t_cvV cvX7_75_X7 dX7_widestGap_99 (c_X7_has _ _ _ _ _ _ _ (plS S (p + 1)) (9 + k) hp1.2 (by omega)) rfl ?_
        refine x_aload_n dX7_widestGap_102 rfl ?_
        refine x_iload dX7_widestGap_103 rfl ?_
        refine x_bipush (v := 9) dX7_widestGap_105 (by decide) ?_
        refine x_iload_n dX7_widestGap_107 rfl ?_
        refine x_iadd dX7_widestGap_108 ?_
        refine x_top (y := nI (9 + k)) (nI_add 9 k) ?_
        refine t_cvV cvX7_75_X7 dX7_widestGap_109 (c_X7_has _ _ _ _ _ _ _ (plS S p) (9 + k) hp0.2 (by omega)) rfl ?_
        refine x_isub dX7_widestGap_112 ?_
        refine x_csV csX7_93 dX7_widestGap_113 (c_X7_bare _ _ _) rfl ?_
        refine x_csV csX7_82 dX7_widestGap_116 (c_X7_greater _ _ _ _) rfl ?_
        refine x_istore_n dX7_widestGap_119 (by decide) rfl ?_
        refine x_iinc (v := nI (p + 1 + 1)) dX7_widestGap_120 rfl (nI_1 _) (by decide) rfl ?_
        refine x_goto (tgt := 36) dX7_widestGap_123 (by decide) ?_
        refine xW.loc (L' := [some (.ref m), some (.int (nI k)), some (.int _), some (.int (nI (p + 1 + 1))), none, none]) ⟨rfl, rfl, rfl, rfl, trivial⟩ ?_
        exact kk
theorem c_X7_widestGap_1 (g : xG) (B : xA) (m : Nat) (F : Nat → Int32) (W : Int64) (S : Nat → Int32) (Z : Nat → Nat → Int32) (x : Int32) (hx : inI x 0 3 = 0) : xC g iX7_widestGap 3 [.ref m, .int x] (tA B m F W S Z) (xRet (some (.int 0)) (tA B m (upd F 6 1) W S Z)) := by
  show xW g _ _ 0 [some (.ref m), some (.int x), none, none, none, none] [] _ _
  refine x_aload_n dX7_widestGap_0 rfl ?_
  refine x_iconst (v := 0) dX7_widestGap_1 rfl ?_
  refine t_put fpX7_72_6 dX7_widestGap_2 (by decide) ⟨rfl, rfl⟩ ?_
  refine x_aload_n dX7_widestGap_5 rfl ?_
  refine x_iload_n dX7_widestGap_6 rfl ?_
  refine x_i2l dX7_widestGap_7 ?_
  refine x_lconst (v := 0) dX7_widestGap_8 rfl ?_
  refine x_ldc2 (v := 3) q3949 dX7_widestGap_9 ?_
  refine x_csV csX7_144 dX7_widestGap_12 (ci_0 _ _ x 0 3 _ _ _ rfl rfl rfl hx) rfl ?_
  refine x_if_neF dX7_widestGap_15 22 (by decide) (by decide) ?_
  refine x_iconst (v := 1) dX7_widestGap_18 rfl ?_
  refine x_goto (tgt := 23) dX7_widestGap_19 (by decide) ?_
  refine x_iconst (v := 1) dX7_widestGap_23 rfl ?_
  refine t_cvV cvX7_136_X7 dX7_widestGap_24 (st_1 _ _ _ _ _ _ _ _ (by decide) rfl) rfl ?_
  refine x_if_eqF dX7_widestGap_27 32 (by decide) (by decide) ?_
  refine x_iconst (v := 0) dX7_widestGap_30 rfl ?_
  exact x_ireturn dX7_widestGap_31 rfl (by first | rfl | exact ite_nar | exact itn_nar) ⟨rfl, by rw [upd_upd]⟩
theorem c_X7_widestGap_ok (g : xG) (B : xA) (m : Nat) (F : Nat → Int32) (W : Int64) (S : Nat → Int32) (Z : Nat → Nat → Int32) (k : Nat) (hk : tOk S) (h4 : k < 4) : xC g iX7_widestGap 3 [.ref m, .int (nI k)] (tA B m F W S Z) (xRet (some (.int (wgS S k (rowS S - 1)))) (tA B m (upd F 6 0) W S Z)) := by
  show xW g _ _ 0 [some (.ref m), some (.int (nI k)), none, none, none, none] [] _ _
  refine x_aload_n dX7_widestGap_0 rfl ?_
  refine x_iconst (v := 0) dX7_widestGap_1 rfl ?_
  refine t_put fpX7_72_6 dX7_widestGap_2 (by decide) ⟨rfl, rfl⟩ ?_
  refine x_aload_n dX7_widestGap_5 rfl ?_
  refine x_iload_n dX7_widestGap_6 rfl ?_
  refine x_i2l dX7_widestGap_7 ?_
  refine x_lconst (v := 0) dX7_widestGap_8 rfl ?_
  refine x_ldc2 (v := 3) q3949 dX7_widestGap_9 ?_
  refine x_csV csX7_144 dX7_widestGap_12 (ci_1 _ _ (nI k) 0 3 _ _ _ rfl rfl rfl (in_k h4)) rfl ?_
  refine x_if_neT (tgt := 22) dX7_widestGap_15 (by decide) (by decide) ?_
  refine x_iconst (v := 0) dX7_widestGap_22 rfl ?_
  refine x_iconst (v := 1) dX7_widestGap_23 rfl ?_
  refine t_cvV cvX7_136_X7 dX7_widestGap_24 (st_0 _ _ _ _ _ _ _ _ (by decide) rfl) rfl ?_
  refine x_if_eqT (tgt := 32) dX7_widestGap_27 (by decide) (by decide) ?_
  refine x_iconst (v := 0) dX7_widestGap_32 rfl ?_
  refine x_istore_n dX7_widestGap_33 (by decide) rfl ?_
  refine x_iconst (v := 1) dX7_widestGap_34 rfl ?_
  refine x_istore_n dX7_widestGap_35 (by decide) rfl ?_
  refine xW.loc (L' := [some (.ref m), some (.int (nI k)), some (.int (wgS S k 0)), some (.int (nI (0 + 1))), none, none]) ⟨rfl, rfl, rfl, rfl, trivial⟩ ?_
  refine wg_l k hk h4 ?_ (rowS S - 1) 0 (Nat.add_zero _)
  refine x_iload_n dX7_widestGap_126 rfl ?_
  exact x_ireturn dX7_widestGap_127 rfl (by first | rfl | exact ite_nar | exact itn_nar) ⟨rfl, rfl⟩
theorem wf_l {g : xG} {B : xA} {m : Nat} {F : Nat → Int32} {W : Int64} {S : Nat → Int32} {Z : Nat → Nat → Int32} {Q : Outcome → xA → Prop} (hk : tOk S) (kont : xW g iX7_worstFiddler 4 62 [some (.ref m), some (.int (wfS S (rowS S)).1), some (.int (wfS S (rowS S)).2), none, none] [] (tA B m F W S Z) Q) : ∀ f p, f + p = rowS S → xW g iX7_worstFiddler 4 11 [some (.ref m), some (.int (wfS S p).1), some (.int (wfS S p).2), some (.int (nI p)), none] [] (tA B m F W S Z) Q := by
  have hr := hk.2.1.2
  intro f
  induction f with
  | zero =>
    intro p hp
    have e : p = rowS S := by omega
    subst e
    refine x_iload_n dX7_worstFiddler_11 rfl ?_
    refine x_aload_n dX7_worstFiddler_12 rfl ?_
    refine t_get fgX7_7_6 dX7_worstFiddler_13 rfl ?_
    refine x_bipush (v := 14) dX7_worstFiddler_16 (by decide) ?_
    refine t_aldS 14 dX7_worstFiddler_18 rfl (by decide) ?_
    refine x_top hk.2.1.1 ?_
    refine x_icmp_geT (tgt := 62) dX7_worstFiddler_19 (by decide) (nI_le (Nat.le_refl _) (by omega)) ?_
    exact xW.loc (L' := [some (.ref m), some (.int (wfS S (rowS S)).1), some (.int (wfS S (rowS S)).2), none, none]) ⟨rfl, rfl, rfl, trivial⟩ kont
  | succ f ih =>
    intro p hp
    have hp0 := hk.2.2 p (by omega)
    have e1 : wfS S (p + 1) = wfK S p (wfS S p) := rfl
    have kk := ih (p + 1) (by omega)
    rw [e1] at kk
    generalize wfS S p = w at kk ⊢
    refine x_iload_n dX7_worstFiddler_11 rfl ?_
    refine x_aload_n dX7_worstFiddler_12 rfl ?_
    refine t_get fgX7_7_6 dX7_worstFiddler_13 rfl ?_
    refine x_bipush (v := 14) dX7_worstFiddler_16 (by decide) ?_
    refine t_aldS 14 dX7_worstFiddler_18 rfl (by decide) ?_
    refine x_top hk.2.1.1 ?_
    refine x_icmp_geF dX7_worstFiddler_19 62 (by decide) (nI_ge (by omega) (by omega)) ?_
    refine x_aload_n dX7_worstFiddler_22 rfl ?_
    refine x_aload_n dX7_worstFiddler_23 rfl ?_
    refine t_get fgX7_7_6 dX7_worstFiddler_24 rfl ?_
    refine x_bipush (v := 20) dX7_worstFiddler_27 (by decide) ?_
    refine x_iload_n dX7_worstFiddler_29 rfl ?_
    refine x_iadd dX7_worstFiddler_30 ?_
    refine x_top (y := nI (20 + p)) (nI_add 20 p) ?_
    refine t_aldS (20 + p) dX7_worstFiddler_31 rfl (by omega) ?_
    refine x_top hp0.1 ?_
    refine t_cvV cvX7_412_X7 dX7_worstFiddler_32 (c_X7_farthest _ _ _ _ _ _ _ (plS S p) hp0.2) rfl ?_
    refine x_istore dX7_worstFiddler_35 (by decide) rfl ?_
    refine x_iload dX7_worstFiddler_37 rfl ?_
    refine x_iload_n dX7_worstFiddler_39 rfl ?_
    refine x_icmp_le 56 dX7_worstFiddler_40 (by decide) (fun c40 => ?_) (fun c40 => ?_)
    · have hw : ¬ w.2 < faI S (plS S p) := Int32.not_lt.mpr c40
      rw [show wfK S p w = w from if_neg hw] at kk
      refine x_iinc (v := nI (p + 1)) dX7_worstFiddler_56 rfl (nI_1 _) (by decide) rfl ?_
      refine x_goto (tgt := 11) dX7_worstFiddler_59 (by decide) ?_
      refine xW.loc (L' := [some (.ref m), some (.int _), some (.int _), some (.int (nI (p + 1))), none]) ⟨rfl, rfl, rfl, rfl, trivial⟩ ?_
      exact kk
    · have hw : w.2 < faI S (plS S p) := Int32.not_le.mp c40
      rw [show wfK S p w = (nI (plS S p), faI S (plS S p)) from if_pos hw] at kk
      refine x_iload dX7_worstFiddler_43 rfl ?_
      refine x_istore_n dX7_worstFiddler_45 (by decide) rfl ?_
      refine x_aload_n dX7_worstFiddler_46 rfl ?_
      refine t_get fgX7_7_6 dX7_worstFiddler_47 rfl ?_
      refine x_bipush (v := 20) dX7_worstFiddler_50 (by decide) ?_
      refine x_iload_n dX7_worstFiddler_52 rfl ?_
      refine x_iadd dX7_worstFiddler_53 ?_
      refine x_top (y := nI (20 + p)) (nI_add 20 p) ?_
      refine t_aldS (20 + p) dX7_worstFiddler_54 rfl (by omega) ?_
      refine x_top hp0.1 ?_
      refine x_istore_n dX7_worstFiddler_55 (by decide) rfl ?_
      refine x_iinc (v := nI (p + 1)) dX7_worstFiddler_56 rfl (nI_1 _) (by decide) rfl ?_
      refine x_goto (tgt := 11) dX7_worstFiddler_59 (by decide) ?_
      refine xW.loc (L' := [some (.ref m), some (.int _), some (.int _), some (.int (nI (p + 1))), none]) ⟨rfl, rfl, rfl, rfl, trivial⟩ ?_
      exact kk
theorem c_X7_worstFiddler (g : xG) (B : xA) (m : Nat) (F : Nat → Int32) (W : Int64) (S : Nat → Int32) (Z : Nat → Nat → Int32) (hk : tOk S) : xC g iX7_worstFiddler 4 [.ref m] (tA B m F W S Z) (xRet (some (.int (wfS S (rowS S)).1)) (tA B m (upd F 6 0) W S Z)) := by
  show xW g _ _ 0 [some (.ref m), none, none, none, none] [] _ _
  refine x_aload_n dX7_worstFiddler_0 rfl ?_
  refine x_iconst (v := 0) dX7_worstFiddler_1 rfl ?_
  refine t_put fpX7_72_6 dX7_worstFiddler_2 (by decide) ⟨rfl, rfl⟩ ?_
  refine x_iconst (v := (-1)) dX7_worstFiddler_5 rfl ?_
  refine x_istore_n dX7_worstFiddler_6 (by decide) rfl ?_
  refine x_iconst (v := (-1)) dX7_worstFiddler_7 rfl ?_
  refine x_istore_n dX7_worstFiddler_8 (by decide) rfl ?_
  refine x_iconst (v := 0) dX7_worstFiddler_9 rfl ?_
  refine x_istore_n dX7_worstFiddler_10 (by decide) rfl ?_
  refine xW.loc (L' := [some (.ref m), some (.int (wfS S 0).1), some (.int (wfS S 0).2), some (.int (nI 0)), none]) ⟨rfl, rfl, rfl, rfl, trivial⟩ ?_
  refine wf_l hk ?_ (rowS S) 0 (Nat.add_zero _)
  refine x_iload_n dX7_worstFiddler_62 rfl ?_
  exact x_ireturn dX7_worstFiddler_63 rfl (by first | rfl | exact ite_nar | exact itn_nar) ⟨rfl, rfl⟩
theorem lp_l {g : xG} {B : xA} {m : Nat} {F : Nat → Int32} {W : Int64} {S : Nat → Int32} {Z : Nat → Nat → Int32} {Q : Outcome → xA → Prop} (x : Int32) (hk : tOk S) (kont : xW g iX7_looserPegs 3 56 [some (.ref m), some (.int x), some (.int (lpS S x (4 * manyS S))), some (.int (nI (4 * manyS S)))] [] (tA B m F W S Z) Q) : ∀ f p, f + p = 4 * manyS S → xW g iX7_looserPegs 3 9 [some (.ref m), some (.int x), some (.int (lpS S x p)), some (.int (nI p))] [] (tA B m F W S Z) Q := by
  have hm := hk.1.2
  intro f
  induction f with
  | zero =>
    intro p hp
    have e : p = 4 * manyS S := by omega
    subst e
    refine x_iload_n dX7_looserPegs_9 rfl ?_
    refine x_iconst (v := 4) dX7_looserPegs_10 rfl ?_
    refine x_aload_n dX7_looserPegs_11 rfl ?_
    refine t_get fgX7_7_6 dX7_looserPegs_12 rfl ?_
    refine x_bipush (v := 13) dX7_looserPegs_15 (by decide) ?_
    refine t_aldS 13 dX7_looserPegs_17 rfl (by decide) ?_
    refine x_top hk.1.1 ?_
    refine x_imul dX7_looserPegs_18 ?_
    refine x_top (y := nI (4 * (manyS S))) (pk_mul 4 (manyS S)) ?_
    refine x_icmp_geT (tgt := 56) dX7_looserPegs_19 (by decide) (nI_le (Nat.le_refl _) (by omega)) ?_
    exact kont
  | succ f ih =>
    intro p hp
    have e1 : lpS S x (p + 1) = lpS S x p + (if hs S (p / 4) (17 + p % 4) < x then 1 else 0) := rfl
    have kk := ih (p + 1) (by omega)
    rw [e1] at kk
    refine x_iload_n dX7_looserPegs_9 rfl ?_
    refine x_iconst (v := 4) dX7_looserPegs_10 rfl ?_
    refine x_aload_n dX7_looserPegs_11 rfl ?_
    refine t_get fgX7_7_6 dX7_looserPegs_12 rfl ?_
    refine x_bipush (v := 13) dX7_looserPegs_15 (by decide) ?_
    refine t_aldS 13 dX7_looserPegs_17 rfl (by decide) ?_
    refine x_top hk.1.1 ?_
    refine x_imul dX7_looserPegs_18 ?_
    refine x_top (y := nI (4 * (manyS S))) (pk_mul 4 (manyS S)) ?_
    refine x_icmp_geF dX7_looserPegs_19 56 (by decide) (nI_ge (by omega) (by omega)) ?_
    refine x_iload_n dX7_looserPegs_22 rfl ?_
    refine x_aload_n dX7_looserPegs_23 rfl ?_
    refine x_iload_n dX7_looserPegs_24 rfl ?_
    refine x_iconst (v := 4) dX7_looserPegs_25 rfl ?_
    refine x_idiv dX7_looserPegs_26 (by decide) ?_
    refine x_top (y := nI (p / 4)) (div4 p (by omega)) ?_
    refine x_bipush (v := 17) dX7_looserPegs_27 (by decide) ?_
    refine x_iload_n dX7_looserPegs_29 rfl ?_
    refine x_iconst (v := 4) dX7_looserPegs_30 rfl ?_
    refine x_irem dX7_looserPegs_31 (by decide) ?_
    refine x_top (y := nI (p % 4)) (rem4 p (by omega)) ?_
    refine x_iadd dX7_looserPegs_32 ?_
    refine x_top (y := nI (17 + p % 4)) (nI_add 17 (p % 4)) ?_
    refine t_cvV cvX7_75_X7 dX7_looserPegs_33 (c_X7_has _ _ _ _ _ _ _ (p / 4) (17 + p % 4) (by omega) (by omega)) rfl ?_
    refine x_iload_n dX7_looserPegs_36 rfl ?_
    refine x_icmp_ge 44 dX7_looserPegs_37 (by decide) (fun c37 => ?_) (fun c37 => ?_)
    · rw [if_neg (Int32.not_lt.mpr c37)] at kk
      refine x_iconst (v := 0) dX7_looserPegs_44 rfl ?_
      refine x_csV csX7_110 dX7_looserPegs_45 (c_X7_flag _ _ _) rfl ?_
      refine x_iadd dX7_looserPegs_48 ?_
      refine x_istore_n dX7_looserPegs_49 (by decide) rfl ?_
      refine x_iinc (v := nI (p + 1)) dX7_looserPegs_50 rfl (nI_1 _) (by decide) rfl ?_
      refine x_goto (tgt := 9) dX7_looserPegs_53 (by decide) ?_
      exact kk
    · rw [if_pos (Int32.not_le.mp c37)] at kk
      refine x_iconst (v := 1) dX7_looserPegs_40 rfl ?_
      refine x_goto (tgt := 45) dX7_looserPegs_41 (by decide) ?_
      refine x_csV csX7_110 dX7_looserPegs_45 (c_X7_flag _ _ _) rfl ?_
      refine x_iadd dX7_looserPegs_48 ?_
      refine x_istore_n dX7_looserPegs_49 (by decide) rfl ?_
      refine x_iinc (v := nI (p + 1)) dX7_looserPegs_50 rfl (nI_1 _) (by decide) rfl ?_
      refine x_goto (tgt := 9) dX7_looserPegs_53 (by decide) ?_
      exact kk
theorem c_X7_looserPegs (g : xG) (B : xA) (m : Nat) (F : Nat → Int32) (W : Int64) (S : Nat → Int32) (Z : Nat → Nat → Int32) (x : Int32) (hk : tOk S) : xC g iX7_looserPegs 3 [.ref m, .int x] (tA B m F W S Z) (xRet (some (.int (lpS S x (4 * manyS S)))) (tA B m (upd F 6 0) W S Z)) := by
  show xW g _ _ 0 [some (.ref m), some (.int x), none, none] [] _ _
  refine x_aload_n dX7_looserPegs_0 rfl ?_
  refine x_iconst (v := 0) dX7_looserPegs_1 rfl ?_
  refine t_put fpX7_72_6 dX7_looserPegs_2 (by decide) ⟨rfl, rfl⟩ ?_
  refine x_iconst (v := 0) dX7_looserPegs_5 rfl ?_
  refine x_istore_n dX7_looserPegs_6 (by decide) rfl ?_
  refine x_iconst (v := 0) dX7_looserPegs_7 rfl ?_
  refine x_istore_n dX7_looserPegs_8 (by decide) rfl ?_
  refine lp_l x hk ?_ (4 * manyS S) 0 (Nat.add_zero _)
  refine x_iload_n dX7_looserPegs_56 rfl ?_
  exact x_ireturn dX7_looserPegs_57 rfl (by first | rfl | exact ite_nar | exact itn_nar) ⟨rfl, rfl⟩
theorem c_X7_forgivenFiddler_no (g : xG) (B : xA) (m : Nat) (F : Nat → Int32) (W : Int64) (S : Nat → Int32) (Z : Nat → Nat → Int32) (x : Int32) (hx : inI x 0 (S 19 - 1) = 0) : xC g iX7_forgivenFiddler 3 [.ref m, .int x] (tA B m F W S Z) (xRet (some (.int (-1))) (tA B m (upd F 6 0) W S Z)) := by
  show xW g _ _ 0 [some (.ref m), some (.int x)] [] _ _
  refine x_aload_n dX7_forgivenFiddler_0 rfl ?_
  refine x_iconst (v := 0) dX7_forgivenFiddler_1 rfl ?_
  refine t_put fpX7_72_6 dX7_forgivenFiddler_2 (by decide) ⟨rfl, rfl⟩ ?_
  refine x_iload_n dX7_forgivenFiddler_5 rfl ?_
  refine x_i2l dX7_forgivenFiddler_6 ?_
  refine x_lconst (v := 0) dX7_forgivenFiddler_7 rfl ?_
  refine x_aload_n dX7_forgivenFiddler_8 rfl ?_
  refine t_get fgX7_7_6 dX7_forgivenFiddler_9 rfl ?_
  refine x_bipush (v := 19) dX7_forgivenFiddler_12 (by decide) ?_
  refine t_aldS 19 dX7_forgivenFiddler_14 rfl (by decide) ?_
  refine x_iconst (v := 1) dX7_forgivenFiddler_15 rfl ?_
  refine x_isub dX7_forgivenFiddler_16 ?_
  refine x_i2l dX7_forgivenFiddler_17 ?_
  refine x_csV csX7_144 dX7_forgivenFiddler_18 (ci_0 _ _ x 0 (S 19 - 1) _ _ _ rfl rfl rfl hx) rfl ?_
  refine x_if_eqT (tgt := 38) dX7_forgivenFiddler_21 (by decide) (by decide) ?_
  refine x_iconst (v := (-1)) dX7_forgivenFiddler_38 rfl ?_
  exact x_ireturn dX7_forgivenFiddler_39 rfl (by first | rfl | exact ite_nar | exact itn_nar) ⟨rfl, rfl⟩
theorem c_X7_forgivenFiddler_ok (g : xG) (B : xA) (m : Nat) (F : Nat → Int32) (W : Int64) (S : Nat → Int32) (Z : Nat → Nat → Int32) (p : Nat) (hp : p < 100) (hx : ¬ inI (nI p) 0 (S 19 - 1) = 0) : xC g iX7_forgivenFiddler 3 [.ref m, .int (nI p)] (tA B m F W S Z) (xRet (some (.int (S (30 + p) / 4))) (tA B m (upd F 6 0) W S Z)) := by
  show xW g _ _ 0 [some (.ref m), some (.int (nI p))] [] _ _
  refine x_aload_n dX7_forgivenFiddler_0 rfl ?_
  refine x_iconst (v := 0) dX7_forgivenFiddler_1 rfl ?_
  refine t_put fpX7_72_6 dX7_forgivenFiddler_2 (by decide) ⟨rfl, rfl⟩ ?_
  refine x_iload_n dX7_forgivenFiddler_5 rfl ?_
  refine x_i2l dX7_forgivenFiddler_6 ?_
  refine x_lconst (v := 0) dX7_forgivenFiddler_7 rfl ?_
  refine x_aload_n dX7_forgivenFiddler_8 rfl ?_
  refine t_get fgX7_7_6 dX7_forgivenFiddler_9 rfl ?_
  refine x_bipush (v := 19) dX7_forgivenFiddler_12 (by decide) ?_
  refine t_aldS 19 dX7_forgivenFiddler_14 rfl (by decide) ?_
  refine x_iconst (v := 1) dX7_forgivenFiddler_15 rfl ?_
  refine x_isub dX7_forgivenFiddler_16 ?_
  refine x_i2l dX7_forgivenFiddler_17 ?_
  refine x_csV csX7_144 dX7_forgivenFiddler_18 (ci_1 _ _ (nI p) 0 (S 19 - 1) _ _ _ rfl rfl rfl hx) rfl ?_
  refine x_if_eqF dX7_forgivenFiddler_21 38 (by decide) (by decide) ?_
  refine x_aload_n dX7_forgivenFiddler_24 rfl ?_
  refine t_get fgX7_7_6 dX7_forgivenFiddler_25 rfl ?_
  refine x_bipush (v := 30) dX7_forgivenFiddler_28 (by decide) ?_
  refine x_iload_n dX7_forgivenFiddler_30 rfl ?_
  refine x_iadd dX7_forgivenFiddler_31 ?_
  refine x_top (y := nI (30 + p)) (nI_add 30 p) ?_
  refine t_aldS (30 + p) dX7_forgivenFiddler_32 rfl (by omega) ?_
  refine x_iconst (v := 4) dX7_forgivenFiddler_33 rfl ?_
  refine x_idiv dX7_forgivenFiddler_34 (by decide) ?_
  refine x_goto (tgt := 39) dX7_forgivenFiddler_35 (by decide) ?_
  exact x_ireturn dX7_forgivenFiddler_39 rfl (by first | rfl | exact ite_nar | exact itn_nar) ⟨rfl, rfl⟩
theorem c_X7_forgivenString_no (g : xG) (B : xA) (m : Nat) (F : Nat → Int32) (W : Int64) (S : Nat → Int32) (Z : Nat → Nat → Int32) (x : Int32) (hx : inI x 0 (S 19 - 1) = 0) : xC g iX7_forgivenString 3 [.ref m, .int x] (tA B m F W S Z) (xRet (some (.int (-1))) (tA B m (upd F 6 0) W S Z)) := by
  show xW g _ _ 0 [some (.ref m), some (.int x)] [] _ _
  refine x_aload_n dX7_forgivenString_0 rfl ?_
  refine x_iconst (v := 0) dX7_forgivenString_1 rfl ?_
  refine t_put fpX7_72_6 dX7_forgivenString_2 (by decide) ⟨rfl, rfl⟩ ?_
  refine x_iload_n dX7_forgivenString_5 rfl ?_
  refine x_i2l dX7_forgivenString_6 ?_
  refine x_lconst (v := 0) dX7_forgivenString_7 rfl ?_
  refine x_aload_n dX7_forgivenString_8 rfl ?_
  refine t_get fgX7_7_6 dX7_forgivenString_9 rfl ?_
  refine x_bipush (v := 19) dX7_forgivenString_12 (by decide) ?_
  refine t_aldS 19 dX7_forgivenString_14 rfl (by decide) ?_
  refine x_iconst (v := 1) dX7_forgivenString_15 rfl ?_
  refine x_isub dX7_forgivenString_16 ?_
  refine x_i2l dX7_forgivenString_17 ?_
  refine x_csV csX7_144 dX7_forgivenString_18 (ci_0 _ _ x 0 (S 19 - 1) _ _ _ rfl rfl rfl hx) rfl ?_
  refine x_if_eqT (tgt := 38) dX7_forgivenString_21 (by decide) (by decide) ?_
  refine x_iconst (v := (-1)) dX7_forgivenString_38 rfl ?_
  exact x_ireturn dX7_forgivenString_39 rfl (by first | rfl | exact ite_nar | exact itn_nar) ⟨rfl, rfl⟩
theorem c_X7_forgivenString_ok (g : xG) (B : xA) (m : Nat) (F : Nat → Int32) (W : Int64) (S : Nat → Int32) (Z : Nat → Nat → Int32) (p : Nat) (hp : p < 100) (hx : ¬ inI (nI p) 0 (S 19 - 1) = 0) : xC g iX7_forgivenString 3 [.ref m, .int (nI p)] (tA B m F W S Z) (xRet (some (.int (S (30 + p) - S (30 + p) / 4 * 4))) (tA B m (upd F 6 0) W S Z)) := by
  show xW g _ _ 0 [some (.ref m), some (.int (nI p))] [] _ _
  refine x_aload_n dX7_forgivenString_0 rfl ?_
  refine x_iconst (v := 0) dX7_forgivenString_1 rfl ?_
  refine t_put fpX7_72_6 dX7_forgivenString_2 (by decide) ⟨rfl, rfl⟩ ?_
  refine x_iload_n dX7_forgivenString_5 rfl ?_
  refine x_i2l dX7_forgivenString_6 ?_
  refine x_lconst (v := 0) dX7_forgivenString_7 rfl ?_
  refine x_aload_n dX7_forgivenString_8 rfl ?_
  refine t_get fgX7_7_6 dX7_forgivenString_9 rfl ?_
  refine x_bipush (v := 19) dX7_forgivenString_12 (by decide) ?_
  refine t_aldS 19 dX7_forgivenString_14 rfl (by decide) ?_
  refine x_iconst (v := 1) dX7_forgivenString_15 rfl ?_
  refine x_isub dX7_forgivenString_16 ?_
  refine x_i2l dX7_forgivenString_17 ?_
  refine x_csV csX7_144 dX7_forgivenString_18 (ci_1 _ _ (nI p) 0 (S 19 - 1) _ _ _ rfl rfl rfl hx) rfl ?_
  refine x_if_eqF dX7_forgivenString_21 38 (by decide) (by decide) ?_
  refine x_aload_n dX7_forgivenString_24 rfl ?_
  refine t_get fgX7_7_6 dX7_forgivenString_25 rfl ?_
  refine x_bipush (v := 30) dX7_forgivenString_28 (by decide) ?_
  refine x_iload_n dX7_forgivenString_30 rfl ?_
  refine x_iadd dX7_forgivenString_31 ?_
  refine x_top (y := nI (30 + p)) (nI_add 30 p) ?_
  refine t_aldS (30 + p) dX7_forgivenString_32 rfl (by omega) ?_
  refine x_iconst (v := 4) dX7_forgivenString_33 rfl ?_
  refine x_irem dX7_forgivenString_34 (by decide) ?_
  refine x_goto (tgt := 39) dX7_forgivenString_35 (by decide) ?_
  exact x_ireturn dX7_forgivenString_39 rfl (by first | rfl | exact ite_nar | exact itn_nar) ⟨rfl, rfl⟩
theorem c_X7_outputByte_no (g : xG) (B : xA) (m : Nat) (F : Nat → Int32) (W : Int64) (S : Nat → Int32) (Z : Nat → Nat → Int32) (x : Int32) (hx : inI x 0 (F 31 - 1) = 0) : xC g iX7_outputByte 3 [.ref m, .int x] (tA B m F W S Z) (xRet (some (.int (-1))) (tA B m (upd F 6 0) W S Z)) := by
  show xW g _ _ 0 [some (.ref m), some (.int x)] [] _ _
  refine x_aload_n dX7_outputByte_0 rfl ?_
  refine x_iconst (v := 0) dX7_outputByte_1 rfl ?_
  refine t_put fpX7_72_6 dX7_outputByte_2 (by decide) ⟨rfl, rfl⟩ ?_
  refine x_iload_n dX7_outputByte_5 rfl ?_
  refine x_i2l dX7_outputByte_6 ?_
  refine x_lconst (v := 0) dX7_outputByte_7 rfl ?_
  refine x_aload_n dX7_outputByte_8 rfl ?_
  refine t_get fgX7_429_6 dX7_outputByte_9 rfl ?_
  refine x_iconst (v := 1) dX7_outputByte_12 rfl ?_
  refine x_isub dX7_outputByte_13 ?_
  refine x_i2l dX7_outputByte_14 ?_
  refine x_csV csX7_144 dX7_outputByte_15 (ci_0 _ _ x 0 (F 31 - 1) _ _ _ rfl rfl rfl hx) rfl ?_
  refine x_if_eqT (tgt := 30) dX7_outputByte_18 (by decide) (by decide) ?_
  refine x_iconst (v := (-1)) dX7_outputByte_30 rfl ?_
  exact x_ireturn dX7_outputByte_31 rfl (by first | rfl | exact ite_nar | exact itn_nar) ⟨rfl, rfl⟩
theorem c_X7_outputByte_ok (g : xG) (B : xA) (m : Nat) (F : Nat → Int32) (W : Int64) (S : Nat → Int32) (Z : Nat → Nat → Int32) (p : Nat) (hp : p < 120) (hx : ¬ inI (nI p) 0 (F 31 - 1) = 0) : xC g iX7_outputByte 3 [.ref m, .int (nI p)] (tA B m F W S Z) (xRet (some (.int (Z 30 p))) (tA B m (upd F 6 0) W S Z)) := by
  show xW g _ _ 0 [some (.ref m), some (.int (nI p))] [] _ _
  refine x_aload_n dX7_outputByte_0 rfl ?_
  refine x_iconst (v := 0) dX7_outputByte_1 rfl ?_
  refine t_put fpX7_72_6 dX7_outputByte_2 (by decide) ⟨rfl, rfl⟩ ?_
  refine x_iload_n dX7_outputByte_5 rfl ?_
  refine x_i2l dX7_outputByte_6 ?_
  refine x_lconst (v := 0) dX7_outputByte_7 rfl ?_
  refine x_aload_n dX7_outputByte_8 rfl ?_
  refine t_get fgX7_429_6 dX7_outputByte_9 rfl ?_
  refine x_iconst (v := 1) dX7_outputByte_12 rfl ?_
  refine x_isub dX7_outputByte_13 ?_
  refine x_i2l dX7_outputByte_14 ?_
  refine x_csV csX7_144 dX7_outputByte_15 (ci_1 _ _ (nI p) 0 (F 31 - 1) _ _ _ rfl rfl rfl hx) rfl ?_
  refine x_if_eqF dX7_outputByte_18 30 (by decide) (by decide) ?_
  refine x_aload_n dX7_outputByte_21 rfl ?_
  refine t_get fgX7_58_6 dX7_outputByte_22 rfl ?_
  refine x_iload_n dX7_outputByte_25 rfl ?_
  refine t_aldZ tz30 p dX7_outputByte_26 rfl (by omega) ?_
  refine x_goto (tgt := 31) dX7_outputByte_27 (by decide) ?_
  exact x_ireturn dX7_outputByte_31 rfl (by first | rfl | exact ite_nar | exact itn_nar) ⟨rfl, rfl⟩
