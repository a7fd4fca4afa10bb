set_option maxRecDepth 100000
theorem it_l {g : xG} {B : xA} {m : Nat} {F : Nat → Int32} {W : Int64} {S : Nat → Int32} {Z : Nat → Nat → Int32} {Q : Outcome → xA → Prop} (N : Nat) (hm : S 13 = nI N) (hN : N ≤ 10)
    (kont : xW g iX7_inTune 2 4 [some (.ref m), some (.int (itS N S)), some (.int (nI N))] [] (tA B m F W S Z) Q) : ∀ n i, i + n = N → xW g iX7_inTune 2 4 [some (.ref m), some (.int (itS i S)), some (.int (nI i))] [] (tA B m F W S Z) Q := by
  intro n
  induction n with
  | zero =>
    intro i hi
    rw [show i = N by omega]
    exact kont
  | succ n ih =>
    intro i hi
    refine x_iload_n dX7_inTune_4 rfl ?_
    refine x_aload_n dX7_inTune_5 rfl ?_
    refine t_get fgX7_7_6 dX7_inTune_6 rfl ?_
    refine x_bipush (v := 13) dX7_inTune_9 (by decide) ?_
    refine t_aldS 13 dX7_inTune_11 rfl (by decide) ?_
    refine x_top hm ?_
    refine x_icmp_geF dX7_inTune_12 30 (by decide) (nI_ge (a := i) (b := N) (by omega) (by omega)) ?_
    refine x_iload_n dX7_inTune_15 rfl ?_
    refine x_aload_n dX7_inTune_16 rfl ?_
    refine x_iload_n dX7_inTune_17 rfl ?_
    refine x_iconst (v := 2) dX7_inTune_18 rfl ?_
    refine t_cvV cvX7_75_X7 dX7_inTune_19 (c_X7_has _ _ _ _ _ _ _ i 2 (by omega) (by omega)) rfl ?_
    refine x_iadd dX7_inTune_22 ?_
    refine x_istore_n dX7_inTune_23 (by decide) rfl ?_
    refine x_iinc (v := nI (i + 1)) dX7_inTune_24 rfl (nI_1 _) (by decide) rfl ?_
    refine x_goto (tgt := 4) dX7_inTune_27 (by decide) ?_
    exact ih (i + 1) (by omega)
theorem c_X7_inTune (g : xG) (B : xA) (m : Nat) (F : Nat → Int32) (W : Int64) (S : Nat → Int32) (Z : Nat → Nat → Int32) (hk : tOk S) : xC g iX7_inTune 2 [.ref m] (tA B m F W S Z) (xRet (some (.int (itS (manyS S) S))) (tA B m F W S Z)) := by
  show xW g _ _ 0 [some (.ref m), none, none] [] _ _
  refine x_iconst (v := 0) dX7_inTune_0 rfl ?_
  refine x_istore_n dX7_inTune_1 (by decide) rfl ?_
  refine x_iconst (v := 0) dX7_inTune_2 rfl ?_
  refine x_istore_n dX7_inTune_3 (by decide) rfl ?_
  refine it_l (manyS S) hk.1.1 hk.1.2 ?_ (manyS S) 0 (Nat.zero_add _)
  refine x_iload_n dX7_inTune_4 rfl ?_
  refine x_aload_n dX7_inTune_5 rfl ?_
  refine t_get fgX7_7_6 dX7_inTune_6 rfl ?_
  refine x_bipush (v := 13) dX7_inTune_9 (by decide) ?_
  refine t_aldS 13 dX7_inTune_11 rfl (by decide) ?_
  refine x_top hk.1.1 ?_
  refine x_icmp_geT (tgt := 30) dX7_inTune_12 (by decide) (nI_le (Nat.le_refl _) (by have := hk.1.2; omega)) ?_
  refine x_iload_n dX7_inTune_30 rfl ?_
  exact x_ireturn dX7_inTune_31 rfl rfl ⟨rfl, rfl⟩
theorem rd_l1 {g : xG} {B : xA} {m : Nat} {F : Nat → Int32} {W : Int64} {S : Nat → Int32} {Z : Nat → Nat → Int32} {Q : Outcome → xA → Prop} {Y : Nat → Int32} (N : Nat) (hm : S 13 = nI N) (hN : N ≤ 10)
    (kont : xW g iX7_round 6 21 [some (.ref m), some (.int (nI N)), none, none] [] (tA B m F W (fgS N S) (zup Z 8 (fgY N Y))) Q) : ∀ n i, i + n = N → xW g iX7_round 6 21 [some (.ref m), some (.int (nI i)), none, none] [] (tA B m F W (fgS i S) (zup Z 8 (fgY i Y))) Q := by
  intro n
  induction n with
  | zero =>
    intro i hi
    rw [show i = N by omega]
    exact kont
  | succ n ih =>
    intro i hi
    refine x_iload_n dX7_round_21 rfl ?_
    refine x_aload_n dX7_round_22 rfl ?_
    refine t_get fgX7_7_6 dX7_round_23 rfl ?_
    refine x_bipush (v := 13) dX7_round_26 (by decide) ?_
    refine t_aldS 13 dX7_round_28 rfl (by decide) ?_
    refine x_top ((fgS_lo _ _ (by decide)).trans hm) ?_
    refine x_icmp_geF dX7_round_29 78 (by decide) (nI_ge (a := i) (b := N) (by omega) (by omega)) ?_
    refine x_aload_n dX7_round_32 rfl ?_
    refine t_get fgX7_7_6 dX7_round_33 rfl ?_
    refine x_iload_n dX7_round_36 rfl ?_
    refine x_iconst (v := 2) dX7_round_37 rfl ?_
    refine x_csV csX7_65 dX7_round_38 (c_X7_at _ _ i 2) rfl ?_
    refine x_iconst (v := 0) dX7_round_41 rfl ?_
    refine t_astS (70 + 21 * i + 2) dX7_round_42 rfl (by omega) ?_
    refine x_aload_n dX7_round_43 rfl ?_
    refine t_get fgX7_7_6 dX7_round_44 rfl ?_
    refine x_iload_n dX7_round_47 rfl ?_
    refine x_iconst (v := 3) dX7_round_48 rfl ?_
    refine x_csV csX7_65 dX7_round_49 (c_X7_at _ _ i 3) rfl ?_
    refine x_iconst (v := (-1)) dX7_round_52 rfl ?_
    refine t_astS (70 + 21 * i + 3) dX7_round_53 rfl (by omega) ?_
    refine x_aload_n dX7_round_54 rfl ?_
    refine t_get fgX7_7_6 dX7_round_55 rfl ?_
    refine x_iload_n dX7_round_58 rfl ?_
    refine x_iconst (v := 4) dX7_round_59 rfl ?_
    refine x_csV csX7_65 dX7_round_60 (c_X7_at _ _ i 4) rfl ?_
    refine x_iconst (v := 0) dX7_round_63 rfl ?_
    refine t_astS (70 + 21 * i + 4) dX7_round_64 rfl (by omega) ?_
    refine x_aload_n dX7_round_65 rfl ?_
    refine t_get fgX7_29_6 dX7_round_66 rfl ?_
    refine x_iload_n dX7_round_69 rfl ?_
    refine x_iconst (v := 1) dX7_round_70 rfl ?_
    refine t_astZ tz8 i dX7_round_71 rfl (by omega) ?_
    refine x_iinc (v := nI (i + 1)) dX7_round_72 rfl (nI_1 _) (by decide) rfl ?_
    refine x_goto (tgt := 21) dX7_round_75 (by decide) ?_
    rw [zuu]
    exact ih (i + 1) (by omega)
theorem rd_l2 {g : xG} {B : xA} {m : Nat} {F : Nat → Int32} {W : Int64} {Z : Nat → Nat → Int32} {Q : Outcome → xA → Prop} (q : (Nat → Int32) × (Nat → Int32) × Option Nat) (hk : tOk q.1) (h19 : ixl (q.1 19) 1) (hq : q.2.2 = none)
    (kont : xW g iX7_round 6 83 [some (.ref m), some (.int (rI (roS (rowS q.1) q).2.2)), some (.int (nI (rowS q.1))), none] [] (tA B m F W (roS (rowS q.1) q).1 (zup Z 8 (roS (rowS q.1) q).2.1)) Q) : ∀ n i, i + n = rowS q.1 → xW g iX7_round 6 83 [some (.ref m), some (.int (rI (roS i q).2.2)), some (.int (nI i)), none] [] (tA B m F W (roS i q).1 (zup Z 8 (roS i q).2.1)) Q := by
  intro n
  induction n with
  | zero =>
    intro i hi
    rw [show i = rowS q.1 by omega]
    exact kont
  | succ n ih =>
    intro i hi
    have hn := hk.2.1.2
    have hh := hdE_ro i q
    have hk2 := hh.ok hk
    have hr := ro_r (n := i) hq hk (by omega)
    have hj := ro_19 (n := i) h19 (by omega)
    have hp := hk2.2.2 i (by rw [hh.row]; omega)
    have e14 : (roS i q).1 14 = nI (rowS q.1) := by rw [hk2.2.1.1, hh.row]
    have hj : ixl ((roS i q).1 19) 37 := ⟨hj.1, by have := hj.2; omega⟩
    have eN : roS (i + 1) q = roK i (roS i q) := rfl
    revert eN
    generalize roS i q = t at *
    intro eN
    refine x_iload_n dX7_round_83 rfl ?_
    refine x_aload_n dX7_round_84 rfl ?_
    refine t_get fgX7_7_6 dX7_round_85 rfl ?_
    refine x_bipush (v := 14) dX7_round_88 (by decide) ?_
    refine t_aldS 14 dX7_round_90 rfl (by decide) ?_
    refine x_top e14 ?_
    refine x_icmp_geF dX7_round_91 132 (by decide) (nI_ge (a := i) (b := rowS q.1) (by omega) (by omega)) ?_
    refine x_aload_n dX7_round_94 rfl ?_
    refine t_get fgX7_7_6 dX7_round_95 rfl ?_
    refine x_bipush (v := 20) dX7_round_98 (by decide) ?_
    refine x_iload_n dX7_round_100 rfl ?_
    refine x_iadd dX7_round_101 ?_
    refine x_top (y := nI (20 + i)) (nI_add 20 i) ?_
    refine t_aldS (20 + i) dX7_round_102 rfl (by omega) ?_
    refine x_top hp.1 ?_
    refine x_istore_n dX7_round_103 (by decide) rfl ?_
    refine x_aload_n dX7_round_104 rfl ?_
    refine x_iload_n dX7_round_105 rfl ?_
    refine x_iload_n dX7_round_106 rfl ?_
    refine t_cvN cvX7_114_X7 dX7_round_107 (c_X7_tunesFiddler _ _ _ _ _ _ _ (plS t.1 i) _ hj hp.2 hr) rfl ?_
    refine x_aload_n dX7_round_110 rfl ?_
    refine x_iload_n dX7_round_111 rfl ?_
    refine x_iconst (v := 2) dX7_round_112 rfl ?_
    refine t_cvV cvX7_75_X7 dX7_round_113 (c_X7_has _ _ _ _ _ _ _ (plS t.1 i) 2 hp.2 (by omega)) rfl ?_
    refine x_iconst (v := 1) dX7_round_116 rfl ?_
    refine x_icmp_ne 124 dX7_round_117 (by decide) (fun c117 => ?_) (fun c117 => ?_)
    · refine x_iload_n dX7_round_124 rfl ?_
      refine x_istore_n dX7_round_125 (by decide) rfl ?_
      refine x_iinc (v := nI (i + 1)) dX7_round_126 rfl (nI_1 _) (by decide) rfl ?_
      refine x_goto (tgt := 83) dX7_round_129 (by decide) ?_
      have hf := ih (i + 1) (by omega)
      rw [eN] at hf
      simp only [roK, c117] at hf
      refine xW.loc (L' := [some (.ref m), some (.int (rI t.2.2)), some (.int (nI (i + 1))), none]) ⟨rfl, rfl, rfl, trivial⟩ ?_
      rw [zuu]
      first | exact hf | simpa using hf
    · refine x_iload_n dX7_round_120 rfl ?_
      refine x_goto (tgt := 125) dX7_round_121 (by decide) ?_
      refine x_istore_n dX7_round_125 (by decide) rfl ?_
      refine x_iinc (v := nI (i + 1)) dX7_round_126 rfl (nI_1 _) (by decide) rfl ?_
      refine x_goto (tgt := 83) dX7_round_129 (by decide) ?_
      have hf := ih (i + 1) (by omega)
      rw [eN] at hf
      simp only [roK, c117] at hf
      refine xW.loc (L' := [some (.ref m), some (.int (rI (some (plS t.1 i)))), some (.int (nI (i + 1))), none]) ⟨rfl, rfl, rfl, trivial⟩ ?_
      rw [zuu]
      first | exact hf | simpa using hf
theorem c_X7_round (g : xG) (B : xA) (m : Nat) (F : Nat → Int32) (W : Int64) (S : Nat → Int32) (Z : Nat → Nat → Int32) (hk : tOk S) : xC g iX7_round 6 [.ref m] (tA B m F W S Z) (xRet (some (.int (roundI S (Z 8)))) (tA B m F W (roundS S (Z 8)).1 (zup Z 8 (roundS S (Z 8)).2))) := by
  have hS1 : hdE S (upd (upd S 15 (S 15 + 1)) 19 0) := (hdE.rf.up (by omega) _).up (by omega) _
  have hk1 := hS1.ok hk
  have hS2 : hdE S (ro0 S (Z 8)).1 := hS1.tr (hdE_fg _ _)
  have hk2 := hS2.ok hk
  have h19 : ixl ((ro0 S (Z 8)).1 19) 1 := by
    rw [show (ro0 S (Z 8)).1 19 = nI 0 from (fgS_lo _ _ (by decide)).trans (upd_self _ _ _)]
    exact ixl_nI (by omega) (by omega)
  show xW g _ _ 0 [some (.ref m), none, none, none] [] _ _
  refine x_aload_n dX7_round_0 rfl ?_
  refine t_get fgX7_7_6 dX7_round_1 rfl ?_
  refine x_bipush (v := 15) dX7_round_4 (by decide) ?_
  refine x_dup2 dX7_round_6 rfl rfl ?_
  refine t_aldS 15 dX7_round_7 rfl (by decide) ?_
  refine x_iconst (v := 1) dX7_round_8 rfl ?_
  refine x_iadd dX7_round_9 ?_
  refine t_astS 15 dX7_round_10 rfl (by decide) ?_
  refine x_aload_n dX7_round_11 rfl ?_
  refine t_get fgX7_7_6 dX7_round_12 rfl ?_
  refine x_bipush (v := 19) dX7_round_15 (by decide) ?_
  refine x_iconst (v := 0) dX7_round_17 rfl ?_
  refine t_astS 19 dX7_round_18 rfl (by decide) ?_
  refine x_iconst (v := 0) dX7_round_19 rfl ?_
  refine x_istore_n dX7_round_20 (by decide) rfl ?_
  rw [show tA B m F W (upd (upd S 15 (S 15 + 1)) 19 0) Z = tA B m F W (fgS 0 (upd (upd S 15 (S 15 + 1)) 19 0)) (zup Z 8 (fgY 0 (Z 8))) by rw [show fgY 0 (Z 8) = Z 8 from rfl, zup_id]; rfl]
  refine rd_l1 (manyS (upd (upd S 15 (S 15 + 1)) 19 0)) hk1.1.1 hk1.1.2 ?_ _ 0 (Nat.zero_add _)
  have e13 : (fgS (manyS (upd (upd S 15 (S 15 + 1)) 19 0)) (upd (upd S 15 (S 15 + 1)) 19 0)) 13 = nI (manyS (upd (upd S 15 (S 15 + 1)) 19 0)) := (fgS_lo _ _ (by decide)).trans hk1.1.1
  have hb := hk1.1.2
  refine x_iload_n dX7_round_21 rfl ?_
  refine x_aload_n dX7_round_22 rfl ?_
  refine t_get fgX7_7_6 dX7_round_23 rfl ?_
  refine x_bipush (v := 13) dX7_round_26 (by decide) ?_
  refine t_aldS 13 dX7_round_28 rfl (by decide) ?_
  refine x_top e13 ?_
  refine x_icmp_geT (tgt := 78) dX7_round_29 (by decide) (nI_le (Nat.le_refl _) (by omega)) ?_
  refine x_bipush (v := (-2)) dX7_round_78 (by decide) ?_
  refine x_istore_n dX7_round_80 (by decide) rfl ?_
  refine x_iconst (v := 0) dX7_round_81 rfl ?_
  refine x_istore_n dX7_round_82 (by decide) rfl ?_
  have hq2 : (roundS S (Z 8)).1 14 = nI (rowS (ro0 S (Z 8)).1) := by rw [show (roundS S (Z 8)).1 = (roS (rowS (ro0 S (Z 8)).1) ((ro0 S (Z 8)).1, (ro0 S (Z 8)).2, none)).1 from rfl, (hdE_ro _ _) 14 (by decide)]; exact hk2.2.1.1
  have hk3 : tOk (roundS S (Z 8)).1 := (hdE_ro _ ((ro0 S (Z 8)).1, (ro0 S (Z 8)).2, none)).ok hk2
  have hb2 := hk2.2.1.2
  refine rd_l2 ((ro0 S (Z 8)).1, (ro0 S (Z 8)).2, none) hk2 h19 rfl ?_ _ 0 (Nat.zero_add _)
  show xW g _ _ 83 [some (.ref m), some (.int (rI (roS (rowS (ro0 S (Z 8)).1) ((ro0 S (Z 8)).1, (ro0 S (Z 8)).2, none)).2.2)), some (.int (nI (rowS (ro0 S (Z 8)).1))), none] [] (tA B m F W (roundS S (Z 8)).1 (zup Z 8 (roundS S (Z 8)).2)) _
  refine x_iload_n dX7_round_83 rfl ?_
  refine x_aload_n dX7_round_84 rfl ?_
  refine t_get fgX7_7_6 dX7_round_85 rfl ?_
  refine x_bipush (v := 14) dX7_round_88 (by decide) ?_
  refine t_aldS 14 dX7_round_90 rfl (by decide) ?_
  refine x_top hq2 ?_
  refine x_icmp_geT (tgt := 132) dX7_round_91 (by decide) (nI_le (Nat.le_refl _) (by omega)) ?_
  refine x_aload_n dX7_round_132 rfl ?_
  refine t_cvV cvX7_117_X7 dX7_round_133 (c_X7_inTune _ _ _ _ _ _ _  hk3) rfl ?_
  exact x_ireturn dX7_round_136 rfl rfl ⟨rfl, rfl⟩
theorem ho_l {g : xG} {B : xA} {m : Nat} {F : Nat → Int32} {W : Int64} {S : Nat → Int32} {Z : Nat → Nat → Int32} {Q : Outcome → xA → Prop} (f : Nat) (w : Int32) (k : Nat) (hf : f < 10) (hk : k < 4)
    (kont : xW g iX7_hourOf 3 2 [some (.ref m), some (.int (nI f)), some (.int w), some (.int (nI (k + 1)))] [] (tA B m F W (hoK f w k S) Z) Q) :
    xW g iX7_hourOf 3 2 [some (.ref m), some (.int (nI f)), some (.int w), some (.int (nI k))] [] (tA B m F W S Z) Q := by
  refine x_iload_n dX7_hourOf_2 rfl ?_
  refine x_iconst (v := 4) dX7_hourOf_3 rfl ?_
  refine x_icmp_geF dX7_hourOf_4 65 (by decide) (nI_ge (a := k) (b := 4) hk (by omega)) ?_
  refine x_aload_n dX7_hourOf_7 rfl ?_
  refine x_iload_n dX7_hourOf_8 rfl ?_
  refine x_iload_n dX7_hourOf_9 rfl ?_
  refine t_cvV cvX7_85_X7 dX7_hourOf_10 (c_X7_isOff _ _ _ _ _ _ _ f k (by omega) (by omega)) rfl ?_
  refine x_if_eq 19 dX7_hourOf_13 (by decide) (fun c13 => ?_) (fun c13 => ?_)
  · refine x_aload_n dX7_hourOf_19 rfl ?_
    refine x_iload_n dX7_hourOf_20 rfl ?_
    refine x_iload_n dX7_hourOf_21 rfl ?_
    refine x_iload_n dX7_hourOf_22 rfl ?_
    refine x_ineg dX7_hourOf_23 ?_
    refine x_aload_n dX7_hourOf_24 rfl ?_
    refine t_get fgX7_7_6 dX7_hourOf_25 rfl ?_
    refine x_bipush (v := 9) dX7_hourOf_28 (by decide) ?_
    refine x_iload_n dX7_hourOf_30 rfl ?_
    refine x_iadd dX7_hourOf_31 ?_
    refine x_top (y := nI (9 + k)) (nI_add 9 k) ?_
    refine t_aldS (9 + k) dX7_hourOf_32 rfl (by omega) ?_
    refine x_imul dX7_hourOf_33 ?_
    refine t_cvN cvX7_78_X7 dX7_hourOf_34 (c_X7_shifts _ _ _ _ _ _ _ f k _ (by omega) (by omega)) rfl ?_
    refine x_aload_n dX7_hourOf_37 rfl ?_
    refine x_iload_n dX7_hourOf_38 rfl ?_
    refine x_iload_n dX7_hourOf_39 rfl ?_
    refine x_iconst (v := 0) dX7_hourOf_40 rfl ?_
    refine x_iconst (v := 5) dX7_hourOf_41 rfl ?_
    refine x_aload_n dX7_hourOf_42 rfl ?_
    refine x_iload_n dX7_hourOf_43 rfl ?_
    refine x_bipush (v := 17) dX7_hourOf_44 (by decide) ?_
    refine x_iload_n dX7_hourOf_46 rfl ?_
    refine x_iadd dX7_hourOf_47 ?_
    refine x_top (y := nI (17 + k)) (nI_add 17 k) ?_
    refine t_cvV cvX7_75_X7 dX7_hourOf_48 (c_X7_has _ _ _ _ _ _ _ f (17 + k) (by omega) (by omega)) rfl ?_
    refine x_isub dX7_hourOf_51 ?_
    refine x_csV csX7_82 dX7_hourOf_52 (c_X7_greater _ _ _ _) rfl ?_
    refine x_ineg dX7_hourOf_55 ?_
    refine t_cvN cvX7_78_X7 dX7_hourOf_56 (c_X7_shifts _ _ _ _ _ _ _ f k _ (by omega) (by omega)) rfl ?_
    refine x_iinc (v := nI (k + 1)) dX7_hourOf_59 rfl (nI_1 _) (by decide) rfl ?_
    refine x_goto (tgt := 2) dX7_hourOf_62 (by decide) ?_
    simp only [flI_0, Decidable.not_not] at *
    simp only [hoK, c13] at kont
    first | exact kont | simpa using kont
  · refine x_goto (tgt := 59) dX7_hourOf_16 (by decide) ?_
    refine x_iinc (v := nI (k + 1)) dX7_hourOf_59 rfl (nI_1 _) (by decide) rfl ?_
    refine x_goto (tgt := 2) dX7_hourOf_62 (by decide) ?_
    simp only [flI_0, Decidable.not_not] at *
    simp only [hoK, c13] at kont
    first | exact kont | simpa using kont
theorem c_X7_hourOf (g : xG) (B : xA) (m : Nat) (F : Nat → Int32) (W : Int64) (S : Nat → Int32) (Z : Nat → Nat → Int32) (f : Nat) (w : Int32) (hf : f < 10) : xC g iX7_hourOf 3 [.ref m, .int (nI f), .int w] (tA B m F W S Z) (xRet none (tA B m F W (hoF f w S) Z)) := by
  show xW g _ _ 0 [some (.ref m), some (.int (nI f)), some (.int w), none] [] _ _
  refine x_iconst (v := 0) dX7_hourOf_0 rfl ?_
  refine x_istore_n dX7_hourOf_1 (by decide) rfl ?_
  refine ho_l f w 0 hf (by omega) ?_
  refine ho_l f w 1 hf (by omega) ?_
  refine ho_l f w 2 hf (by omega) ?_
  refine ho_l f w 3 hf (by omega) ?_
  refine x_iload_n dX7_hourOf_2 rfl ?_
  refine x_iconst (v := 4) dX7_hourOf_3 rfl ?_
  refine x_icmp_geT (tgt := 65) dX7_hourOf_4 (by decide) (nI_le (a := 4) (b := 4) (by omega) (by omega)) ?_
  exact x_return dX7_hourOf_65 rfl ⟨rfl, rfl⟩
theorem h1_l {g : xG} {B : xA} {m : Nat} {F : Nat → Int32} {W : Int64} {S : Nat → Int32} {Z : Nat → Nat → Int32} {Q : Outcome → xA → Prop} (w : Int32) (N : Nat) (hm : S 13 = nI N) (hN : N ≤ 10)
    (kont : xW g iX7_hour1 4 62 [some (.ref m), some (.int w), some (.int (nI N))] [] (tA B m F W (hoS N w S) Z) Q) : ∀ n i, i + n = N → xW g iX7_hour1 4 62 [some (.ref m), some (.int w), some (.int (nI i))] [] (tA B m F W (hoS i w S) Z) Q := by
  intro n
  induction n with
  | zero =>
    intro i hi
    rw [show i = N by omega]
    exact kont
  | succ n ih =>
    intro i hi
    refine x_iload_n dX7_hour1_62 rfl ?_
    refine x_aload_n dX7_hour1_63 rfl ?_
    refine t_get fgX7_7_6 dX7_hour1_64 rfl ?_
    refine x_bipush (v := 13) dX7_hour1_67 (by decide) ?_
    refine t_aldS 13 dX7_hour1_69 rfl (by decide) ?_
    refine x_top ((hoS_lo _ _ _ (by decide)).trans hm) ?_
    refine x_icmp_geF dX7_hour1_70 85 (by decide) (nI_ge (a := i) (b := N) (by omega) (by omega)) ?_
    refine x_aload_n dX7_hour1_73 rfl ?_
    refine x_iload_n dX7_hour1_74 rfl ?_
    refine x_iload_n dX7_hour1_75 rfl ?_
    refine t_cvN cvX7_121_X7 dX7_hour1_76 (c_X7_hourOf _ _ _ _ _ _ _ i _ (by omega)) rfl ?_
    refine x_iinc (v := nI (i + 1)) dX7_hour1_79 rfl (nI_1 _) (by decide) rfl ?_
    refine x_goto (tgt := 62) dX7_hour1_82 (by decide) ?_
    exact ih (i + 1) (by omega)
theorem h1_w {g : xG} {B : xA} {m : Nat} {F : Nat → Int32} {W : Int64} {S : Nat → Int32} {Z : Nat → Nat → Int32} {Q : Outcome → xA → Prop} (w : Int32) (hk : tOk S) (hq : Q (.returned none) (tA B m F W (hoS (manyS S) w S) Z)) : xW g iX7_hour1 4 60 [some (.ref m), some (.int w), none] [] (tA B m F W S Z) Q := by
  refine x_iconst (v := 0) dX7_hour1_60 rfl ?_
  refine x_istore_n dX7_hour1_61 (by decide) rfl ?_
  refine h1_l w (manyS S) hk.1.1 hk.1.2 ?_ _ 0 (Nat.zero_add _)
  refine x_iload_n dX7_hour1_62 rfl ?_
  refine x_aload_n dX7_hour1_63 rfl ?_
  refine t_get fgX7_7_6 dX7_hour1_64 rfl ?_
  refine x_bipush (v := 13) dX7_hour1_67 (by decide) ?_
  refine t_aldS 13 dX7_hour1_69 rfl (by decide) ?_
  refine x_top ((hoS_lo _ _ _ (by decide)).trans hk.1.1) ?_
  refine x_icmp_geT (tgt := 85) dX7_hour1_70 (by decide) (nI_le (Nat.le_refl _) (by have := hk.1.2; omega)) ?_
  exact x_return dX7_hour1_85 rfl hq
theorem c_X7_hour1 (g : xG) (B : xA) (m : Nat) (F : Nat → Int32) (W : Int64) (S : Nat → Int32) (Z : Nat → Nat → Int32) (hk : tOk S) : xC g iX7_hour1 4 [.ref m] (tA B m F W S Z) (xRet none (tA B m F W (hour1S S) Z)) := by
  show xW g _ _ 0 [some (.ref m), none, none] [] _ _
  refine x_aload_n dX7_hour1_0 rfl ?_
  refine t_get fgX7_7_6 dX7_hour1_1 rfl ?_
  refine x_iconst (v := 0) dX7_hour1_4 rfl ?_
  refine x_dup2 dX7_hour1_5 rfl rfl ?_
  refine t_aldS 0 dX7_hour1_6 rfl (by decide) ?_
  refine x_iconst (v := 1) dX7_hour1_7 rfl ?_
  refine x_iadd dX7_hour1_8 ?_
  refine t_astS 0 dX7_hour1_9 rfl (by decide) ?_
  refine x_aload_n dX7_hour1_10 rfl ?_
  refine t_get fgX7_7_6 dX7_hour1_11 rfl ?_
  refine x_iconst (v := 1) dX7_hour1_14 rfl ?_
  refine t_aldS 1 dX7_hour1_15 rfl (by decide) ?_
  refine x_aload_n dX7_hour1_16 rfl ?_
  refine t_get fgX7_7_6 dX7_hour1_17 rfl ?_
  refine x_iconst (v := 2) dX7_hour1_20 rfl ?_
  refine t_aldS 2 dX7_hour1_21 rfl (by decide) ?_
  refine x_icmp_ge 29 dX7_hour1_22 (by decide) (fun c22 => ?_) (fun c22 => ?_)
  · refine x_aload_n dX7_hour1_29 rfl ?_
    refine t_get fgX7_7_6 dX7_hour1_30 rfl ?_
    refine x_iconst (v := 1) dX7_hour1_33 rfl ?_
    refine t_aldS 1 dX7_hour1_34 rfl (by decide) ?_
    refine x_aload_n dX7_hour1_35 rfl ?_
    refine t_get fgX7_7_6 dX7_hour1_36 rfl ?_
    refine x_iconst (v := 2) dX7_hour1_39 rfl ?_
    refine t_aldS 2 dX7_hour1_40 rfl (by decide) ?_
    refine x_icmp_le 48 dX7_hour1_41 (by decide) (fun c41 => ?_) (fun c41 => ?_)
    · refine x_iconst (v := 0) dX7_hour1_48 rfl ?_
      refine x_istore_n dX7_hour1_49 (by decide) rfl ?_
      refine x_aload_n dX7_hour1_50 rfl ?_
      refine t_get fgX7_7_6 dX7_hour1_51 rfl ?_
      refine x_iconst (v := 1) dX7_hour1_54 rfl ?_
      refine x_dup2 dX7_hour1_55 rfl rfl ?_
      refine t_aldS 1 dX7_hour1_56 rfl (by decide) ?_
      refine x_iload_n dX7_hour1_57 rfl ?_
      refine x_iadd dX7_hour1_58 ?_
      refine t_astS 1 dX7_hour1_59 rfl (by decide) ?_
      have hw : wmS (upd S 0 (S 0 + 1)) = 0 := by
        unfold wmS
        simp only [← Int32.not_le] at *
        simp [*]
      have hh : tOk (upd (upd S 0 (S 0 + 1)) 1 (upd S 0 (S 0 + 1) 1 + 0)) := by
        have e13 : (upd (upd S 0 (S 0 + 1)) 1 (upd S 0 (S 0 + 1) 1 + 0)) 13 = S 13 := by rw [upd_ne _ _ (by decide), upd_ne _ _ (by decide)]
        have e14 : (upd (upd S 0 (S 0 + 1)) 1 (upd S 0 (S 0 + 1) 1 + 0)) 14 = S 14 := by rw [upd_ne _ _ (by decide), upd_ne _ _ (by decide)]
        have ep : ∀ p, (upd (upd S 0 (S 0 + 1)) 1 (upd S 0 (S 0 + 1) 1 + 0)) (20 + p) = S (20 + p) := fun p => by rw [upd_ne _ _ (by omega), upd_ne _ _ (by omega)]
        unfold tOk manyS rowS plS at *
        simp only [e13, e14, ep]
        exact hk
      refine h1_w 0 hh ⟨rfl, ?_⟩
      show _ = tA B m F W (hoS (manyS (upd (upd S 0 (S 0 + 1)) 1 (upd S 0 (S 0 + 1) 1 + wmS (upd S 0 (S 0 + 1))))) (wmS (upd S 0 (S 0 + 1))) (upd (upd S 0 (S 0 + 1)) 1 (upd S 0 (S 0 + 1) 1 + wmS (upd S 0 (S 0 + 1))))) Z
      rw [hw]
    · refine x_iconst (v := (-1)) dX7_hour1_44 rfl ?_
      refine x_goto (tgt := 49) dX7_hour1_45 (by decide) ?_
      refine x_istore_n dX7_hour1_49 (by decide) rfl ?_
      refine x_aload_n dX7_hour1_50 rfl ?_
      refine t_get fgX7_7_6 dX7_hour1_51 rfl ?_
      refine x_iconst (v := 1) dX7_hour1_54 rfl ?_
      refine x_dup2 dX7_hour1_55 rfl rfl ?_
      refine t_aldS 1 dX7_hour1_56 rfl (by decide) ?_
      refine x_iload_n dX7_hour1_57 rfl ?_
      refine x_iadd dX7_hour1_58 ?_
      refine t_astS 1 dX7_hour1_59 rfl (by decide) ?_
      have hw : wmS (upd S 0 (S 0 + 1)) = (-1) := by
        unfold wmS
        simp only [← Int32.not_le] at *
        simp [*]
      have hh : tOk (upd (upd S 0 (S 0 + 1)) 1 (upd S 0 (S 0 + 1) 1 + (-1))) := by
        have e13 : (upd (upd S 0 (S 0 + 1)) 1 (upd S 0 (S 0 + 1) 1 + (-1))) 13 = S 13 := by rw [upd_ne _ _ (by decide), upd_ne _ _ (by decide)]
        have e14 : (upd (upd S 0 (S 0 + 1)) 1 (upd S 0 (S 0 + 1) 1 + (-1))) 14 = S 14 := by rw [upd_ne _ _ (by decide), upd_ne _ _ (by decide)]
        have ep : ∀ p, (upd (upd S 0 (S 0 + 1)) 1 (upd S 0 (S 0 + 1) 1 + (-1))) (20 + p) = S (20 + p) := fun p => by rw [upd_ne _ _ (by omega), upd_ne _ _ (by omega)]
        unfold tOk manyS rowS plS at *
        simp only [e13, e14, ep]
        exact hk
      refine h1_w (-1) hh ⟨rfl, ?_⟩
      show _ = tA B m F W (hoS (manyS (upd (upd S 0 (S 0 + 1)) 1 (upd S 0 (S 0 + 1) 1 + wmS (upd S 0 (S 0 + 1))))) (wmS (upd S 0 (S 0 + 1))) (upd (upd S 0 (S 0 + 1)) 1 (upd S 0 (S 0 + 1) 1 + wmS (upd S 0 (S 0 + 1))))) Z
      rw [hw]
  · refine x_iconst (v := 1) dX7_hour1_25 rfl ?_
    refine x_goto (tgt := 49) dX7_hour1_26 (by decide) ?_
    refine x_istore_n dX7_hour1_49 (by decide) rfl ?_
    refine x_aload_n dX7_hour1_50 rfl ?_
    refine t_get fgX7_7_6 dX7_hour1_51 rfl ?_
    refine x_iconst (v := 1) dX7_hour1_54 rfl ?_
    refine x_dup2 dX7_hour1_55 rfl rfl ?_
    refine t_aldS 1 dX7_hour1_56 rfl (by decide) ?_
    refine x_iload_n dX7_hour1_57 rfl ?_
    refine x_iadd dX7_hour1_58 ?_
    refine t_astS 1 dX7_hour1_59 rfl (by decide) ?_
    have hw : wmS (upd S 0 (S 0 + 1)) = 1 := by
      unfold wmS
      simp only [← Int32.not_le] at *
      simp [*]
    have hh : tOk (upd (upd S 0 (S 0 + 1)) 1 (upd S 0 (S 0 + 1) 1 + 1)) := by
      have e13 : (upd (upd S 0 (S 0 + 1)) 1 (upd S 0 (S 0 + 1) 1 + 1)) 13 = S 13 := by rw [upd_ne _ _ (by decide), upd_ne _ _ (by decide)]
      have e14 : (upd (upd S 0 (S 0 + 1)) 1 (upd S 0 (S 0 + 1) 1 + 1)) 14 = S 14 := by rw [upd_ne _ _ (by decide), upd_ne _ _ (by decide)]
      have ep : ∀ p, (upd (upd S 0 (S 0 + 1)) 1 (upd S 0 (S 0 + 1) 1 + 1)) (20 + p) = S (20 + p) := fun p => by rw [upd_ne _ _ (by omega), upd_ne _ _ (by omega)]
      unfold tOk manyS rowS plS at *
      simp only [e13, e14, ep]
      exact hk
    refine h1_w 1 hh ⟨rfl, ?_⟩
    show _ = tA B m F W (hoS (manyS (upd (upd S 0 (S 0 + 1)) 1 (upd S 0 (S 0 + 1) 1 + wmS (upd S 0 (S 0 + 1))))) (wmS (upd S 0 (S 0 + 1))) (upd (upd S 0 (S 0 + 1)) 1 (upd S 0 (S 0 + 1) 1 + wmS (upd S 0 (S 0 + 1))))) Z
    rw [hw]
