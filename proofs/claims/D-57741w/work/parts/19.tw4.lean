set_option maxRecDepth 100000
theorem hs_l {g : xG} {B : xA} {m : Nat} {F : Nat → Int32} {W : Int64} {S : Nat → Int32} {Z : Nat → Nat → Int32} {Q : Outcome → xA → Prop} (N : Nat) (hk : tOk S) (hN : N ≤ 1000)
    (kont : xW g iX7_hours1 5 2 [some (.ref m), some (.int (nI N)), some (.int (nI N))] [] (tA B m F W (hoursS N S) Z) Q) : ∀ n i, i + n = N → xW g iX7_hours1 5 2 [some (.ref m), some (.int (nI N)), some (.int (nI i))] [] (tA B m F W (hoursS i S) Z) Q := by
  intro n
  induction n with
  | zero =>
    intro i hi
    rw [show i = N by omega]
    exact kont
  | succ n ih =>
    intro i hi
    have hk2 := hours_ok i hk
    refine x_iload_n dX7_hours1_2 rfl ?_
    refine x_iload_n dX7_hours1_3 rfl ?_
    refine x_icmp_geF dX7_hours1_4 17 (by decide) (nI_ge (a := i) (b := N) (by omega) (by omega)) ?_
    refine x_aload_n dX7_hours1_7 rfl ?_
    refine t_cvN cvX7_124_X7 dX7_hours1_8 (c_X7_hour1 _ _ _ _ _ _ _  hk2) rfl ?_
    refine x_iinc (v := nI (i + 1)) dX7_hours1_11 rfl (nI_1 _) (by decide) rfl ?_
    refine x_goto (tgt := 2) dX7_hours1_14 (by decide) ?_
    exact ih (i + 1) (by omega)
theorem c_X7_hours1 (g : xG) (B : xA) (m : Nat) (F : Nat → Int32) (W : Int64) (S : Nat → Int32) (Z : Nat → Nat → Int32) (N : Nat) (hk : tOk S) (hN : N ≤ 1000) : xC g iX7_hours1 5 [.ref m, .int (nI N)] (tA B m F W S Z) (xRet (some (.int (hoursS N S 1))) (tA B m F W (hoursS N S) Z)) := by
  show xW g _ _ 0 [some (.ref m), some (.int (nI N)), none] [] _ _
  refine x_iconst (v := 0) dX7_hours1_0 rfl ?_
  refine x_istore_n dX7_hours1_1 (by decide) rfl ?_
  refine hs_l N hk hN ?_ N 0 (Nat.zero_add _)
  refine x_iload_n dX7_hours1_2 rfl ?_
  refine x_iload_n dX7_hours1_3 rfl ?_
  refine x_icmp_geT (tgt := 17) dX7_hours1_4 (by decide) (nI_le (Nat.le_refl _) (by omega)) ?_
  refine x_aload_n dX7_hours1_17 rfl ?_
  refine t_get fgX7_7_6 dX7_hours1_18 rfl ?_
  refine x_iconst (v := 1) dX7_hours1_21 rfl ?_
  refine t_aldS 1 dX7_hours1_22 rfl (by decide) ?_
  exact x_ireturn dX7_hours1_23 rfl rfl ⟨rfl, rfl⟩
theorem namedFiddler_l {g : xG} {B : xA} {m : Nat} {F : Nat → Int32} {W : Int64} {S : Nat → Int32} {Z : Nat → Nat → Int32} {Q : Outcome → xA → Prop} (x : Int32) (N : Nat) (hm : S 13 = nI N) (hN : N ≤ 10) : ∀ n i, i + n = N → Q (.returned (some (.int (oI (namS S x n i))))) (tA B m F W S Z) → xW g iX7_namedFiddler 2 2 [some (.ref m), some (.int x), some (.int (nI i))] [] (tA B m F W S Z) Q := by
  intro n
  induction n with
  | zero =>
    intro i hi hq
    refine x_iload_n dX7_namedFiddler_2 rfl ?_
    refine x_aload_n dX7_namedFiddler_3 rfl ?_
    refine t_get fgX7_7_6 dX7_namedFiddler_4 rfl ?_
    refine x_bipush (v := 13) dX7_namedFiddler_7 (by decide) ?_
    refine t_aldS 13 dX7_namedFiddler_9 rfl (by decide) ?_
    refine x_top hm ?_
    refine x_icmp_geT (tgt := 31) dX7_namedFiddler_10 (by decide) (nI_le (a := N) (b := i) (by omega) (by omega)) ?_
    refine x_iconst (v := (-1)) dX7_namedFiddler_31 rfl ?_
    exact x_ireturn dX7_namedFiddler_32 rfl rfl hq
  | succ n ih =>
    intro i hi hq
    refine x_iload_n dX7_namedFiddler_2 rfl ?_
    refine x_aload_n dX7_namedFiddler_3 rfl ?_
    refine t_get fgX7_7_6 dX7_namedFiddler_4 rfl ?_
    refine x_bipush (v := 13) dX7_namedFiddler_7 (by decide) ?_
    refine t_aldS 13 dX7_namedFiddler_9 rfl (by decide) ?_
    refine x_top hm ?_
    refine x_icmp_geF dX7_namedFiddler_10 31 (by decide) (nI_ge (a := i) (b := N) (by omega) (by omega)) ?_
    refine x_aload_n dX7_namedFiddler_13 rfl ?_
    refine x_iload_n dX7_namedFiddler_14 rfl ?_
    refine x_iconst (v := 0) dX7_namedFiddler_15 rfl ?_
    refine t_cvV cvX7_75_X7 dX7_namedFiddler_16 (c_X7_has _ _ _ _ _ _ _ i 0 (by omega) (by omega)) rfl ?_
    refine x_iload_n dX7_namedFiddler_19 rfl ?_
    refine x_icmp_ne 25 dX7_namedFiddler_20 (by decide) (fun c20 => ?_) (fun c20 => ?_)
    · refine x_iinc (v := nI (i + 1)) dX7_namedFiddler_25 rfl (nI_1 _) (by decide) rfl ?_
      refine x_goto (tgt := 2) dX7_namedFiddler_28 (by decide) ?_
      refine ih (i + 1) (by omega) ?_
      unfold namS at hq
      rwa [if_neg c20] at hq
    · refine x_iload_n dX7_namedFiddler_23 rfl ?_
      exact x_ireturn dX7_namedFiddler_24 rfl rfl (by unfold namS at hq; rwa [if_pos c20] at hq)
theorem c_X7_namedFiddler (g : xG) (B : xA) (m : Nat) (F : Nat → Int32) (W : Int64) (S : Nat → Int32) (Z : Nat → Nat → Int32) (x : Int32) (hk : tOk S) : xC g iX7_namedFiddler 2 [.ref m, .int x] (tA B m F W S Z) (xRet (some (.int (oI (namS S x (manyS S) 0)))) (tA B m F W S Z)) := by
  show xW g _ _ 0 [some (.ref m), some (.int x), none] [] _ _
  refine x_iconst (v := 0) dX7_namedFiddler_0 rfl ?_
  refine x_istore_n dX7_namedFiddler_1 (by decide) rfl ?_
  exact namedFiddler_l x (manyS S) hk.1.1 hk.1.2 _ 0 (Nat.zero_add _) ⟨rfl, rfl⟩
theorem place_l {g : xG} {B : xA} {m : Nat} {F : Nat → Int32} {W : Int64} {S : Nat → Int32} {Z : Nat → Nat → Int32} {Q : Outcome → xA → Prop} (x : Int32) (N : Nat) (hm : S 14 = nI N) (hN : N ≤ 10) : ∀ n i, i + n = N → Q (.returned (some (.int (oI (plcS S x n i))))) (tA B m F W S Z) → xW g iX7_place 1 2 [some (.ref m), some (.int x), some (.int (nI i))] [] (tA B m F W S Z) Q := by
  intro n
  induction n with
  | zero =>
    intro i hi hq
    refine x_iload_n dX7_place_2 rfl ?_
    refine x_aload_n dX7_place_3 rfl ?_
    refine t_get fgX7_7_6 dX7_place_4 rfl ?_
    refine x_bipush (v := 14) dX7_place_7 (by decide) ?_
    refine t_aldS 14 dX7_place_9 rfl (by decide) ?_
    refine x_top hm ?_
    refine x_icmp_geT (tgt := 34) dX7_place_10 (by decide) (nI_le (a := N) (b := i) (by omega) (by omega)) ?_
    refine x_iconst (v := (-1)) dX7_place_34 rfl ?_
    exact x_ireturn dX7_place_35 rfl rfl hq
  | succ n ih =>
    intro i hi hq
    refine x_iload_n dX7_place_2 rfl ?_
    refine x_aload_n dX7_place_3 rfl ?_
    refine t_get fgX7_7_6 dX7_place_4 rfl ?_
    refine x_bipush (v := 14) dX7_place_7 (by decide) ?_
    refine t_aldS 14 dX7_place_9 rfl (by decide) ?_
    refine x_top hm ?_
    refine x_icmp_geF dX7_place_10 34 (by decide) (nI_ge (a := i) (b := N) (by omega) (by omega)) ?_
    refine x_aload_n dX7_place_13 rfl ?_
    refine t_get fgX7_7_6 dX7_place_14 rfl ?_
    refine x_bipush (v := 20) dX7_place_17 (by decide) ?_
    refine x_iload_n dX7_place_19 rfl ?_
    refine x_iadd dX7_place_20 ?_
    refine x_top (y := nI (20 + i)) (nI_add 20 i) ?_
    refine t_aldS (20 + i) dX7_place_21 rfl (by omega) ?_
    refine x_iload_n dX7_place_22 rfl ?_
    refine x_icmp_ne 28 dX7_place_23 (by decide) (fun c23 => ?_) (fun c23 => ?_)
    · refine x_iinc (v := nI (i + 1)) dX7_place_28 rfl (nI_1 _) (by decide) rfl ?_
      refine x_goto (tgt := 2) dX7_place_31 (by decide) ?_
      refine ih (i + 1) (by omega) ?_
      unfold plcS at hq
      rwa [if_neg c23] at hq
    · refine x_iload_n dX7_place_26 rfl ?_
      exact x_ireturn dX7_place_27 rfl rfl (by unfold plcS at hq; rwa [if_pos c23] at hq)
theorem c_X7_place (g : xG) (B : xA) (m : Nat) (F : Nat → Int32) (W : Int64) (S : Nat → Int32) (Z : Nat → Nat → Int32) (x : Int32) (hk : tOk S) : xC g iX7_place 1 [.ref m, .int x] (tA B m F W S Z) (xRet (some (.int (oI (plcS S x (rowS S) 0)))) (tA B m F W S Z)) := by
  show xW g _ _ 0 [some (.ref m), some (.int x), none] [] _ _
  refine x_iconst (v := 0) dX7_place_0 rfl ?_
  refine x_istore_n dX7_place_1 (by decide) rfl ?_
  exact place_l x (rowS S) hk.2.1.1 hk.2.1.2 _ 0 (Nat.zero_add _) ⟨rfl, rfl⟩
