set_option maxRecDepth 100000
theorem c_X7_obstacle_1 (g : xG) (B : xA) (m : Nat) (F : Nat → Int32) (W : Int64) (S : Nat → Int32) (Z : Nat → Nat → Int32) (x : Int32) (hx : inI x 0 (S 13 - 1) = 0) : xC g iX7_obstacle 8 [.ref m, .int x] (tA B m F W S Z) (xRet (some (.int 0)) (tA B m (upd F 6 1) W S Z)) := by
  show xW g _ _ 0 [some (.ref m), some (.int x), none] [] _ _
  refine x_aload_n dX7_obstacle_0 rfl ?_
  refine x_iconst (v := 0) dX7_obstacle_1 rfl ?_
  refine t_put fpX7_72_6 dX7_obstacle_2 (by decide) ⟨rfl, rfl⟩ ?_
  refine x_aload_n dX7_obstacle_5 rfl ?_
  refine x_iload_n dX7_obstacle_6 rfl ?_
  refine t_cvV cvX7_383_X7 dX7_obstacle_7 (c_X7_noFiddler_1 _ _ _ _ _ _ _ x rfl hx) rfl ?_
  refine x_if_eqF dX7_obstacle_10 15 (by decide) (by decide) ?_
  refine x_iconst (v := 0) dX7_obstacle_13 rfl ?_
  exact x_ireturn dX7_obstacle_14 rfl (by first | rfl | exact ite_nar | exact itn_nar) ⟨rfl, by rw [upd_upd]⟩
theorem c_X7_obstacle_ok (g : xG) (B : xA) (m : Nat) (F : Nat → Int32) (W : Int64) (S : Nat → Int32) (Z : Nat → Nat → Int32) (f : Nat) (hk : tOk S) (hf : f < manyS S) : xC g iX7_obstacle 8 [.ref m, .int (nI f)] (tA B m F W S Z) (xRet (some (.int ((roundS S (Z 8)).2 f))) (tA B m (upd F 6 0) W (va_cpy (va_cpy S (Z 1) 0 0 280) (roundS S (Z 8)).1 0 0 280) (zup (zup Z 1 (va_cpy S (Z 1) 0 0 280)) 8 (roundS S (Z 8)).2))) := by
  show xW g _ _ 0 [some (.ref m), some (.int (nI f)), none] [] _ _
  refine x_aload_n dX7_obstacle_0 rfl ?_
  refine x_iconst (v := 0) dX7_obstacle_1 rfl ?_
  refine t_put fpX7_72_6 dX7_obstacle_2 (by decide) ⟨rfl, rfl⟩ ?_
  refine x_aload_n dX7_obstacle_5 rfl ?_
  refine x_iload_n dX7_obstacle_6 rfl ?_
  refine t_cvV cvX7_383_X7 dX7_obstacle_7 (c_X7_noFiddler_0 _ _ _ _ _ _ _ f rfl hk hf) rfl ?_
  refine x_if_eqT (tgt := 15) dX7_obstacle_10 (by decide) (by decide) ?_
  refine x_aload_n dX7_obstacle_15 rfl ?_
  refine t_get fgX7_7_6 dX7_obstacle_16 rfl ?_
  refine x_iconst (v := 0) dX7_obstacle_19 rfl ?_
  refine x_aload_n dX7_obstacle_20 rfl ?_
  refine t_get fgX7_13_6 dX7_obstacle_21 rfl ?_
  refine x_iconst (v := 0) dX7_obstacle_24 rfl ?_
  refine x_csN csX7_246 dX7_obstacle_25 (c_cpySZ _ _ _ _ _ _ _ tz1 0 (by decide) (by decide)) rfl ?_
  refine x_aload_n dX7_obstacle_28 rfl ?_
  refine t_cvV cvX7_345_X7 dX7_obstacle_29 (c_X7_round _ _ _ _ _ _ _ hk) rfl ?_
  refine x_istore_n dX7_obstacle_32 (by decide) rfl ?_
  refine x_aload_n dX7_obstacle_33 rfl ?_
  refine t_get fgX7_13_6 dX7_obstacle_34 rfl ?_
  refine x_iconst (v := 0) dX7_obstacle_37 rfl ?_
  refine x_aload_n dX7_obstacle_38 rfl ?_
  refine t_get fgX7_7_6 dX7_obstacle_39 rfl ?_
  refine x_iconst (v := 0) dX7_obstacle_42 rfl ?_
  refine x_csN csX7_246 dX7_obstacle_43 (c_cpyZS _ _ _ _ _ _ _ tz1 0 (by decide) (by decide)) rfl ?_
  refine x_aload_n dX7_obstacle_46 rfl ?_
  refine t_get fgX7_29_6 dX7_obstacle_47 rfl ?_
  refine x_iload_n dX7_obstacle_50 rfl ?_
  refine t_aldZ tz8 f dX7_obstacle_51 rfl (by have := hk.1.2; omega) ?_
  exact x_ireturn dX7_obstacle_52 rfl (by first | rfl | exact ite_nar | exact itn_nar) ⟨rfl, rfl⟩
theorem c_X7_behindRound_n (g : xG) (B : xA) (m : Nat) (F : Nat → Int32) (W : Int64) (S : Nat → Int32) (Z : Nat → Nat → Int32) (hk : tOk S) : xC g iX7_behindRound 8 [.ref m, .int (-1)] (tA B m F W S Z) (xRet (some (.int (roundI S (Z 8)))) (tA B m F W (va_cpy (va_cpy S (Z 1) 0 0 280) (roundS S (Z 8)).1 0 0 280) (zup (zup Z 1 (va_cpy S (Z 1) 0 0 280)) 8 (roundS S (Z 8)).2))) := by
  show xW g _ _ 0 [some (.ref m), some (.int (-1)), none, none] [] _ _
  refine x_aload_n dX7_behindRound_0 rfl ?_
  refine t_get fgX7_7_6 dX7_behindRound_1 rfl ?_
  refine x_iconst (v := 0) dX7_behindRound_4 rfl ?_
  refine x_aload_n dX7_behindRound_5 rfl ?_
  refine t_get fgX7_13_6 dX7_behindRound_6 rfl ?_
  refine x_iconst (v := 0) dX7_behindRound_9 rfl ?_
  refine x_csN csX7_246 dX7_behindRound_10 (c_cpySZ _ _ _ _ _ _ _ tz1 0 (by decide) (by decide)) rfl ?_
  refine x_aload_n dX7_behindRound_13 rfl ?_
  refine t_cvV cvX7_345_X7 dX7_behindRound_14 (c_X7_round _ _ _ _ _ _ _ hk) rfl ?_
  refine x_istore_n dX7_behindRound_17 (by decide) rfl ?_
  refine x_iload_n dX7_behindRound_18 rfl ?_
  refine x_iconst (v := (-1)) dX7_behindRound_19 rfl ?_
  refine x_icmp_neF dX7_behindRound_20 27 (by decide) rfl ?_
  refine x_iload_n dX7_behindRound_23 rfl ?_
  refine x_goto (tgt := 33) dX7_behindRound_24 (by decide) ?_
  refine x_istore_n dX7_behindRound_33 (by decide) rfl ?_
  refine x_aload_n dX7_behindRound_34 rfl ?_
  refine t_get fgX7_13_6 dX7_behindRound_35 rfl ?_
  refine x_iconst (v := 0) dX7_behindRound_38 rfl ?_
  refine x_aload_n dX7_behindRound_39 rfl ?_
  refine t_get fgX7_7_6 dX7_behindRound_40 rfl ?_
  refine x_iconst (v := 0) dX7_behindRound_43 rfl ?_
  refine x_csN csX7_246 dX7_behindRound_44 (c_cpyZS _ _ _ _ _ _ _ tz1 0 (by decide) (by decide)) rfl ?_
  refine x_iload_n dX7_behindRound_47 rfl ?_
  exact x_ireturn dX7_behindRound_48 rfl (by first | rfl | exact ite_nar | exact itn_nar) ⟨rfl, rfl⟩
theorem c_X7_behindRound_w (g : xG) (B : xA) (m : Nat) (F : Nat → Int32) (W : Int64) (S : Nat → Int32) (Z : Nat → Nat → Int32) (w : Nat) (hk : tOk S) (hw : w < 280) : xC g iX7_behindRound 8 [.ref m, .int (nI w)] (tA B m F W S Z) (xRet (some (.int ((roundS S (Z 8)).1 w))) (tA B m F W (va_cpy (va_cpy S (Z 1) 0 0 280) (roundS S (Z 8)).1 0 0 280) (zup (zup Z 1 (va_cpy S (Z 1) 0 0 280)) 8 (roundS S (Z 8)).2))) := by
  show xW g _ _ 0 [some (.ref m), some (.int (nI w)), none, none] [] _ _
  refine x_aload_n dX7_behindRound_0 rfl ?_
  refine t_get fgX7_7_6 dX7_behindRound_1 rfl ?_
  refine x_iconst (v := 0) dX7_behindRound_4 rfl ?_
  refine x_aload_n dX7_behindRound_5 rfl ?_
  refine t_get fgX7_13_6 dX7_behindRound_6 rfl ?_
  refine x_iconst (v := 0) dX7_behindRound_9 rfl ?_
  refine x_csN csX7_246 dX7_behindRound_10 (c_cpySZ _ _ _ _ _ _ _ tz1 0 (by decide) (by decide)) rfl ?_
  refine x_aload_n dX7_behindRound_13 rfl ?_
  refine t_cvV cvX7_345_X7 dX7_behindRound_14 (c_X7_round _ _ _ _ _ _ _ hk) rfl ?_
  refine x_istore_n dX7_behindRound_17 (by decide) rfl ?_
  refine x_iload_n dX7_behindRound_18 rfl ?_
  refine x_iconst (v := (-1)) dX7_behindRound_19 rfl ?_
  refine x_icmp_neT (tgt := 27) dX7_behindRound_20 (by decide) (nI_m1 (by omega)) ?_
  refine x_aload_n dX7_behindRound_27 rfl ?_
  refine t_get fgX7_7_6 dX7_behindRound_28 rfl ?_
  refine x_iload_n dX7_behindRound_31 rfl ?_
  refine t_aldS w dX7_behindRound_32 rfl (by omega) ?_
  refine x_istore_n dX7_behindRound_33 (by decide) rfl ?_
  refine x_aload_n dX7_behindRound_34 rfl ?_
  refine t_get fgX7_13_6 dX7_behindRound_35 rfl ?_
  refine x_iconst (v := 0) dX7_behindRound_38 rfl ?_
  refine x_aload_n dX7_behindRound_39 rfl ?_
  refine t_get fgX7_7_6 dX7_behindRound_40 rfl ?_
  refine x_iconst (v := 0) dX7_behindRound_43 rfl ?_
  refine x_csN csX7_246 dX7_behindRound_44 (c_cpyZS _ _ _ _ _ _ _ tz1 0 (by decide) (by decide)) rfl ?_
  refine x_iload_n dX7_behindRound_47 rfl ?_
  exact x_ireturn dX7_behindRound_48 rfl (by first | rfl | exact ite_nar | exact itn_nar) ⟨rfl, rfl⟩
theorem c_X7_nextReference_1 (g : xG) (B : xA) (m : Nat) (F : Nat → Int32) (W : Int64) (S : Nat → Int32) (Z : Nat → Nat → Int32) (x : Int32) (hx : inI x 0 (S 13 - 1) = 0) : xC g iX7_nextReference 9 [.ref m, .int x] (tA B m F W S Z) (xRet (some (.int 0)) (tA B m (upd F 6 1) W S Z)) := by
  show xW g _ _ 0 [some (.ref m), some (.int x)] [] _ _
  refine x_aload_n dX7_nextReference_0 rfl ?_
  refine x_iconst (v := 0) dX7_nextReference_1 rfl ?_
  refine t_put fpX7_72_6 dX7_nextReference_2 (by decide) ⟨rfl, rfl⟩ ?_
  refine x_aload_n dX7_nextReference_5 rfl ?_
  refine x_iload_n dX7_nextReference_6 rfl ?_
  refine t_cvV cvX7_383_X7 dX7_nextReference_7 (c_X7_noFiddler_1 _ _ _ _ _ _ _ x rfl hx) rfl ?_
  refine x_if_eqF dX7_nextReference_10 17 (by decide) (by decide) ?_
  refine x_iconst (v := 0) dX7_nextReference_13 rfl ?_
  refine x_goto (tgt := 26) dX7_nextReference_14 (by decide) ?_
  exact x_ireturn dX7_nextReference_26 rfl (by first | rfl | exact ite_nar | exact itn_nar) ⟨rfl, by rw [upd_upd]⟩
theorem c_X7_nextReference_ok (g : xG) (B : xA) (m : Nat) (F : Nat → Int32) (W : Int64) (S : Nat → Int32) (Z : Nat → Nat → Int32) (f : Nat) (hk : tOk S) (hf : f < manyS S) : xC g iX7_nextReference 9 [.ref m, .int (nI f)] (tA B m F W S Z) (xRet (some (.int (hs (roundS S (Z 8)).1 f 3))) (tA B m (upd F 6 0) W (va_cpy (va_cpy S (Z 1) 0 0 280) (roundS S (Z 8)).1 0 0 280) (zup (zup Z 1 (va_cpy S (Z 1) 0 0 280)) 8 (roundS S (Z 8)).2))) := by
  show xW g _ _ 0 [some (.ref m), some (.int (nI f))] [] _ _
  refine x_aload_n dX7_nextReference_0 rfl ?_
  refine x_iconst (v := 0) dX7_nextReference_1 rfl ?_
  refine t_put fpX7_72_6 dX7_nextReference_2 (by decide) ⟨rfl, rfl⟩ ?_
  refine x_aload_n dX7_nextReference_5 rfl ?_
  refine x_iload_n dX7_nextReference_6 rfl ?_
  refine t_cvV cvX7_383_X7 dX7_nextReference_7 (c_X7_noFiddler_0 _ _ _ _ _ _ _ f rfl hk hf) rfl ?_
  refine x_if_eqT (tgt := 17) dX7_nextReference_10 (by decide) (by decide) ?_
  refine x_aload_n dX7_nextReference_17 rfl ?_
  refine x_iload_n dX7_nextReference_18 rfl ?_
  refine x_iconst (v := 3) dX7_nextReference_19 rfl ?_
  refine x_csV csX7_65 dX7_nextReference_20 (c_X7_at _ _ f 3) rfl ?_
  refine t_cvV cvX7_415_X7 dX7_nextReference_23 (c_X7_behindRound_w _ _ _ _ _ _ _ (70 + 21 * f + 3) hk (by have := hk.1.2; omega)) rfl ?_
  exact x_ireturn dX7_nextReference_26 rfl (by first | rfl | exact ite_nar | exact itn_nar) ⟨rfl, rfl⟩
theorem c_X7_nextTurns (g : xG) (B : xA) (m : Nat) (F : Nat → Int32) (W : Int64) (S : Nat → Int32) (Z : Nat → Nat → Int32) (hk : tOk S) : xC g iX7_nextTurns 9 [.ref m] (tA B m F W S Z) (xRet (some (.int ((roundS S (Z 8)).1 16 - (va_cpy (va_cpy S (Z 1) 0 0 280) (roundS S (Z 8)).1 0 0 280) 16))) (tA B m (upd F 6 0) W (va_cpy (va_cpy S (Z 1) 0 0 280) (roundS S (Z 8)).1 0 0 280) (zup (zup Z 1 (va_cpy S (Z 1) 0 0 280)) 8 (roundS S (Z 8)).2))) := by
  show xW g _ _ 0 [some (.ref m)] [] _ _
  refine x_aload_n dX7_nextTurns_0 rfl ?_
  refine x_iconst (v := 0) dX7_nextTurns_1 rfl ?_
  refine t_put fpX7_72_6 dX7_nextTurns_2 (by decide) ⟨rfl, rfl⟩ ?_
  refine x_aload_n dX7_nextTurns_5 rfl ?_
  refine x_bipush (v := 16) dX7_nextTurns_6 (by decide) ?_
  refine t_cvV cvX7_415_X7 dX7_nextTurns_8 (c_X7_behindRound_w _ _ _ _ _ _ _ 16 hk (by decide)) rfl ?_
  refine x_aload_n dX7_nextTurns_11 rfl ?_
  refine t_get fgX7_7_6 dX7_nextTurns_12 rfl ?_
  refine x_bipush (v := 16) dX7_nextTurns_15 (by decide) ?_
  refine t_aldS 16 dX7_nextTurns_17 rfl (by decide) ?_
  refine x_isub dX7_nextTurns_18 ?_
  exact x_ireturn dX7_nextTurns_19 rfl (by first | rfl | exact ite_nar | exact itn_nar) ⟨rfl, rfl⟩
theorem c_X7_nextInTune (g : xG) (B : xA) (m : Nat) (F : Nat → Int32) (W : Int64) (S : Nat → Int32) (Z : Nat → Nat → Int32) (hk : tOk S) : xC g iX7_nextInTune 9 [.ref m] (tA B m F W S Z) (xRet (some (.int (roundI S (Z 8)))) (tA B m (upd F 6 0) W (va_cpy (va_cpy S (Z 1) 0 0 280) (roundS S (Z 8)).1 0 0 280) (zup (zup Z 1 (va_cpy S (Z 1) 0 0 280)) 8 (roundS S (Z 8)).2))) := by
  show xW g _ _ 0 [some (.ref m)] [] _ _
  refine x_aload_n dX7_nextInTune_0 rfl ?_
  refine x_iconst (v := 0) dX7_nextInTune_1 rfl ?_
  refine t_put fpX7_72_6 dX7_nextInTune_2 (by decide) ⟨rfl, rfl⟩ ?_
  refine x_aload_n dX7_nextInTune_5 rfl ?_
  refine x_iconst (v := (-1)) dX7_nextInTune_6 rfl ?_
  refine t_cvV cvX7_415_X7 dX7_nextInTune_7 (c_X7_behindRound_n _ _ _ _ _ _ _ hk) rfl ?_
  exact x_ireturn dX7_nextInTune_10 rfl (by first | rfl | exact ite_nar | exact itn_nar) ⟨rfl, rfl⟩
theorem c_X7_behindHours (g : xG) (B : xA) (m : Nat) (F : Nat → Int32) (W : Int64) (S : Nat → Int32) (Z : Nat → Nat → Int32) (w j : Nat) (hk : tOk S) (hw : w < 280) (hj : j ≤ 1000) : xC g iX7_behindHours 6 [.ref m, .int (nI w), .int (nI j)] (tA B m F W S Z) (xRet (some (.int (hoursS j S w))) (tA B m F W (va_cpy (va_cpy S (Z 1) 0 0 280) (hoursS j S) 0 0 280) (zup Z 1 (va_cpy S (Z 1) 0 0 280)))) := by
  show xW g _ _ 0 [some (.ref m), some (.int (nI w)), some (.int (nI j)), none, none] [] _ _
  refine x_aload_n dX7_behindHours_0 rfl ?_
  refine t_get fgX7_7_6 dX7_behindHours_1 rfl ?_
  refine x_iconst (v := 0) dX7_behindHours_4 rfl ?_
  refine x_aload_n dX7_behindHours_5 rfl ?_
  refine t_get fgX7_13_6 dX7_behindHours_6 rfl ?_
  refine x_iconst (v := 0) dX7_behindHours_9 rfl ?_
  refine x_csN csX7_246 dX7_behindHours_10 (c_cpySZ _ _ _ _ _ _ _ tz1 0 (by decide) (by decide)) rfl ?_
  refine x_aload_n dX7_behindHours_13 rfl ?_
  refine x_iload_n dX7_behindHours_14 rfl ?_
  refine t_cvV cvX7_342_X7 dX7_behindHours_15 (c_X7_hours1 _ _ _ _ _ _ _ j hk hj) rfl ?_
  refine x_istore_n dX7_behindHours_18 (by decide) rfl ?_
  refine x_aload_n dX7_behindHours_19 rfl ?_
  refine t_get fgX7_7_6 dX7_behindHours_20 rfl ?_
  refine x_iload_n dX7_behindHours_23 rfl ?_
  refine t_aldS w dX7_behindHours_24 rfl (by omega) ?_
  refine x_istore dX7_behindHours_25 (by decide) rfl ?_
  refine x_aload_n dX7_behindHours_27 rfl ?_
  refine t_get fgX7_13_6 dX7_behindHours_28 rfl ?_
  refine x_iconst (v := 0) dX7_behindHours_31 rfl ?_
  refine x_aload_n dX7_behindHours_32 rfl ?_
  refine t_get fgX7_7_6 dX7_behindHours_33 rfl ?_
  refine x_iconst (v := 0) dX7_behindHours_36 rfl ?_
  refine x_csN csX7_246 dX7_behindHours_37 (c_cpyZS _ _ _ _ _ _ _ tz1 0 (by decide) (by decide)) rfl ?_
  refine x_iload dX7_behindHours_40 rfl ?_
  exact x_ireturn dX7_behindHours_42 rfl (by first | rfl | exact ite_nar | exact itn_nar) ⟨rfl, rfl⟩
theorem c_X7_deviationAfter_1a (g : xG) (B : xA) (m : Nat) (F : Nat → Int32) (W : Int64) (S : Nat → Int32) (Z : Nat → Nat → Int32) (x y : Int32) (hx : inI x 0 (S 13 - 1) = 0) (c : Int32) : xC g iX7_deviationAfter 7 [.ref m, .int x, .int y, .int c] (tA B m F W S Z) (xRet (some (.int 0)) (tA B m (upd F 6 1) W S Z)) := by
  show xW g _ _ 0 [some (.ref m), some (.int x), some (.int y), some (.int c)] [] _ _
  refine x_aload_n dX7_deviationAfter_0 rfl ?_
  refine x_iconst (v := 0) dX7_deviationAfter_1 rfl ?_
  refine t_put fpX7_72_6 dX7_deviationAfter_2 (by decide) ⟨rfl, rfl⟩ ?_
  refine x_aload_n dX7_deviationAfter_5 rfl ?_
  refine x_iload_n dX7_deviationAfter_6 rfl ?_
  refine x_iload_n dX7_deviationAfter_7 rfl ?_
  refine t_cvV cvX7_388_X7 dX7_deviationAfter_8 (c_X7_noString_1a _ _ _ _ _ _ _ x y rfl hx) rfl ?_
  refine x_if_neT (tgt := 53) dX7_deviationAfter_11 (by decide) (by decide) ?_
  refine x_iconst (v := 0) dX7_deviationAfter_53 rfl ?_
  exact x_ireturn dX7_deviationAfter_54 rfl (by first | rfl | exact ite_nar | exact itn_nar) ⟨rfl, by rw [upd_upd]⟩
theorem c_X7_deviationAfter_1b (g : xG) (B : xA) (m : Nat) (F : Nat → Int32) (W : Int64) (S : Nat → Int32) (Z : Nat → Nat → Int32) (f : Nat) (y : Int32) (hk : tOk S) (hf : f < manyS S) (hy : inI y 0 3 = 0) (c : Int32) : xC g iX7_deviationAfter 7 [.ref m, .int (nI f), .int y, .int c] (tA B m F W S Z) (xRet (some (.int 0)) (tA B m (upd F 6 1) W S Z)) := by
  show xW g _ _ 0 [some (.ref m), some (.int (nI f)), some (.int y), some (.int c)] [] _ _
  refine x_aload_n dX7_deviationAfter_0 rfl ?_
  refine x_iconst (v := 0) dX7_deviationAfter_1 rfl ?_
  refine t_put fpX7_72_6 dX7_deviationAfter_2 (by decide) ⟨rfl, rfl⟩ ?_
  refine x_aload_n dX7_deviationAfter_5 rfl ?_
  refine x_iload_n dX7_deviationAfter_6 rfl ?_
  refine x_iload_n dX7_deviationAfter_7 rfl ?_
  refine t_cvV cvX7_388_X7 dX7_deviationAfter_8 (c_X7_noString_1b _ _ _ _ _ _ _ f y rfl hk hf hy) rfl ?_
  refine x_if_neT (tgt := 53) dX7_deviationAfter_11 (by decide) (by decide) ?_
  refine x_iconst (v := 0) dX7_deviationAfter_53 rfl ?_
  exact x_ireturn dX7_deviationAfter_54 rfl (by first | rfl | exact ite_nar | exact itn_nar) ⟨rfl, by rw [upd_upd]⟩
theorem c_X7_deviationAfter_2 (g : xG) (B : xA) (m : Nat) (F : Nat → Int32) (W : Int64) (S : Nat → Int32) (Z : Nat → Nat → Int32) (f k : Nat) (hk : tOk S) (hf : f < manyS S) (h4 : k < 4) (c : Int32) (hc : inI c 0 200 = 0) : xC g iX7_deviationAfter 7 [.ref m, .int (nI f), .int (nI k), .int c] (tA B m F W S Z) (xRet (some (.int 0)) (tA B m (upd F 6 2) W S Z)) := by
  show xW g _ _ 0 [some (.ref m), some (.int (nI f)), some (.int (nI k)), some (.int c)] [] _ _
  refine x_aload_n dX7_deviationAfter_0 rfl ?_
  refine x_iconst (v := 0) dX7_deviationAfter_1 rfl ?_
  refine t_put fpX7_72_6 dX7_deviationAfter_2 (by decide) ⟨rfl, rfl⟩ ?_
  refine x_aload_n dX7_deviationAfter_5 rfl ?_
  refine x_iload_n dX7_deviationAfter_6 rfl ?_
  refine x_iload_n dX7_deviationAfter_7 rfl ?_
  refine t_cvV cvX7_388_X7 dX7_deviationAfter_8 (c_X7_noString_0 _ _ _ _ _ _ _ f k rfl hk hf h4) rfl ?_
  refine x_if_neF dX7_deviationAfter_11 53 (by decide) (by decide) ?_
  refine x_aload_n dX7_deviationAfter_14 rfl ?_
  refine x_iload_n dX7_deviationAfter_15 rfl ?_
  refine x_i2l dX7_deviationAfter_16 ?_
  refine x_lconst (v := 0) dX7_deviationAfter_17 rfl ?_
  refine x_ldc2 (v := 200) q4183 dX7_deviationAfter_18 ?_
  refine x_csV csX7_144 dX7_deviationAfter_21 (ci_0 _ _ c 0 200 _ _ _ rfl rfl rfl hc) rfl ?_
  refine x_if_neF dX7_deviationAfter_24 31 (by decide) (by decide) ?_
  refine x_iconst (v := 1) dX7_deviationAfter_27 rfl ?_
  refine x_goto (tgt := 32) dX7_deviationAfter_28 (by decide) ?_
  refine x_iconst (v := 2) dX7_deviationAfter_32 rfl ?_
  refine t_cvV cvX7_136_X7 dX7_deviationAfter_33 (st_1 _ _ _ _ _ _ _ _ (by decide) rfl) rfl ?_
  refine x_if_neT (tgt := 53) dX7_deviationAfter_36 (by decide) (by decide) ?_
  refine x_iconst (v := 0) dX7_deviationAfter_53 rfl ?_
  exact x_ireturn dX7_deviationAfter_54 rfl (by first | rfl | exact ite_nar | exact itn_nar) ⟨rfl, by rw [upd_upd]⟩
theorem c_X7_deviationAfter_3 (g : xG) (B : xA) (m : Nat) (F : Nat → Int32) (W : Int64) (S : Nat → Int32) (Z : Nat → Nat → Int32) (f k : Nat) (hk : tOk S) (hf : f < manyS S) (h4 : k < 4) (c : Int32) (hc : ¬ inI c 0 200 = 0) (ho : hs S f (13 + k) = 1) : xC g iX7_deviationAfter 7 [.ref m, .int (nI f), .int (nI k), .int c] (tA B m F W S Z) (xRet (some (.int 0)) (tA B m (upd F 6 3) W S Z)) := by
  have f10 : f < 10 := by have := hk.1.2; omega
  show xW g _ _ 0 [some (.ref m), some (.int (nI f)), some (.int (nI k)), some (.int c)] [] _ _
  refine x_aload_n dX7_deviationAfter_0 rfl ?_
  refine x_iconst (v := 0) dX7_deviationAfter_1 rfl ?_
  refine t_put fpX7_72_6 dX7_deviationAfter_2 (by decide) ⟨rfl, rfl⟩ ?_
  refine x_aload_n dX7_deviationAfter_5 rfl ?_
  refine x_iload_n dX7_deviationAfter_6 rfl ?_
  refine x_iload_n dX7_deviationAfter_7 rfl ?_
  refine t_cvV cvX7_388_X7 dX7_deviationAfter_8 (c_X7_noString_0 _ _ _ _ _ _ _ f k rfl hk hf h4) rfl ?_
  refine x_if_neF dX7_deviationAfter_11 53 (by decide) (by decide) ?_
  refine x_aload_n dX7_deviationAfter_14 rfl ?_
  refine x_iload_n dX7_deviationAfter_15 rfl ?_
  refine x_i2l dX7_deviationAfter_16 ?_
  refine x_lconst (v := 0) dX7_deviationAfter_17 rfl ?_
  refine x_ldc2 (v := 200) q4183 dX7_deviationAfter_18 ?_
  refine x_csV csX7_144 dX7_deviationAfter_21 (ci_1 _ _ c 0 200 _ _ _ rfl rfl rfl hc) rfl ?_
  refine x_if_neT (tgt := 31) dX7_deviationAfter_24 (by decide) (by decide) ?_
  refine x_iconst (v := 0) dX7_deviationAfter_31 rfl ?_
  refine x_iconst (v := 2) dX7_deviationAfter_32 rfl ?_
  refine t_cvV cvX7_136_X7 dX7_deviationAfter_33 (st_0 _ _ _ _ _ _ _ _ (by decide) rfl) rfl ?_
  refine x_if_neF dX7_deviationAfter_36 53 (by decide) (by decide) ?_
  refine x_aload_n dX7_deviationAfter_39 rfl ?_
  refine x_aload_n dX7_deviationAfter_40 rfl ?_
  refine x_iload_n dX7_deviationAfter_41 rfl ?_
  refine x_iload_n dX7_deviationAfter_42 rfl ?_
  refine t_cvV cvX7_85_X7 dX7_deviationAfter_43 (c_X7_isOff _ _ _ _ _ _ _ f k f10 h4) rfl ?_
  refine x_top (flI_y ho : flI (hs S f (13 + k) = 1) = 1) ?_
  refine x_iconst (v := 3) dX7_deviationAfter_46 rfl ?_
  refine t_cvV cvX7_136_X7 dX7_deviationAfter_47 (st_1 _ _ _ _ _ _ _ _ (by decide) rfl) rfl ?_
  refine x_if_eqF dX7_deviationAfter_50 55 (by decide) (by decide) ?_
  refine x_iconst (v := 0) dX7_deviationAfter_53 rfl ?_
  exact x_ireturn dX7_deviationAfter_54 rfl (by first | rfl | exact ite_nar | exact itn_nar) ⟨rfl, by rw [upd_upd]⟩
theorem c_X7_deviationAfter_ok (g : xG) (B : xA) (m : Nat) (F : Nat → Int32) (W : Int64) (S : Nat → Int32) (Z : Nat → Nat → Int32) (f k : Nat) (hk : tOk S) (hf : f < manyS S) (h4 : k < 4) (j : Nat) (hj : j ≤ 200) (ho : ¬ hs S f (13 + k) = 1) : xC g iX7_deviationAfter 7 [.ref m, .int (nI f), .int (nI k), .int (nI j)] (tA B m F W S Z) (xRet (some (.int (hs (hoursS j S) f (9 + k)))) (tA B m (upd F 6 0) W (va_cpy (va_cpy S (Z 1) 0 0 280) (hoursS j S) 0 0 280) (zup Z 1 (va_cpy S (Z 1) 0 0 280)))) := by
  have f10 : f < 10 := by have := hk.1.2; omega
  show xW g _ _ 0 [some (.ref m), some (.int (nI f)), some (.int (nI k)), some (.int (nI j))] [] _ _
  refine x_aload_n dX7_deviationAfter_0 rfl ?_
  refine x_iconst (v := 0) dX7_deviationAfter_1 rfl ?_
  refine t_put fpX7_72_6 dX7_deviationAfter_2 (by decide) ⟨rfl, rfl⟩ ?_
  refine x_aload_n dX7_deviationAfter_5 rfl ?_
  refine x_iload_n dX7_deviationAfter_6 rfl ?_
  refine x_iload_n dX7_deviationAfter_7 rfl ?_
  refine t_cvV cvX7_388_X7 dX7_deviationAfter_8 (c_X7_noString_0 _ _ _ _ _ _ _ f k rfl hk hf h4) rfl ?_
  refine x_if_neF dX7_deviationAfter_11 53 (by decide) (by decide) ?_
  refine x_aload_n dX7_deviationAfter_14 rfl ?_
  refine x_iload_n dX7_deviationAfter_15 rfl ?_
  refine x_i2l dX7_deviationAfter_16 ?_
  refine x_lconst (v := 0) dX7_deviationAfter_17 rfl ?_
  refine x_ldc2 (v := 200) q4183 dX7_deviationAfter_18 ?_
  refine x_csV csX7_144 dX7_deviationAfter_21 (ci_1 _ _ (nI j) 0 200 _ _ _ rfl rfl rfl (in_ix (n := 201) (by omega) (by decide))) rfl ?_
  refine x_if_neT (tgt := 31) dX7_deviationAfter_24 (by decide) (by decide) ?_
  refine x_iconst (v := 0) dX7_deviationAfter_31 rfl ?_
  refine x_iconst (v := 2) dX7_deviationAfter_32 rfl ?_
  refine t_cvV cvX7_136_X7 dX7_deviationAfter_33 (st_0 _ _ _ _ _ _ _ _ (by decide) rfl) rfl ?_
  refine x_if_neF dX7_deviationAfter_36 53 (by decide) (by decide) ?_
  refine x_aload_n dX7_deviationAfter_39 rfl ?_
  refine x_aload_n dX7_deviationAfter_40 rfl ?_
  refine x_iload_n dX7_deviationAfter_41 rfl ?_
  refine x_iload_n dX7_deviationAfter_42 rfl ?_
  refine t_cvV cvX7_85_X7 dX7_deviationAfter_43 (c_X7_isOff _ _ _ _ _ _ _ f k f10 h4) rfl ?_
  refine x_top (flI_no ho : flI (hs S f (13 + k) = 1) = 0) ?_
  refine x_iconst (v := 3) dX7_deviationAfter_46 rfl ?_
  refine t_cvV cvX7_136_X7 dX7_deviationAfter_47 (st_0 _ _ _ _ _ _ _ _ (by decide) rfl) rfl ?_
  refine x_if_eqT (tgt := 55) dX7_deviationAfter_50 (by decide) (by decide) ?_
  refine x_aload_n dX7_deviationAfter_55 rfl ?_
  refine x_iload_n dX7_deviationAfter_56 rfl ?_
  refine x_bipush (v := 9) dX7_deviationAfter_57 (by decide) ?_
  refine x_iload_n dX7_deviationAfter_59 rfl ?_
  refine x_iadd dX7_deviationAfter_60 ?_
  refine x_top (y := nI (9 + k)) (nI_add 9 k) ?_
  refine x_csV csX7_65 dX7_deviationAfter_61 (c_X7_at _ _ f (9 + k)) rfl ?_
  refine x_iload_n dX7_deviationAfter_64 rfl ?_
  refine t_cvV cvX7_426_X7 dX7_deviationAfter_65 (c_X7_behindHours _ _ _ _ _ _ _ (70 + 21 * f + (9 + k)) j hk (by omega) (by omega)) rfl ?_
  exact x_ireturn dX7_deviationAfter_68 rfl (by first | rfl | exact ite_nar | exact itn_nar) ⟨rfl, rfl⟩
theorem c_X7_temperatureAfter_1 (g : xG) (B : xA) (m : Nat) (F : Nat → Int32) (W : Int64) (S : Nat → Int32) (Z : Nat → Nat → Int32) (c : Int32) (hc : inI c 0 200 = 0) : xC g iX7_temperatureAfter 7 [.ref m, .int c] (tA B m F W S Z) (xRet (some (.int 0)) (tA B m (upd F 6 1) W S Z)) := by
  show xW g _ _ 0 [some (.ref m), some (.int c)] [] _ _
  refine x_aload_n dX7_temperatureAfter_0 rfl ?_
  refine x_iconst (v := 0) dX7_temperatureAfter_1 rfl ?_
  refine t_put fpX7_72_6 dX7_temperatureAfter_2 (by decide) ⟨rfl, rfl⟩ ?_
  refine x_aload_n dX7_temperatureAfter_5 rfl ?_
  refine x_iload_n dX7_temperatureAfter_6 rfl ?_
  refine x_i2l dX7_temperatureAfter_7 ?_
  refine x_lconst (v := 0) dX7_temperatureAfter_8 rfl ?_
  refine x_ldc2 (v := 200) q4183 dX7_temperatureAfter_9 ?_
  refine x_csV csX7_144 dX7_temperatureAfter_12 (ci_0 _ _ c 0 200 _ _ _ rfl rfl rfl hc) rfl ?_
  refine x_if_neF dX7_temperatureAfter_15 22 (by decide) (by decide) ?_
  refine x_iconst (v := 1) dX7_temperatureAfter_18 rfl ?_
  refine x_goto (tgt := 23) dX7_temperatureAfter_19 (by decide) ?_
  refine x_iconst (v := 1) dX7_temperatureAfter_23 rfl ?_
  refine t_cvV cvX7_136_X7 dX7_temperatureAfter_24 (st_1 _ _ _ _ _ _ _ _ (by decide) rfl) rfl ?_
  refine x_if_eqF dX7_temperatureAfter_27 34 (by decide) (by decide) ?_
  refine x_iconst (v := 0) dX7_temperatureAfter_30 rfl ?_
  refine x_goto (tgt := 40) dX7_temperatureAfter_31 (by decide) ?_
  exact x_ireturn dX7_temperatureAfter_40 rfl (by first | rfl | exact ite_nar | exact itn_nar) ⟨rfl, by rw [upd_upd]⟩
theorem c_X7_temperatureAfter_ok (g : xG) (B : xA) (m : Nat) (F : Nat → Int32) (W : Int64) (S : Nat → Int32) (Z : Nat → Nat → Int32) (j : Nat) (hk : tOk S) (hj : j ≤ 200) : xC g iX7_temperatureAfter 7 [.ref m, .int (nI j)] (tA B m F W S Z) (xRet (some (.int (hoursS j S 1))) (tA B m (upd F 6 0) W (va_cpy (va_cpy S (Z 1) 0 0 280) (hoursS j S) 0 0 280) (zup Z 1 (va_cpy S (Z 1) 0 0 280)))) := by
  show xW g _ _ 0 [some (.ref m), some (.int (nI j))] [] _ _
  refine x_aload_n dX7_temperatureAfter_0 rfl ?_
  refine x_iconst (v := 0) dX7_temperatureAfter_1 rfl ?_
  refine t_put fpX7_72_6 dX7_temperatureAfter_2 (by decide) ⟨rfl, rfl⟩ ?_
  refine x_aload_n dX7_temperatureAfter_5 rfl ?_
  refine x_iload_n dX7_temperatureAfter_6 rfl ?_
  refine x_i2l dX7_temperatureAfter_7 ?_
  refine x_lconst (v := 0) dX7_temperatureAfter_8 rfl ?_
  refine x_ldc2 (v := 200) q4183 dX7_temperatureAfter_9 ?_
  refine x_csV csX7_144 dX7_temperatureAfter_12 (ci_1 _ _ (nI j) 0 200 _ _ _ rfl rfl rfl (in_ix (n := 201) (by omega) (by decide))) rfl ?_
  refine x_if_neT (tgt := 22) dX7_temperatureAfter_15 (by decide) (by decide) ?_
  refine x_iconst (v := 0) dX7_temperatureAfter_22 rfl ?_
  refine x_iconst (v := 1) dX7_temperatureAfter_23 rfl ?_
  refine t_cvV cvX7_136_X7 dX7_temperatureAfter_24 (st_0 _ _ _ _ _ _ _ _ (by decide) rfl) rfl ?_
  refine x_if_eqT (tgt := 34) dX7_temperatureAfter_27 (by decide) (by decide) ?_
  refine x_aload_n dX7_temperatureAfter_34 rfl ?_
  refine x_iconst (v := 1) dX7_temperatureAfter_35 rfl ?_
  refine x_iload_n dX7_temperatureAfter_36 rfl ?_
  refine t_cvV cvX7_426_X7 dX7_temperatureAfter_37 (c_X7_behindHours _ _ _ _ _ _ _ 1 j hk (by omega) (by omega)) rfl ?_
  exact x_ireturn dX7_temperatureAfter_40 rfl (by first | rfl | exact ite_nar | exact itn_nar) ⟨rfl, rfl⟩
theorem c_X7_truncate_1 (g : xG) (B : xA) (m : Nat) (F : Nat → Int32) (W : Int64) (S : Nat → Int32) (Z : Nat → Nat → Int32) (x : Int32) (hx : inI x 0 (F 12) = 0) : xC g iX7_truncate 3 [.ref m, .int x] (tA B m F W S Z) (xRet (some (.int 0)) (tA B m (upd F 6 1) W S Z)) := by
  show xW g _ _ 0 [some (.ref m), some (.int x)] [] _ _
  refine x_aload_n dX7_truncate_0 rfl ?_
  refine x_iconst (v := 0) dX7_truncate_1 rfl ?_
  refine t_put fpX7_72_6 dX7_truncate_2 (by decide) ⟨rfl, rfl⟩ ?_
  refine x_aload_n dX7_truncate_5 rfl ?_
  refine x_iload_n dX7_truncate_6 rfl ?_
  refine x_i2l dX7_truncate_7 ?_
  refine x_lconst (v := 0) dX7_truncate_8 rfl ?_
  refine x_aload_n dX7_truncate_9 rfl ?_
  refine t_get fgX7_130_6 dX7_truncate_10 rfl ?_
  refine x_i2l dX7_truncate_13 ?_
  refine x_csV csX7_144 dX7_truncate_14 (ci_0 _ _ x 0 (F 12) _ _ _ rfl rfl rfl hx) rfl ?_
  refine x_if_neF dX7_truncate_17 24 (by decide) (by decide) ?_
  refine x_iconst (v := 1) dX7_truncate_20 rfl ?_
  refine x_goto (tgt := 25) dX7_truncate_21 (by decide) ?_
  refine x_iconst (v := 1) dX7_truncate_25 rfl ?_
  refine t_cvV cvX7_136_X7 dX7_truncate_26 (st_1 _ _ _ _ _ _ _ _ (by decide) rfl) rfl ?_
  refine x_if_eqF dX7_truncate_29 34 (by decide) (by decide) ?_
  refine x_iconst (v := 0) dX7_truncate_32 rfl ?_
  exact x_ireturn dX7_truncate_33 rfl (by first | rfl | exact ite_nar | exact itn_nar) ⟨rfl, by rw [upd_upd]⟩
theorem c_X7_truncate_ok (g : xG) (B : xA) (m : Nat) (F : Nat → Int32) (W : Int64) (S : Nat → Int32) (Z : Nat → Nat → Int32) (x : Int32) (hx : ¬ inI x 0 (F 12) = 0) : xC g iX7_truncate 3 [.ref m, .int x] (tA B m F W S Z) (xRet (some (.int x)) (tA B m (upd (upd F 6 0) 12 x) W S Z)) := by
  show xW g _ _ 0 [some (.ref m), some (.int x)] [] _ _
  refine x_aload_n dX7_truncate_0 rfl ?_
  refine x_iconst (v := 0) dX7_truncate_1 rfl ?_
  refine t_put fpX7_72_6 dX7_truncate_2 (by decide) ⟨rfl, rfl⟩ ?_
  refine x_aload_n dX7_truncate_5 rfl ?_
  refine x_iload_n dX7_truncate_6 rfl ?_
  refine x_i2l dX7_truncate_7 ?_
  refine x_lconst (v := 0) dX7_truncate_8 rfl ?_
  refine x_aload_n dX7_truncate_9 rfl ?_
  refine t_get fgX7_130_6 dX7_truncate_10 rfl ?_
  refine x_i2l dX7_truncate_13 ?_
  refine x_csV csX7_144 dX7_truncate_14 (ci_1 _ _ x 0 (F 12) _ _ _ rfl rfl rfl hx) rfl ?_
  refine x_if_neT (tgt := 24) dX7_truncate_17 (by decide) (by decide) ?_
  refine x_iconst (v := 0) dX7_truncate_24 rfl ?_
  refine x_iconst (v := 1) dX7_truncate_25 rfl ?_
  refine t_cvV cvX7_136_X7 dX7_truncate_26 (st_0 _ _ _ _ _ _ _ _ (by decide) rfl) rfl ?_
  refine x_if_eqT (tgt := 34) dX7_truncate_29 (by decide) (by decide) ?_
  refine x_aload_n dX7_truncate_34 rfl ?_
  refine x_iload_n dX7_truncate_35 rfl ?_
  refine t_put fpX7_130_6 dX7_truncate_36 (by decide) ⟨rfl, rfl⟩ ?_
  refine x_iload_n dX7_truncate_39 rfl ?_
  exact x_ireturn dX7_truncate_40 rfl (by first | rfl | exact ite_nar | exact itn_nar) ⟨rfl, rfl⟩
