set_option maxRecDepth 100000
theorem c_X7_tuneRow (g : xG) (B : xA) (m : Nat) (F : Nat → Int32) (W : Int64) (S : Nat → Int32) (Z : Nat → Nat → Int32) (hk : tOk S) (u : Nat) (hu : F 5 = nI u) (h8 : u ≤ 8) : xC g iX7_tuneRow 8 [.ref m] (tA B m F W S Z) (xRet (some (.int (roundI S (Z 8)))) (tA B m (upd (upd F 6 0) 5 (nI (kpU u + 1))) W ((roundS S (Z 8)).1) (zup (zup Z 2 (kpP (Z 2) S u)) 8 (roundS S (Z 8)).2))) := by
  show xW g _ _ 0 [some (.ref m)] [] _ _
  refine x_aload_n dX7_tuneRow_0 rfl ?_
  refine x_iconst (v := 0) dX7_tuneRow_1 rfl ?_
  refine t_put fpX7_72_6 dX7_tuneRow_2 (by decide) ⟨rfl, rfl⟩ ?_
  refine x_aload_n dX7_tuneRow_5 rfl ?_
  refine t_cvN cvX7_380_X7 dX7_tuneRow_6 (c_X7_keepsPast _ _ _ _ _ _ _ u hu h8) rfl ?_
  refine x_aload_n dX7_tuneRow_9 rfl ?_
  refine t_cvV cvX7_345_X7 dX7_tuneRow_10 (c_X7_round _ _ _ _ _ _ _ hk) rfl ?_
  exact x_ireturn dX7_tuneRow_13 rfl (by first | rfl | exact ite_nar | exact itn_nar) ⟨rfl, rfl⟩
theorem c_X7_turnPeg_1a (g : xG) (B : xA) (m : Nat) (F : Nat → Int32) (W : Int64) (S : Nat → Int32) (Z : Nat → Nat → Int32) (x y : Int32) (hx : inI x 0 (S 13 - 1) = 0) (c : Int32) : xC g iX7_turnPeg 6 [.ref m, .int x, .int y, .int c] (tA B m F W S Z) (xRet (some (.int 0)) (tA B m (upd F 6 1) W S Z)) := by
  show xW g _ _ 0 [some (.ref m), some (.int x), some (.int y), some (.int c)] [] _ _
  refine x_aload_n dX7_turnPeg_0 rfl ?_
  refine x_iconst (v := 0) dX7_turnPeg_1 rfl ?_
  refine t_put fpX7_72_6 dX7_turnPeg_2 (by decide) ⟨rfl, rfl⟩ ?_
  refine x_aload_n dX7_turnPeg_5 rfl ?_
  refine x_iload_n dX7_turnPeg_6 rfl ?_
  refine x_iload_n dX7_turnPeg_7 rfl ?_
  refine t_cvV cvX7_388_X7 dX7_turnPeg_8 (c_X7_noString_1a _ _ _ _ _ _ _ x y rfl hx) rfl ?_
  refine x_if_neT (tgt := 59) dX7_turnPeg_11 (by decide) (by decide) ?_
  refine x_iconst (v := 0) dX7_turnPeg_59 rfl ?_
  exact x_ireturn dX7_turnPeg_60 rfl (by first | rfl | exact ite_nar | exact itn_nar) ⟨rfl, by rw [upd_upd]⟩
theorem c_X7_turnPeg_1b (g : xG) (B : xA) (m : Nat) (F : Nat → Int32) (W : Int64) (S : Nat → Int32) (Z : Nat → Nat → Int32) (f : Nat) (y : Int32) (hk : tOk S) (hf : f < manyS S) (hy : inI y 0 3 = 0) (c : Int32) : xC g iX7_turnPeg 6 [.ref m, .int (nI f), .int y, .int c] (tA B m F W S Z) (xRet (some (.int 0)) (tA B m (upd F 6 1) W S Z)) := by
  show xW g _ _ 0 [some (.ref m), some (.int (nI f)), some (.int y), some (.int c)] [] _ _
  refine x_aload_n dX7_turnPeg_0 rfl ?_
  refine x_iconst (v := 0) dX7_turnPeg_1 rfl ?_
  refine t_put fpX7_72_6 dX7_turnPeg_2 (by decide) ⟨rfl, rfl⟩ ?_
  refine x_aload_n dX7_turnPeg_5 rfl ?_
  refine x_iload_n dX7_turnPeg_6 rfl ?_
  refine x_iload_n dX7_turnPeg_7 rfl ?_
  refine t_cvV cvX7_388_X7 dX7_turnPeg_8 (c_X7_noString_1b _ _ _ _ _ _ _ f y rfl hk hf hy) rfl ?_
  refine x_if_neT (tgt := 59) dX7_turnPeg_11 (by decide) (by decide) ?_
  refine x_iconst (v := 0) dX7_turnPeg_59 rfl ?_
  exact x_ireturn dX7_turnPeg_60 rfl (by first | rfl | exact ite_nar | exact itn_nar) ⟨rfl, by rw [upd_upd]⟩
theorem c_X7_chalkPeg_1a (g : xG) (B : xA) (m : Nat) (F : Nat → Int32) (W : Int64) (S : Nat → Int32) (Z : Nat → Nat → Int32) (x y : Int32) (hx : inI x 0 (S 13 - 1) = 0) : xC g iX7_chalkPeg 6 [.ref m, .int x, .int y] (tA B m F W S Z) (xRet (some (.int 0)) (tA B m (upd F 6 1) W S Z)) := by
  show xW g _ _ 0 [some (.ref m), some (.int x), some (.int y)] [] _ _
  refine x_aload_n dX7_chalkPeg_0 rfl ?_
  refine x_iconst (v := 0) dX7_chalkPeg_1 rfl ?_
  refine t_put fpX7_72_6 dX7_chalkPeg_2 (by decide) ⟨rfl, rfl⟩ ?_
  refine x_aload_n dX7_chalkPeg_5 rfl ?_
  refine x_iload_n dX7_chalkPeg_6 rfl ?_
  refine x_iload_n dX7_chalkPeg_7 rfl ?_
  refine t_cvV cvX7_388_X7 dX7_chalkPeg_8 (c_X7_noString_1a _ _ _ _ _ _ _ x y rfl hx) rfl ?_
  refine x_if_neT (tgt := 36) dX7_chalkPeg_11 (by decide) (by decide) ?_
  refine x_iconst (v := 0) dX7_chalkPeg_36 rfl ?_
  exact x_ireturn dX7_chalkPeg_37 rfl (by first | rfl | exact ite_nar | exact itn_nar) ⟨rfl, by rw [upd_upd]⟩
theorem c_X7_chalkPeg_1b (g : xG) (B : xA) (m : Nat) (F : Nat → Int32) (W : Int64) (S : Nat → Int32) (Z : Nat → Nat → Int32) (f : Nat) (y : Int32) (hk : tOk S) (hf : f < manyS S) (hy : inI y 0 3 = 0) : xC g iX7_chalkPeg 6 [.ref m, .int (nI f), .int y] (tA B m F W S Z) (xRet (some (.int 0)) (tA B m (upd F 6 1) W S Z)) := by
  show xW g _ _ 0 [some (.ref m), some (.int (nI f)), some (.int y)] [] _ _
  refine x_aload_n dX7_chalkPeg_0 rfl ?_
  refine x_iconst (v := 0) dX7_chalkPeg_1 rfl ?_
  refine t_put fpX7_72_6 dX7_chalkPeg_2 (by decide) ⟨rfl, rfl⟩ ?_
  refine x_aload_n dX7_chalkPeg_5 rfl ?_
  refine x_iload_n dX7_chalkPeg_6 rfl ?_
  refine x_iload_n dX7_chalkPeg_7 rfl ?_
  refine t_cvV cvX7_388_X7 dX7_chalkPeg_8 (c_X7_noString_1b _ _ _ _ _ _ _ f y rfl hk hf hy) rfl ?_
  refine x_if_neT (tgt := 36) dX7_chalkPeg_11 (by decide) (by decide) ?_
  refine x_iconst (v := 0) dX7_chalkPeg_36 rfl ?_
  exact x_ireturn dX7_chalkPeg_37 rfl (by first | rfl | exact ite_nar | exact itn_nar) ⟨rfl, by rw [upd_upd]⟩
theorem c_X7_replaceString_1a (g : xG) (B : xA) (m : Nat) (F : Nat → Int32) (W : Int64) (S : Nat → Int32) (Z : Nat → Nat → Int32) (x y : Int32) (hx : inI x 0 (S 13 - 1) = 0) : xC g iX7_replaceString 6 [.ref m, .int x, .int y] (tA B m F W S Z) (xRet (some (.int 0)) (tA B m (upd F 6 1) W S Z)) := by
  show xW g _ _ 0 [some (.ref m), some (.int x), some (.int y)] [] _ _
  refine x_aload_n dX7_replaceString_0 rfl ?_
  refine x_iconst (v := 0) dX7_replaceString_1 rfl ?_
  refine t_put fpX7_72_6 dX7_replaceString_2 (by decide) ⟨rfl, rfl⟩ ?_
  refine x_aload_n dX7_replaceString_5 rfl ?_
  refine x_iload_n dX7_replaceString_6 rfl ?_
  refine x_iload_n dX7_replaceString_7 rfl ?_
  refine t_cvV cvX7_388_X7 dX7_replaceString_8 (c_X7_noString_1a _ _ _ _ _ _ _ x y rfl hx) rfl ?_
  refine x_if_neT (tgt := 36) dX7_replaceString_11 (by decide) (by decide) ?_
  refine x_iconst (v := 0) dX7_replaceString_36 rfl ?_
  exact x_ireturn dX7_replaceString_37 rfl (by first | rfl | exact ite_nar | exact itn_nar) ⟨rfl, by rw [upd_upd]⟩
theorem c_X7_replaceString_1b (g : xG) (B : xA) (m : Nat) (F : Nat → Int32) (W : Int64) (S : Nat → Int32) (Z : Nat → Nat → Int32) (f : Nat) (y : Int32) (hk : tOk S) (hf : f < manyS S) (hy : inI y 0 3 = 0) : xC g iX7_replaceString 6 [.ref m, .int (nI f), .int y] (tA B m F W S Z) (xRet (some (.int 0)) (tA B m (upd F 6 1) W S Z)) := by
  show xW g _ _ 0 [some (.ref m), some (.int (nI f)), some (.int y)] [] _ _
  refine x_aload_n dX7_replaceString_0 rfl ?_
  refine x_iconst (v := 0) dX7_replaceString_1 rfl ?_
  refine t_put fpX7_72_6 dX7_replaceString_2 (by decide) ⟨rfl, rfl⟩ ?_
  refine x_aload_n dX7_replaceString_5 rfl ?_
  refine x_iload_n dX7_replaceString_6 rfl ?_
  refine x_iload_n dX7_replaceString_7 rfl ?_
  refine t_cvV cvX7_388_X7 dX7_replaceString_8 (c_X7_noString_1b _ _ _ _ _ _ _ f y rfl hk hf hy) rfl ?_
  refine x_if_neT (tgt := 36) dX7_replaceString_11 (by decide) (by decide) ?_
  refine x_iconst (v := 0) dX7_replaceString_36 rfl ?_
  exact x_ireturn dX7_replaceString_37 rfl (by first | rfl | exact ite_nar | exact itn_nar) ⟨rfl, by rw [upd_upd]⟩
theorem c_X7_turnPeg_2z (g : xG) (B : xA) (m : Nat) (F : Nat → Int32) (W : Int64) (S : Nat → Int32) (Z : Nat → Nat → Int32) (f k : Nat) (hk : tOk S) (hf : f < manyS S) (h4 : k < 4) : xC g iX7_turnPeg 6 [.ref m, .int (nI f), .int (nI k), .int 0] (tA B m F W S Z) (xRet (some (.int 0)) (tA B m (upd F 6 2) W S Z)) := by
  show xW g _ _ 0 [some (.ref m), some (.int (nI f)), some (.int (nI k)), some (.int 0)] [] _ _
  refine x_aload_n dX7_turnPeg_0 rfl ?_
  refine x_iconst (v := 0) dX7_turnPeg_1 rfl ?_
  refine t_put fpX7_72_6 dX7_turnPeg_2 (by decide) ⟨rfl, rfl⟩ ?_
  refine x_aload_n dX7_turnPeg_5 rfl ?_
  refine x_iload_n dX7_turnPeg_6 rfl ?_
  refine x_iload_n dX7_turnPeg_7 rfl ?_
  refine t_cvV cvX7_388_X7 dX7_turnPeg_8 (c_X7_noString_0 _ _ _ _ _ _ _ f k rfl hk hf h4) rfl ?_
  refine x_if_neF dX7_turnPeg_11 59 (by decide) (by decide) ?_
  refine x_aload_n dX7_turnPeg_14 rfl ?_
  refine x_iload_n dX7_turnPeg_15 rfl ?_
  refine x_if_eqT (tgt := 33) dX7_turnPeg_16 (by decide) (by decide) ?_
  refine x_iconst (v := 1) dX7_turnPeg_33 rfl ?_
  refine x_goto (tgt := 38) dX7_turnPeg_34 (by decide) ?_
  refine x_iconst (v := 2) dX7_turnPeg_38 rfl ?_
  refine t_cvV cvX7_136_X7 dX7_turnPeg_39 (st_1 _ _ _ _ _ _ _ _ (by decide) rfl) rfl ?_
  refine x_if_neT (tgt := 59) dX7_turnPeg_42 (by decide) (by decide) ?_
  refine x_iconst (v := 0) dX7_turnPeg_59 rfl ?_
  exact x_ireturn dX7_turnPeg_60 rfl (by first | rfl | exact ite_nar | exact itn_nar) ⟨rfl, by rw [upd_upd]⟩
theorem c_X7_turnPeg_2 (g : xG) (B : xA) (m : Nat) (F : Nat → Int32) (W : Int64) (S : Nat → Int32) (Z : Nat → Nat → Int32) (f k : Nat) (hk : tOk S) (hf : f < manyS S) (h4 : k < 4) (c : Int32) (hz : ¬ c = 0) (hc : inI c (-300) 300 = 0) : xC g iX7_turnPeg 6 [.ref m, .int (nI f), .int (nI k), .int c] (tA B m F W S Z) (xRet (some (.int 0)) (tA B m (upd F 6 2) W S Z)) := by
  show xW g _ _ 0 [some (.ref m), some (.int (nI f)), some (.int (nI k)), some (.int c)] [] _ _
  refine x_aload_n dX7_turnPeg_0 rfl ?_
  refine x_iconst (v := 0) dX7_turnPeg_1 rfl ?_
  refine t_put fpX7_72_6 dX7_turnPeg_2 (by decide) ⟨rfl, rfl⟩ ?_
  refine x_aload_n dX7_turnPeg_5 rfl ?_
  refine x_iload_n dX7_turnPeg_6 rfl ?_
  refine x_iload_n dX7_turnPeg_7 rfl ?_
  refine t_cvV cvX7_388_X7 dX7_turnPeg_8 (c_X7_noString_0 _ _ _ _ _ _ _ f k rfl hk hf h4) rfl ?_
  refine x_if_neF dX7_turnPeg_11 59 (by decide) (by decide) ?_
  refine x_aload_n dX7_turnPeg_14 rfl ?_
  refine x_iload_n dX7_turnPeg_15 rfl ?_
  refine x_if_eqF dX7_turnPeg_16 33 (by decide) hz ?_
  refine x_iload_n dX7_turnPeg_19 rfl ?_
  refine x_i2l dX7_turnPeg_20 ?_
  refine x_ldc2 (v := (-300)) q3950 dX7_turnPeg_21 ?_
  refine x_ldc2 (v := 300) q3951 dX7_turnPeg_24 ?_
  refine x_csV csX7_144 dX7_turnPeg_27 (ci_0 _ _ c ((-300)) 300 _ _ _ rfl rfl rfl hc) rfl ?_
  refine x_if_neF dX7_turnPeg_30 37 (by decide) (by decide) ?_
  refine x_iconst (v := 1) dX7_turnPeg_33 rfl ?_
  refine x_goto (tgt := 38) dX7_turnPeg_34 (by decide) ?_
  refine x_iconst (v := 2) dX7_turnPeg_38 rfl ?_
  refine t_cvV cvX7_136_X7 dX7_turnPeg_39 (st_1 _ _ _ _ _ _ _ _ (by decide) rfl) rfl ?_
  refine x_if_neT (tgt := 59) dX7_turnPeg_42 (by decide) (by decide) ?_
  refine x_iconst (v := 0) dX7_turnPeg_59 rfl ?_
  exact x_ireturn dX7_turnPeg_60 rfl (by first | rfl | exact ite_nar | exact itn_nar) ⟨rfl, by rw [upd_upd]⟩
theorem c_X7_turnPeg_3 (g : xG) (B : xA) (m : Nat) (F : Nat → Int32) (W : Int64) (S : Nat → Int32) (Z : Nat → Nat → Int32) (f k : Nat) (hk : tOk S) (hf : f < manyS S) (h4 : k < 4) (c : Int32) (hz : ¬ c = 0) (hc : ¬ inI c (-300) 300 = 0) (ho : hs S f (13 + k) = 1) : xC g iX7_turnPeg 6 [.ref m, .int (nI f), .int (nI k), .int c] (tA B m F W S Z) (xRet (some (.int 0)) (tA B m (upd F 6 3) W S Z)) := by
  have f10 : f < 10 := by have := hk.1.2; omega
  show xW g _ _ 0 [some (.ref m), some (.int (nI f)), some (.int (nI k)), some (.int c)] [] _ _
  refine x_aload_n dX7_turnPeg_0 rfl ?_
  refine x_iconst (v := 0) dX7_turnPeg_1 rfl ?_
  refine t_put fpX7_72_6 dX7_turnPeg_2 (by decide) ⟨rfl, rfl⟩ ?_
  refine x_aload_n dX7_turnPeg_5 rfl ?_
  refine x_iload_n dX7_turnPeg_6 rfl ?_
  refine x_iload_n dX7_turnPeg_7 rfl ?_
  refine t_cvV cvX7_388_X7 dX7_turnPeg_8 (c_X7_noString_0 _ _ _ _ _ _ _ f k rfl hk hf h4) rfl ?_
  refine x_if_neF dX7_turnPeg_11 59 (by decide) (by decide) ?_
  refine x_aload_n dX7_turnPeg_14 rfl ?_
  refine x_iload_n dX7_turnPeg_15 rfl ?_
  refine x_if_eqF dX7_turnPeg_16 33 (by decide) hz ?_
  refine x_iload_n dX7_turnPeg_19 rfl ?_
  refine x_i2l dX7_turnPeg_20 ?_
  refine x_ldc2 (v := (-300)) q3950 dX7_turnPeg_21 ?_
  refine x_ldc2 (v := 300) q3951 dX7_turnPeg_24 ?_
  refine x_csV csX7_144 dX7_turnPeg_27 (ci_1 _ _ c ((-300)) 300 _ _ _ rfl rfl rfl hc) rfl ?_
  refine x_if_neT (tgt := 37) dX7_turnPeg_30 (by decide) (by decide) ?_
  refine x_iconst (v := 0) dX7_turnPeg_37 rfl ?_
  refine x_iconst (v := 2) dX7_turnPeg_38 rfl ?_
  refine t_cvV cvX7_136_X7 dX7_turnPeg_39 (st_0 _ _ _ _ _ _ _ _ (by decide) rfl) rfl ?_
  refine x_if_neF dX7_turnPeg_42 59 (by decide) (by decide) ?_
  refine x_aload_n dX7_turnPeg_45 rfl ?_
  refine x_aload_n dX7_turnPeg_46 rfl ?_
  refine x_iload_n dX7_turnPeg_47 rfl ?_
  refine x_iload_n dX7_turnPeg_48 rfl ?_
  refine t_cvV cvX7_85_X7 dX7_turnPeg_49 (c_X7_isOff _ _ _ _ _ _ _ f k f10 h4) rfl ?_
  refine x_top (flI_y ho : flI (hs S f (13 + k) = 1) = 1) ?_
  refine x_iconst (v := 3) dX7_turnPeg_52 rfl ?_
  refine t_cvV cvX7_136_X7 dX7_turnPeg_53 (st_1 _ _ _ _ _ _ _ _ (by decide) rfl) rfl ?_
  refine x_if_eqF dX7_turnPeg_56 61 (by decide) (by decide) ?_
  refine x_iconst (v := 0) dX7_turnPeg_59 rfl ?_
  exact x_ireturn dX7_turnPeg_60 rfl (by first | rfl | exact ite_nar | exact itn_nar) ⟨rfl, by rw [upd_upd]⟩
theorem c_X7_turnPeg_ok (g : xG) (B : xA) (m : Nat) (F : Nat → Int32) (W : Int64) (S : Nat → Int32) (Z : Nat → Nat → Int32) (f k : Nat) (hk : tOk S) (hf : f < manyS S) (h4 : k < 4) (c : Int32) (hz : ¬ c = 0) (hc : ¬ inI c (-300) 300 = 0) (ho : ¬ hs S f (13 + k) = 1) (u : Nat) (hu : F 5 = nI u) (h8 : u ≤ 8) : xC g iX7_turnPeg 6 [.ref m, .int (nI f), .int (nI k), .int c] (tA B m F W S Z) (xRet (some (.int (hs (turnsS S f k c) f (17 + k)))) (tA B m (upd (upd F 6 0) 5 (nI (kpU u + 1))) W (turnsS S f k c) (zup Z 2 (kpP (Z 2) S u)))) := by
  have f10 : f < 10 := by have := hk.1.2; omega
  show xW g _ _ 0 [some (.ref m), some (.int (nI f)), some (.int (nI k)), some (.int c)] [] _ _
  refine x_aload_n dX7_turnPeg_0 rfl ?_
  refine x_iconst (v := 0) dX7_turnPeg_1 rfl ?_
  refine t_put fpX7_72_6 dX7_turnPeg_2 (by decide) ⟨rfl, rfl⟩ ?_
  refine x_aload_n dX7_turnPeg_5 rfl ?_
  refine x_iload_n dX7_turnPeg_6 rfl ?_
  refine x_iload_n dX7_turnPeg_7 rfl ?_
  refine t_cvV cvX7_388_X7 dX7_turnPeg_8 (c_X7_noString_0 _ _ _ _ _ _ _ f k rfl hk hf h4) rfl ?_
  refine x_if_neF dX7_turnPeg_11 59 (by decide) (by decide) ?_
  refine x_aload_n dX7_turnPeg_14 rfl ?_
  refine x_iload_n dX7_turnPeg_15 rfl ?_
  refine x_if_eqF dX7_turnPeg_16 33 (by decide) hz ?_
  refine x_iload_n dX7_turnPeg_19 rfl ?_
  refine x_i2l dX7_turnPeg_20 ?_
  refine x_ldc2 (v := (-300)) q3950 dX7_turnPeg_21 ?_
  refine x_ldc2 (v := 300) q3951 dX7_turnPeg_24 ?_
  refine x_csV csX7_144 dX7_turnPeg_27 (ci_1 _ _ c ((-300)) 300 _ _ _ rfl rfl rfl hc) rfl ?_
  refine x_if_neT (tgt := 37) dX7_turnPeg_30 (by decide) (by decide) ?_
  refine x_iconst (v := 0) dX7_turnPeg_37 rfl ?_
  refine x_iconst (v := 2) dX7_turnPeg_38 rfl ?_
  refine t_cvV cvX7_136_X7 dX7_turnPeg_39 (st_0 _ _ _ _ _ _ _ _ (by decide) rfl) rfl ?_
  refine x_if_neF dX7_turnPeg_42 59 (by decide) (by decide) ?_
  refine x_aload_n dX7_turnPeg_45 rfl ?_
  refine x_aload_n dX7_turnPeg_46 rfl ?_
  refine x_iload_n dX7_turnPeg_47 rfl ?_
  refine x_iload_n dX7_turnPeg_48 rfl ?_
  refine t_cvV cvX7_85_X7 dX7_turnPeg_49 (c_X7_isOff _ _ _ _ _ _ _ f k f10 h4) rfl ?_
  refine x_top (flI_no ho : flI (hs S f (13 + k) = 1) = 0) ?_
  refine x_iconst (v := 3) dX7_turnPeg_52 rfl ?_
  refine t_cvV cvX7_136_X7 dX7_turnPeg_53 (st_0 _ _ _ _ _ _ _ _ (by decide) rfl) rfl ?_
  refine x_if_eqT (tgt := 61) dX7_turnPeg_56 (by decide) (by decide) ?_
  refine x_aload_n dX7_turnPeg_61 rfl ?_
  refine t_cvN cvX7_380_X7 dX7_turnPeg_62 (c_X7_keepsPast _ _ _ _ _ _ _ u hu h8) rfl ?_
  refine x_aload_n dX7_turnPeg_65 rfl ?_
  refine x_iload_n dX7_turnPeg_66 rfl ?_
  refine x_iload_n dX7_turnPeg_67 rfl ?_
  refine x_iload_n dX7_turnPeg_68 rfl ?_
  refine t_cvV cvX7_315_X7 dX7_turnPeg_69 (c_X7_turnsPeg _ _ _ _ _ _ _ f k c f10 h4) rfl ?_
  exact x_ireturn dX7_turnPeg_72 rfl (by first | rfl | exact ite_nar | exact itn_nar) ⟨rfl, rfl⟩
theorem c_X7_chalkPeg_2 (g : xG) (B : xA) (m : Nat) (F : Nat → Int32) (W : Int64) (S : Nat → Int32) (Z : Nat → Nat → Int32) (f k : Nat) (hk : tOk S) (hf : f < manyS S) (h4 : k < 4) (hc : ¬ (hs S f (17 + k) < 9 ∧ 0 < S 3)) : xC g iX7_chalkPeg 6 [.ref m, .int (nI f), .int (nI k)] (tA B m F W S Z) (xRet (some (.int 0)) (tA B m (upd F 6 2) W S Z)) := by
  have f10 : f < 10 := by have := hk.1.2; omega
  show xW g _ _ 0 [some (.ref m), some (.int (nI f)), some (.int (nI k))] [] _ _
  refine x_aload_n dX7_chalkPeg_0 rfl ?_
  refine x_iconst (v := 0) dX7_chalkPeg_1 rfl ?_
  refine t_put fpX7_72_6 dX7_chalkPeg_2 (by decide) ⟨rfl, rfl⟩ ?_
  refine x_aload_n dX7_chalkPeg_5 rfl ?_
  refine x_iload_n dX7_chalkPeg_6 rfl ?_
  refine x_iload_n dX7_chalkPeg_7 rfl ?_
  refine t_cvV cvX7_388_X7 dX7_chalkPeg_8 (c_X7_noString_0 _ _ _ _ _ _ _ f k rfl hk hf h4) rfl ?_
  refine x_if_neF dX7_chalkPeg_11 36 (by decide) (by decide) ?_
  refine x_aload_n dX7_chalkPeg_14 rfl ?_
  refine x_aload_n dX7_chalkPeg_15 rfl ?_
  refine x_iload_n dX7_chalkPeg_16 rfl ?_
  refine x_iload_n dX7_chalkPeg_17 rfl ?_
  refine t_cvV cvX7_309_X7 dX7_chalkPeg_18 (c_X7_canChalk _ _ _ _ _ _ _ f k f10 h4) rfl ?_
  refine x_top (flI_no hc : flI (hs S f (17 + k) < 9 ∧ 0 < S 3) = 0) ?_
  refine x_if_neF dX7_chalkPeg_21 28 (by decide) (by decide) ?_
  refine x_iconst (v := 1) dX7_chalkPeg_24 rfl ?_
  refine x_goto (tgt := 29) dX7_chalkPeg_25 (by decide) ?_
  refine x_iconst (v := 2) dX7_chalkPeg_29 rfl ?_
  refine t_cvV cvX7_136_X7 dX7_chalkPeg_30 (st_1 _ _ _ _ _ _ _ _ (by decide) rfl) rfl ?_
  refine x_if_eqF dX7_chalkPeg_33 38 (by decide) (by decide) ?_
  refine x_iconst (v := 0) dX7_chalkPeg_36 rfl ?_
  exact x_ireturn dX7_chalkPeg_37 rfl (by first | rfl | exact ite_nar | exact itn_nar) ⟨rfl, by rw [upd_upd]⟩
theorem c_X7_chalkPeg_ok (g : xG) (B : xA) (m : Nat) (F : Nat → Int32) (W : Int64) (S : Nat → Int32) (Z : Nat → Nat → Int32) (f k : Nat) (hk : tOk S) (hf : f < manyS S) (h4 : k < 4) (hc : hs S f (17 + k) < 9 ∧ 0 < S 3) (u : Nat) (hu : F 5 = nI u) (h8 : u ≤ 8) : xC g iX7_chalkPeg 6 [.ref m, .int (nI f), .int (nI k)] (tA B m F W S Z) (xRet (some (.int (chalkS S f k 3))) (tA B m (upd (upd F 6 0) 5 (nI (kpU u + 1))) W (chalkS S f k) (zup Z 2 (kpP (Z 2) S u)))) := by
  have f10 : f < 10 := by have := hk.1.2; omega
  show xW g _ _ 0 [some (.ref m), some (.int (nI f)), some (.int (nI k))] [] _ _
  refine x_aload_n dX7_chalkPeg_0 rfl ?_
  refine x_iconst (v := 0) dX7_chalkPeg_1 rfl ?_
  refine t_put fpX7_72_6 dX7_chalkPeg_2 (by decide) ⟨rfl, rfl⟩ ?_
  refine x_aload_n dX7_chalkPeg_5 rfl ?_
  refine x_iload_n dX7_chalkPeg_6 rfl ?_
  refine x_iload_n dX7_chalkPeg_7 rfl ?_
  refine t_cvV cvX7_388_X7 dX7_chalkPeg_8 (c_X7_noString_0 _ _ _ _ _ _ _ f k rfl hk hf h4) rfl ?_
  refine x_if_neF dX7_chalkPeg_11 36 (by decide) (by decide) ?_
  refine x_aload_n dX7_chalkPeg_14 rfl ?_
  refine x_aload_n dX7_chalkPeg_15 rfl ?_
  refine x_iload_n dX7_chalkPeg_16 rfl ?_
  refine x_iload_n dX7_chalkPeg_17 rfl ?_
  refine t_cvV cvX7_309_X7 dX7_chalkPeg_18 (c_X7_canChalk _ _ _ _ _ _ _ f k f10 h4) rfl ?_
  refine x_top (flI_y hc : flI (hs S f (17 + k) < 9 ∧ 0 < S 3) = 1) ?_
  refine x_if_neT (tgt := 28) dX7_chalkPeg_21 (by decide) (by decide) ?_
  refine x_iconst (v := 0) dX7_chalkPeg_28 rfl ?_
  refine x_iconst (v := 2) dX7_chalkPeg_29 rfl ?_
  refine t_cvV cvX7_136_X7 dX7_chalkPeg_30 (st_0 _ _ _ _ _ _ _ _ (by decide) rfl) rfl ?_
  refine x_if_eqT (tgt := 38) dX7_chalkPeg_33 (by decide) (by decide) ?_
  refine x_aload_n dX7_chalkPeg_38 rfl ?_
  refine t_cvN cvX7_380_X7 dX7_chalkPeg_39 (c_X7_keepsPast _ _ _ _ _ _ _ u hu h8) rfl ?_
  refine x_aload_n dX7_chalkPeg_42 rfl ?_
  refine x_iload_n dX7_chalkPeg_43 rfl ?_
  refine x_iload_n dX7_chalkPeg_44 rfl ?_
  refine t_cvV cvX7_318_X7 dX7_chalkPeg_45 (c_X7_chalks _ _ _ _ _ _ _ f k f10 h4) rfl ?_
  exact x_ireturn dX7_chalkPeg_48 rfl (by first | rfl | exact ite_nar | exact itn_nar) ⟨rfl, rfl⟩
theorem c_X7_replaceString_2 (g : xG) (B : xA) (m : Nat) (F : Nat → Int32) (W : Int64) (S : Nat → Int32) (Z : Nat → Nat → Int32) (f k : Nat) (hk : tOk S) (hf : f < manyS S) (h4 : k < 4) (hc : ¬ (hs S f (13 + k) = 1 ∧ 0 < S 4)) : xC g iX7_replaceString 6 [.ref m, .int (nI f), .int (nI k)] (tA B m F W S Z) (xRet (some (.int 0)) (tA B m (upd F 6 2) W S Z)) := by
  have f10 : f < 10 := by have := hk.1.2; omega
  show xW g _ _ 0 [some (.ref m), some (.int (nI f)), some (.int (nI k))] [] _ _
  refine x_aload_n dX7_replaceString_0 rfl ?_
  refine x_iconst (v := 0) dX7_replaceString_1 rfl ?_
  refine t_put fpX7_72_6 dX7_replaceString_2 (by decide) ⟨rfl, rfl⟩ ?_
  refine x_aload_n dX7_replaceString_5 rfl ?_
  refine x_iload_n dX7_replaceString_6 rfl ?_
  refine x_iload_n dX7_replaceString_7 rfl ?_
  refine t_cvV cvX7_388_X7 dX7_replaceString_8 (c_X7_noString_0 _ _ _ _ _ _ _ f k rfl hk hf h4) rfl ?_
  refine x_if_neF dX7_replaceString_11 36 (by decide) (by decide) ?_
  refine x_aload_n dX7_replaceString_14 rfl ?_
  refine x_aload_n dX7_replaceString_15 rfl ?_
  refine x_iload_n dX7_replaceString_16 rfl ?_
  refine x_iload_n dX7_replaceString_17 rfl ?_
  refine t_cvV cvX7_312_X7 dX7_replaceString_18 (c_X7_canReplace _ _ _ _ _ _ _ f k f10 h4) rfl ?_
  refine x_top (flI_no hc : flI (hs S f (13 + k) = 1 ∧ 0 < S 4) = 0) ?_
  refine x_if_neF dX7_replaceString_21 28 (by decide) (by decide) ?_
  refine x_iconst (v := 1) dX7_replaceString_24 rfl ?_
  refine x_goto (tgt := 29) dX7_replaceString_25 (by decide) ?_
  refine x_iconst (v := 2) dX7_replaceString_29 rfl ?_
  refine t_cvV cvX7_136_X7 dX7_replaceString_30 (st_1 _ _ _ _ _ _ _ _ (by decide) rfl) rfl ?_
  refine x_if_eqF dX7_replaceString_33 38 (by decide) (by decide) ?_
  refine x_iconst (v := 0) dX7_replaceString_36 rfl ?_
  exact x_ireturn dX7_replaceString_37 rfl (by first | rfl | exact ite_nar | exact itn_nar) ⟨rfl, by rw [upd_upd]⟩
theorem c_X7_replaceString_ok (g : xG) (B : xA) (m : Nat) (F : Nat → Int32) (W : Int64) (S : Nat → Int32) (Z : Nat → Nat → Int32) (f k : Nat) (hk : tOk S) (hf : f < manyS S) (h4 : k < 4) (hc : hs S f (13 + k) = 1 ∧ 0 < S 4) (u : Nat) (hu : F 5 = nI u) (h8 : u ≤ 8) : xC g iX7_replaceString 6 [.ref m, .int (nI f), .int (nI k)] (tA B m F W S Z) (xRet (some (.int (replS S f k 4))) (tA B m (upd (upd F 6 0) 5 (nI (kpU u + 1))) W (replS S f k) (zup Z 2 (kpP (Z 2) S u)))) := by
  have f10 : f < 10 := by have := hk.1.2; omega
  show xW g _ _ 0 [some (.ref m), some (.int (nI f)), some (.int (nI k))] [] _ _
  refine x_aload_n dX7_replaceString_0 rfl ?_
  refine x_iconst (v := 0) dX7_replaceString_1 rfl ?_
  refine t_put fpX7_72_6 dX7_replaceString_2 (by decide) ⟨rfl, rfl⟩ ?_
  refine x_aload_n dX7_replaceString_5 rfl ?_
  refine x_iload_n dX7_replaceString_6 rfl ?_
  refine x_iload_n dX7_replaceString_7 rfl ?_
  refine t_cvV cvX7_388_X7 dX7_replaceString_8 (c_X7_noString_0 _ _ _ _ _ _ _ f k rfl hk hf h4) rfl ?_
  refine x_if_neF dX7_replaceString_11 36 (by decide) (by decide) ?_
  refine x_aload_n dX7_replaceString_14 rfl ?_
  refine x_aload_n dX7_replaceString_15 rfl ?_
  refine x_iload_n dX7_replaceString_16 rfl ?_
  refine x_iload_n dX7_replaceString_17 rfl ?_
  refine t_cvV cvX7_312_X7 dX7_replaceString_18 (c_X7_canReplace _ _ _ _ _ _ _ f k f10 h4) rfl ?_
  refine x_top (flI_y hc : flI (hs S f (13 + k) = 1 ∧ 0 < S 4) = 1) ?_
  refine x_if_neT (tgt := 28) dX7_replaceString_21 (by decide) (by decide) ?_
  refine x_iconst (v := 0) dX7_replaceString_28 rfl ?_
  refine x_iconst (v := 2) dX7_replaceString_29 rfl ?_
  refine t_cvV cvX7_136_X7 dX7_replaceString_30 (st_0 _ _ _ _ _ _ _ _ (by decide) rfl) rfl ?_
  refine x_if_eqT (tgt := 38) dX7_replaceString_33 (by decide) (by decide) ?_
  refine x_aload_n dX7_replaceString_38 rfl ?_
  refine t_cvN cvX7_380_X7 dX7_replaceString_39 (c_X7_keepsPast _ _ _ _ _ _ _ u hu h8) rfl ?_
  refine x_aload_n dX7_replaceString_42 rfl ?_
  refine x_iload_n dX7_replaceString_43 rfl ?_
  refine x_iload_n dX7_replaceString_44 rfl ?_
  refine t_cvV cvX7_321_X7 dX7_replaceString_45 (c_X7_replaces _ _ _ _ _ _ _ f k f10 h4) rfl ?_
  exact x_ireturn dX7_replaceString_48 rfl (by first | rfl | exact ite_nar | exact itn_nar) ⟨rfl, rfl⟩
theorem c_X7_swapPlaces_1a (g : xG) (B : xA) (m : Nat) (F : Nat → Int32) (W : Int64) (S : Nat → Int32) (Z : Nat → Nat → Int32) (x y : Int32) (hx : inI x 0 (S 13 - 1) = 0) : xC g iX7_swapPlaces 6 [.ref m, .int x, .int y] (tA B m F W S Z) (xRet (some (.int 0)) (tA B m (upd F 6 1) W S Z)) := by
  show xW g _ _ 0 [some (.ref m), some (.int x), some (.int y)] [] _ _
  refine x_aload_n dX7_swapPlaces_0 rfl ?_
  refine x_iconst (v := 0) dX7_swapPlaces_1 rfl ?_
  refine t_put fpX7_72_6 dX7_swapPlaces_2 (by decide) ⟨rfl, rfl⟩ ?_
  refine x_aload_n dX7_swapPlaces_5 rfl ?_
  refine x_iload_n dX7_swapPlaces_6 rfl ?_
  refine t_cvV cvX7_383_X7 dX7_swapPlaces_7 (c_X7_noFiddler_1 _ _ _ _ _ _ _ x rfl hx) rfl ?_
  refine x_if_neT (tgt := 61) dX7_swapPlaces_10 (by decide) (by decide) ?_
  refine x_iconst (v := 0) dX7_swapPlaces_61 rfl ?_
  exact x_ireturn dX7_swapPlaces_62 rfl (by first | rfl | exact ite_nar | exact itn_nar) ⟨rfl, by rw [upd_upd]⟩
theorem c_X7_swapPlaces_1b (g : xG) (B : xA) (m : Nat) (F : Nat → Int32) (W : Int64) (S : Nat → Int32) (Z : Nat → Nat → Int32) (f : Nat) (y : Int32) (hk : tOk S) (hf : f < manyS S) (hy : inI y 0 (S 13 - 1) = 0) : xC g iX7_swapPlaces 6 [.ref m, .int (nI f), .int y] (tA B m F W S Z) (xRet (some (.int 0)) (tA B m (upd F 6 1) W S Z)) := by
  show xW g _ _ 0 [some (.ref m), some (.int (nI f)), some (.int y)] [] _ _
  refine x_aload_n dX7_swapPlaces_0 rfl ?_
  refine x_iconst (v := 0) dX7_swapPlaces_1 rfl ?_
  refine t_put fpX7_72_6 dX7_swapPlaces_2 (by decide) ⟨rfl, rfl⟩ ?_
  refine x_aload_n dX7_swapPlaces_5 rfl ?_
  refine x_iload_n dX7_swapPlaces_6 rfl ?_
  refine t_cvV cvX7_383_X7 dX7_swapPlaces_7 (c_X7_noFiddler_0 _ _ _ _ _ _ _ f rfl hk hf) rfl ?_
  refine x_if_neF dX7_swapPlaces_10 61 (by decide) (by decide) ?_
  refine x_aload_n dX7_swapPlaces_13 rfl ?_
  refine x_iload_n dX7_swapPlaces_14 rfl ?_
  refine t_cvV cvX7_383_X7 dX7_swapPlaces_15 (c_X7_noFiddler_1 _ _ _ _ _ _ _ y rfl hy) rfl ?_
  refine x_if_neT (tgt := 61) dX7_swapPlaces_18 (by decide) (by decide) ?_
  refine x_iconst (v := 0) dX7_swapPlaces_61 rfl ?_
  exact x_ireturn dX7_swapPlaces_62 rfl (by first | rfl | exact ite_nar | exact itn_nar) ⟨rfl, by rw [upd_upd]⟩
theorem c_X7_swapPlaces_2 (g : xG) (B : xA) (m : Nat) (F : Nat → Int32) (W : Int64) (S : Nat → Int32) (Z : Nat → Nat → Int32) (f : Nat) (hk : tOk S) (hf : f < manyS S) : xC g iX7_swapPlaces 6 [.ref m, .int (nI f), .int (nI f)] (tA B m F W S Z) (xRet (some (.int 0)) (tA B m (upd F 6 2) W S Z)) := by
  show xW g _ _ 0 [some (.ref m), some (.int (nI f)), some (.int (nI f))] [] _ _
  refine x_aload_n dX7_swapPlaces_0 rfl ?_
  refine x_iconst (v := 0) dX7_swapPlaces_1 rfl ?_
  refine t_put fpX7_72_6 dX7_swapPlaces_2 (by decide) ⟨rfl, rfl⟩ ?_
  refine x_aload_n dX7_swapPlaces_5 rfl ?_
  refine x_iload_n dX7_swapPlaces_6 rfl ?_
  refine t_cvV cvX7_383_X7 dX7_swapPlaces_7 (c_X7_noFiddler_0 _ _ _ _ _ _ _ f rfl hk hf) rfl ?_
  refine x_if_neF dX7_swapPlaces_10 61 (by decide) (by decide) ?_
  refine x_aload_n dX7_swapPlaces_13 rfl ?_
  refine x_iload_n dX7_swapPlaces_14 rfl ?_
  refine t_cvV cvX7_383_X7 dX7_swapPlaces_15 (c_X7_noFiddler_0 _ _ _ _ _ _ _ f rfl hk hf) rfl ?_
  refine x_if_neF dX7_swapPlaces_18 61 (by decide) (by decide) ?_
  refine x_aload_n dX7_swapPlaces_21 rfl ?_
  refine x_iload_n dX7_swapPlaces_22 rfl ?_
  refine x_iload_n dX7_swapPlaces_23 rfl ?_
  refine x_icmp_neF dX7_swapPlaces_24 31 (by decide) rfl ?_
  refine x_iconst (v := 1) dX7_swapPlaces_27 rfl ?_
  refine x_goto (tgt := 32) dX7_swapPlaces_28 (by decide) ?_
  refine x_iconst (v := 2) dX7_swapPlaces_32 rfl ?_
  refine t_cvV cvX7_136_X7 dX7_swapPlaces_33 (st_1 _ _ _ _ _ _ _ _ (by decide) rfl) rfl ?_
  refine x_if_neT (tgt := 61) dX7_swapPlaces_36 (by decide) (by decide) ?_
  refine x_iconst (v := 0) dX7_swapPlaces_61 rfl ?_
  exact x_ireturn dX7_swapPlaces_62 rfl (by first | rfl | exact ite_nar | exact itn_nar) ⟨rfl, by rw [upd_upd]⟩
theorem c_X7_swapPlaces_3 (g : xG) (B : xA) (m : Nat) (F : Nat → Int32) (W : Int64) (S : Nat → Int32) (Z : Nat → Nat → Int32) (f f2 : Nat) (hk : tOk S) (hf : f < manyS S) (hf2 : f2 < manyS S) (hne : f ≠ f2) (hc : ¬ (plO S f ≠ none ∧ plO S f2 ≠ none)) : xC g iX7_swapPlaces 6 [.ref m, .int (nI f), .int (nI f2)] (tA B m F W S Z) (xRet (some (.int 0)) (tA B m (upd F 6 3) W S Z)) := by
  show xW g _ _ 0 [some (.ref m), some (.int (nI f)), some (.int (nI f2))] [] _ _
  refine x_aload_n dX7_swapPlaces_0 rfl ?_
  refine x_iconst (v := 0) dX7_swapPlaces_1 rfl ?_
  refine t_put fpX7_72_6 dX7_swapPlaces_2 (by decide) ⟨rfl, rfl⟩ ?_
  refine x_aload_n dX7_swapPlaces_5 rfl ?_
  refine x_iload_n dX7_swapPlaces_6 rfl ?_
  refine t_cvV cvX7_383_X7 dX7_swapPlaces_7 (c_X7_noFiddler_0 _ _ _ _ _ _ _ f rfl hk hf) rfl ?_
  refine x_if_neF dX7_swapPlaces_10 61 (by decide) (by decide) ?_
  refine x_aload_n dX7_swapPlaces_13 rfl ?_
  refine x_iload_n dX7_swapPlaces_14 rfl ?_
  refine t_cvV cvX7_383_X7 dX7_swapPlaces_15 (c_X7_noFiddler_0 _ _ _ _ _ _ _ f2 rfl hk hf2) rfl ?_
  refine x_if_neF dX7_swapPlaces_18 61 (by decide) (by decide) ?_
  refine x_aload_n dX7_swapPlaces_21 rfl ?_
  refine x_iload_n dX7_swapPlaces_22 rfl ?_
  refine x_iload_n dX7_swapPlaces_23 rfl ?_
  refine x_icmp_neT (tgt := 31) dX7_swapPlaces_24 (by decide) (fun e => hne (nI_inj (by have := hk.1.2; omega) (by have := hk.1.2; omega) e)) ?_
  refine x_iconst (v := 0) dX7_swapPlaces_31 rfl ?_
  refine x_iconst (v := 2) dX7_swapPlaces_32 rfl ?_
  refine t_cvV cvX7_136_X7 dX7_swapPlaces_33 (st_0 _ _ _ _ _ _ _ _ (by decide) rfl) rfl ?_
  refine x_if_neF dX7_swapPlaces_36 61 (by decide) (by decide) ?_
  refine x_aload_n dX7_swapPlaces_39 rfl ?_
  refine x_aload_n dX7_swapPlaces_40 rfl ?_
  refine x_iload_n dX7_swapPlaces_41 rfl ?_
  refine x_iload_n dX7_swapPlaces_42 rfl ?_
  refine t_cvV cvX7_290_X7 dX7_swapPlaces_43 (c_X7_canSwap _ _ _ _ _ _ _ (nI f) (nI f2) hk) rfl ?_
  refine x_top (flI_no hc : flI (plcS S (nI f) (rowS S) 0 ≠ none ∧ plcS S (nI f2) (rowS S) 0 ≠ none) = 0) ?_
  refine x_if_neF dX7_swapPlaces_46 53 (by decide) (by decide) ?_
  refine x_iconst (v := 1) dX7_swapPlaces_49 rfl ?_
  refine x_goto (tgt := 54) dX7_swapPlaces_50 (by decide) ?_
  refine x_iconst (v := 3) dX7_swapPlaces_54 rfl ?_
  refine t_cvV cvX7_136_X7 dX7_swapPlaces_55 (st_1 _ _ _ _ _ _ _ _ (by decide) rfl) rfl ?_
  refine x_if_eqF dX7_swapPlaces_58 63 (by decide) (by decide) ?_
  refine x_iconst (v := 0) dX7_swapPlaces_61 rfl ?_
  exact x_ireturn dX7_swapPlaces_62 rfl (by first | rfl | exact ite_nar | exact itn_nar) ⟨rfl, by rw [upd_upd]⟩
theorem c_X7_swapPlaces_ok (g : xG) (B : xA) (m : Nat) (F : Nat → Int32) (W : Int64) (S : Nat → Int32) (Z : Nat → Nat → Int32) (f f2 : Nat) (hk : tOk S) (hf : f < manyS S) (hf2 : f2 < manyS S) (hne : f ≠ f2) (p q : Nat) (hp : plO S f = some p) (hq : plO S f2 = some q) (u : Nat) (hu : F 5 = nI u) (h8 : u ≤ 8) : xC g iX7_swapPlaces 6 [.ref m, .int (nI f), .int (nI f2)] (tA B m F W S Z) (xRet (some (.int (nI q))) (tA B m (upd (upd F 6 0) 5 (nI (kpU u + 1))) W (swapS S p q (nI f) (nI f2)) (zup Z 2 (kpP (Z 2) S u)))) := by
  have hc : plO S f ≠ none ∧ plO S f2 ≠ none := ⟨by rw [hp]; exact Option.some_ne_none _, by rw [hq]; exact Option.some_ne_none _⟩
  show xW g _ _ 0 [some (.ref m), some (.int (nI f)), some (.int (nI f2))] [] _ _
  refine x_aload_n dX7_swapPlaces_0 rfl ?_
  refine x_iconst (v := 0) dX7_swapPlaces_1 rfl ?_
  refine t_put fpX7_72_6 dX7_swapPlaces_2 (by decide) ⟨rfl, rfl⟩ ?_
  refine x_aload_n dX7_swapPlaces_5 rfl ?_
  refine x_iload_n dX7_swapPlaces_6 rfl ?_
  refine t_cvV cvX7_383_X7 dX7_swapPlaces_7 (c_X7_noFiddler_0 _ _ _ _ _ _ _ f rfl hk hf) rfl ?_
  refine x_if_neF dX7_swapPlaces_10 61 (by decide) (by decide) ?_
  refine x_aload_n dX7_swapPlaces_13 rfl ?_
  refine x_iload_n dX7_swapPlaces_14 rfl ?_
  refine t_cvV cvX7_383_X7 dX7_swapPlaces_15 (c_X7_noFiddler_0 _ _ _ _ _ _ _ f2 rfl hk hf2) rfl ?_
  refine x_if_neF dX7_swapPlaces_18 61 (by decide) (by decide) ?_
  refine x_aload_n dX7_swapPlaces_21 rfl ?_
  refine x_iload_n dX7_swapPlaces_22 rfl ?_
  refine x_iload_n dX7_swapPlaces_23 rfl ?_
  refine x_icmp_neT (tgt := 31) dX7_swapPlaces_24 (by decide) (fun e => hne (nI_inj (by have := hk.1.2; omega) (by have := hk.1.2; omega) e)) ?_
  refine x_iconst (v := 0) dX7_swapPlaces_31 rfl ?_
  refine x_iconst (v := 2) dX7_swapPlaces_32 rfl ?_
  refine t_cvV cvX7_136_X7 dX7_swapPlaces_33 (st_0 _ _ _ _ _ _ _ _ (by decide) rfl) rfl ?_
  refine x_if_neF dX7_swapPlaces_36 61 (by decide) (by decide) ?_
  refine x_aload_n dX7_swapPlaces_39 rfl ?_
  refine x_aload_n dX7_swapPlaces_40 rfl ?_
  refine x_iload_n dX7_swapPlaces_41 rfl ?_
  refine x_iload_n dX7_swapPlaces_42 rfl ?_
  refine t_cvV cvX7_290_X7 dX7_swapPlaces_43 (c_X7_canSwap _ _ _ _ _ _ _ (nI f) (nI f2) hk) rfl ?_
  refine x_top (flI_y hc : flI (plcS S (nI f) (rowS S) 0 ≠ none ∧ plcS S (nI f2) (rowS S) 0 ≠ none) = 1) ?_
  refine x_if_neT (tgt := 53) dX7_swapPlaces_46 (by decide) (by decide) ?_
  refine x_iconst (v := 0) dX7_swapPlaces_53 rfl ?_
  refine x_iconst (v := 3) dX7_swapPlaces_54 rfl ?_
  refine t_cvV cvX7_136_X7 dX7_swapPlaces_55 (st_0 _ _ _ _ _ _ _ _ (by decide) rfl) rfl ?_
  refine x_if_eqT (tgt := 63) dX7_swapPlaces_58 (by decide) (by decide) ?_
  refine x_aload_n dX7_swapPlaces_63 rfl ?_
  refine t_cvN cvX7_380_X7 dX7_swapPlaces_64 (c_X7_keepsPast _ _ _ _ _ _ _ u hu h8) rfl ?_
  refine x_aload_n dX7_swapPlaces_67 rfl ?_
  refine x_iload_n dX7_swapPlaces_68 rfl ?_
  refine x_iload_n dX7_swapPlaces_69 rfl ?_
  refine t_cvV cvX7_293_X7 dX7_swapPlaces_70 (c_X7_swaps _ _ _ _ _ _ _ (nI f) (nI f2) p q hk hp hq) rfl ?_
  exact x_ireturn dX7_swapPlaces_73 rfl (by first | rfl | exact ite_nar | exact itn_nar) ⟨rfl, rfl⟩
theorem c_X7_leaveRow_1 (g : xG) (B : xA) (m : Nat) (F : Nat → Int32) (W : Int64) (S : Nat → Int32) (Z : Nat → Nat → Int32) (x : Int32) (hx : inI x 0 (S 13 - 1) = 0) : xC g iX7_leaveRow 6 [.ref m, .int x] (tA B m F W S Z) (xRet (some (.int 0)) (tA B m (upd F 6 1) W S Z)) := by
  show xW g _ _ 0 [some (.ref m), some (.int x)] [] _ _
  refine x_aload_n dX7_leaveRow_0 rfl ?_
  refine x_iconst (v := 0) dX7_leaveRow_1 rfl ?_
  refine t_put fpX7_72_6 dX7_leaveRow_2 (by decide) ⟨rfl, rfl⟩ ?_
  refine x_aload_n dX7_leaveRow_5 rfl ?_
  refine x_iload_n dX7_leaveRow_6 rfl ?_
  refine t_cvV cvX7_383_X7 dX7_leaveRow_7 (c_X7_noFiddler_1 _ _ _ _ _ _ _ x rfl hx) rfl ?_
  refine x_if_neT (tgt := 35) dX7_leaveRow_10 (by decide) (by decide) ?_
  refine x_iconst (v := 0) dX7_leaveRow_35 rfl ?_
  exact x_ireturn dX7_leaveRow_36 rfl (by first | rfl | exact ite_nar | exact itn_nar) ⟨rfl, by rw [upd_upd]⟩
theorem c_X7_joinRow_1 (g : xG) (B : xA) (m : Nat) (F : Nat → Int32) (W : Int64) (S : Nat → Int32) (Z : Nat → Nat → Int32) (x : Int32) (hx : inI x 0 (S 13 - 1) = 0) : xC g iX7_joinRow 6 [.ref m, .int x] (tA B m F W S Z) (xRet (some (.int 0)) (tA B m (upd F 6 1) W S Z)) := by
  show xW g _ _ 0 [some (.ref m), some (.int x)] [] _ _
  refine x_aload_n dX7_joinRow_0 rfl ?_
  refine x_iconst (v := 0) dX7_joinRow_1 rfl ?_
  refine t_put fpX7_72_6 dX7_joinRow_2 (by decide) ⟨rfl, rfl⟩ ?_
  refine x_aload_n dX7_joinRow_5 rfl ?_
  refine x_iload_n dX7_joinRow_6 rfl ?_
  refine t_cvV cvX7_383_X7 dX7_joinRow_7 (c_X7_noFiddler_1 _ _ _ _ _ _ _ x rfl hx) rfl ?_
  refine x_if_neT (tgt := 35) dX7_joinRow_10 (by decide) (by decide) ?_
  refine x_iconst (v := 0) dX7_joinRow_35 rfl ?_
  exact x_ireturn dX7_joinRow_36 rfl (by first | rfl | exact ite_nar | exact itn_nar) ⟨rfl, by rw [upd_upd]⟩
theorem c_X7_leaveRow_2 (g : xG) (B : xA) (m : Nat) (F : Nat → Int32) (W : Int64) (S : Nat → Int32) (Z : Nat → Nat → Int32) (f : Nat) (hk : tOk S) (hf : f < manyS S) (hn : plO S f = none) : xC g iX7_leaveRow 6 [.ref m, .int (nI f)] (tA B m F W S Z) (xRet (some (.int 0)) (tA B m (upd F 6 2) W S Z)) := by
  show xW g _ _ 0 [some (.ref m), some (.int (nI f))] [] _ _
  refine x_aload_n dX7_leaveRow_0 rfl ?_
  refine x_iconst (v := 0) dX7_leaveRow_1 rfl ?_
  refine t_put fpX7_72_6 dX7_leaveRow_2 (by decide) ⟨rfl, rfl⟩ ?_
  refine x_aload_n dX7_leaveRow_5 rfl ?_
  refine x_iload_n dX7_leaveRow_6 rfl ?_
  refine t_cvV cvX7_383_X7 dX7_leaveRow_7 (c_X7_noFiddler_0 _ _ _ _ _ _ _ f rfl hk hf) rfl ?_
  refine x_if_neF dX7_leaveRow_10 35 (by decide) (by decide) ?_
  refine x_aload_n dX7_leaveRow_13 rfl ?_
  refine x_aload_n dX7_leaveRow_14 rfl ?_
  refine x_iload_n dX7_leaveRow_15 rfl ?_
  refine t_cvV cvX7_127_X7 dX7_leaveRow_16 (c_X7_place _ _ _ _ _ _ _ (nI f) hk) rfl ?_
  refine x_iconst (v := (-1)) dX7_leaveRow_19 rfl ?_
  refine x_icmp_neF dX7_leaveRow_20 27 (by decide) ((oI_pl hk).mpr hn) ?_
  refine x_iconst (v := 1) dX7_leaveRow_23 rfl ?_
  refine x_goto (tgt := 28) dX7_leaveRow_24 (by decide) ?_
  refine x_iconst (v := 2) dX7_leaveRow_28 rfl ?_
  refine t_cvV cvX7_136_X7 dX7_leaveRow_29 (st_1 _ _ _ _ _ _ _ _ (by decide) rfl) rfl ?_
  refine x_if_eqF dX7_leaveRow_32 37 (by decide) (by decide) ?_
  refine x_iconst (v := 0) dX7_leaveRow_35 rfl ?_
  exact x_ireturn dX7_leaveRow_36 rfl (by first | rfl | exact ite_nar | exact itn_nar) ⟨rfl, by rw [upd_upd]⟩
theorem c_X7_leaveRow_ok (g : xG) (B : xA) (m : Nat) (F : Nat → Int32) (W : Int64) (S : Nat → Int32) (Z : Nat → Nat → Int32) (f : Nat) (hk : tOk S) (hf : f < manyS S) (p : Nat) (hp : plO S f = some p) (u : Nat) (hu : F 5 = nI u) (h8 : u ≤ 8) : xC g iX7_leaveRow 6 [.ref m, .int (nI f)] (tA B m F W S Z) (xRet (some (.int (leS S p 14))) (tA B m (upd (upd F 6 0) 5 (nI (kpU u + 1))) W (leS S p) (zup Z 2 (kpP (Z 2) S u)))) := by
  show xW g _ _ 0 [some (.ref m), some (.int (nI f))] [] _ _
  refine x_aload_n dX7_leaveRow_0 rfl ?_
  refine x_iconst (v := 0) dX7_leaveRow_1 rfl ?_
  refine t_put fpX7_72_6 dX7_leaveRow_2 (by decide) ⟨rfl, rfl⟩ ?_
  refine x_aload_n dX7_leaveRow_5 rfl ?_
  refine x_iload_n dX7_leaveRow_6 rfl ?_
  refine t_cvV cvX7_383_X7 dX7_leaveRow_7 (c_X7_noFiddler_0 _ _ _ _ _ _ _ f rfl hk hf) rfl ?_
  refine x_if_neF dX7_leaveRow_10 35 (by decide) (by decide) ?_
  refine x_aload_n dX7_leaveRow_13 rfl ?_
  refine x_aload_n dX7_leaveRow_14 rfl ?_
  refine x_iload_n dX7_leaveRow_15 rfl ?_
  refine t_cvV cvX7_127_X7 dX7_leaveRow_16 (c_X7_place _ _ _ _ _ _ _ (nI f) hk) rfl ?_
  refine x_iconst (v := (-1)) dX7_leaveRow_19 rfl ?_
  refine x_icmp_neT (tgt := 27) dX7_leaveRow_20 (by decide) (fun e => by have := (oI_pl hk).mp e; rw [hp] at this; cases this) ?_
  refine x_iconst (v := 0) dX7_leaveRow_27 rfl ?_
  refine x_iconst (v := 2) dX7_leaveRow_28 rfl ?_
  refine t_cvV cvX7_136_X7 dX7_leaveRow_29 (st_0 _ _ _ _ _ _ _ _ (by decide) rfl) rfl ?_
  refine x_if_eqT (tgt := 37) dX7_leaveRow_32 (by decide) (by decide) ?_
  refine x_aload_n dX7_leaveRow_37 rfl ?_
  refine t_cvN cvX7_380_X7 dX7_leaveRow_38 (c_X7_keepsPast _ _ _ _ _ _ _ u hu h8) rfl ?_
  refine x_aload_n dX7_leaveRow_41 rfl ?_
  refine x_iload_n dX7_leaveRow_42 rfl ?_
  refine t_cvV cvX7_300_X7 dX7_leaveRow_43 (c_X7_leaves _ _ _ _ _ _ _ (nI f) p hk hp) rfl ?_
  exact x_ireturn dX7_leaveRow_46 rfl (by first | rfl | exact ite_nar | exact itn_nar) ⟨rfl, rfl⟩
theorem c_X7_joinRow_2 (g : xG) (B : xA) (m : Nat) (F : Nat → Int32) (W : Int64) (S : Nat → Int32) (Z : Nat → Nat → Int32) (f : Nat) (hk : tOk S) (hf : f < manyS S) (p : Nat) (hp : plO S f = some p) : xC g iX7_joinRow 6 [.ref m, .int (nI f)] (tA B m F W S Z) (xRet (some (.int 0)) (tA B m (upd F 6 2) W S Z)) := by
  show xW g _ _ 0 [some (.ref m), some (.int (nI f))] [] _ _
  refine x_aload_n dX7_joinRow_0 rfl ?_
  refine x_iconst (v := 0) dX7_joinRow_1 rfl ?_
  refine t_put fpX7_72_6 dX7_joinRow_2 (by decide) ⟨rfl, rfl⟩ ?_
  refine x_aload_n dX7_joinRow_5 rfl ?_
  refine x_iload_n dX7_joinRow_6 rfl ?_
  refine t_cvV cvX7_383_X7 dX7_joinRow_7 (c_X7_noFiddler_0 _ _ _ _ _ _ _ f rfl hk hf) rfl ?_
  refine x_if_neF dX7_joinRow_10 35 (by decide) (by decide) ?_
  refine x_aload_n dX7_joinRow_13 rfl ?_
  refine x_aload_n dX7_joinRow_14 rfl ?_
  refine x_iload_n dX7_joinRow_15 rfl ?_
  refine t_cvV cvX7_127_X7 dX7_joinRow_16 (c_X7_place _ _ _ _ _ _ _ (nI f) hk) rfl ?_
  refine x_iconst (v := (-1)) dX7_joinRow_19 rfl ?_
  refine x_icmp_eqF dX7_joinRow_20 27 (by decide) (fun e => by have := (oI_pl hk).mp e; rw [hp] at this; cases this) ?_
  refine x_iconst (v := 1) dX7_joinRow_23 rfl ?_
  refine x_goto (tgt := 28) dX7_joinRow_24 (by decide) ?_
  refine x_iconst (v := 2) dX7_joinRow_28 rfl ?_
  refine t_cvV cvX7_136_X7 dX7_joinRow_29 (st_1 _ _ _ _ _ _ _ _ (by decide) rfl) rfl ?_
  refine x_if_eqF dX7_joinRow_32 37 (by decide) (by decide) ?_
  refine x_iconst (v := 0) dX7_joinRow_35 rfl ?_
  exact x_ireturn dX7_joinRow_36 rfl (by first | rfl | exact ite_nar | exact itn_nar) ⟨rfl, by rw [upd_upd]⟩
theorem c_X7_joinRow_ok (g : xG) (B : xA) (m : Nat) (F : Nat → Int32) (W : Int64) (S : Nat → Int32) (Z : Nat → Nat → Int32) (f : Nat) (hk : tOk S) (hf : f < manyS S) (hn : plO S f = none) (hr : rowS S < 10) (u : Nat) (hu : F 5 = nI u) (h8 : u ≤ 8) : xC g iX7_joinRow 6 [.ref m, .int (nI f)] (tA B m F W S Z) (xRet (some (.int (joS S f 14 - 1))) (tA B m (upd (upd F 6 0) 5 (nI (kpU u + 1))) W (joS S f) (zup Z 2 (kpP (Z 2) S u)))) := by
  show xW g _ _ 0 [some (.ref m), some (.int (nI f))] [] _ _
  refine x_aload_n dX7_joinRow_0 rfl ?_
  refine x_iconst (v := 0) dX7_joinRow_1 rfl ?_
  refine t_put fpX7_72_6 dX7_joinRow_2 (by decide) ⟨rfl, rfl⟩ ?_
  refine x_aload_n dX7_joinRow_5 rfl ?_
  refine x_iload_n dX7_joinRow_6 rfl ?_
  refine t_cvV cvX7_383_X7 dX7_joinRow_7 (c_X7_noFiddler_0 _ _ _ _ _ _ _ f rfl hk hf) rfl ?_
  refine x_if_neF dX7_joinRow_10 35 (by decide) (by decide) ?_
  refine x_aload_n dX7_joinRow_13 rfl ?_
  refine x_aload_n dX7_joinRow_14 rfl ?_
  refine x_iload_n dX7_joinRow_15 rfl ?_
  refine t_cvV cvX7_127_X7 dX7_joinRow_16 (c_X7_place _ _ _ _ _ _ _ (nI f) hk) rfl ?_
  refine x_iconst (v := (-1)) dX7_joinRow_19 rfl ?_
  refine x_icmp_eqT (tgt := 27) dX7_joinRow_20 (by decide) ((oI_pl hk).mpr hn) ?_
  refine x_iconst (v := 0) dX7_joinRow_27 rfl ?_
  refine x_iconst (v := 2) dX7_joinRow_28 rfl ?_
  refine t_cvV cvX7_136_X7 dX7_joinRow_29 (st_0 _ _ _ _ _ _ _ _ (by decide) rfl) rfl ?_
  refine x_if_eqT (tgt := 37) dX7_joinRow_32 (by decide) (by decide) ?_
  refine x_aload_n dX7_joinRow_37 rfl ?_
  refine t_cvN cvX7_380_X7 dX7_joinRow_38 (c_X7_keepsPast _ _ _ _ _ _ _ u hu h8) rfl ?_
  refine x_aload_n dX7_joinRow_41 rfl ?_
  refine x_iload_n dX7_joinRow_42 rfl ?_
  refine t_cvV cvX7_303_X7 dX7_joinRow_43 (c_X7_joins _ _ _ _ _ _ _ f hk hr) rfl ?_
  exact x_ireturn dX7_joinRow_46 rfl (by first | rfl | exact ite_nar | exact itn_nar) ⟨rfl, rfl⟩
theorem c_X7_setTarget_1 (g : xG) (B : xA) (m : Nat) (F : Nat → Int32) (W : Int64) (S : Nat → Int32) (Z : Nat → Nat → Int32) (x : Int32) (hx : inI x 0 40 = 0) : xC g iX7_setTarget 6 [.ref m, .int x] (tA B m F W S Z) (xRet (some (.int 0)) (tA B m (upd F 6 1) W S Z)) := by
  show xW g _ _ 0 [some (.ref m), some (.int x)] [] _ _
  refine x_aload_n dX7_setTarget_0 rfl ?_
  refine x_iconst (v := 0) dX7_setTarget_1 rfl ?_
  refine t_put fpX7_72_6 dX7_setTarget_2 (by decide) ⟨rfl, rfl⟩ ?_
  refine x_aload_n dX7_setTarget_5 rfl ?_
  refine x_iload_n dX7_setTarget_6 rfl ?_
  refine x_i2l dX7_setTarget_7 ?_
  refine x_lconst (v := 0) dX7_setTarget_8 rfl ?_
  refine x_ldc2 (v := 40) q3976 dX7_setTarget_9 ?_
  refine x_csV csX7_144 dX7_setTarget_12 (ci_0 _ _ x 0 40 _ _ _ rfl rfl rfl hx) rfl ?_
  refine x_if_neF dX7_setTarget_15 22 (by decide) (by decide) ?_
  refine x_iconst (v := 1) dX7_setTarget_18 rfl ?_
  refine x_goto (tgt := 23) dX7_setTarget_19 (by decide) ?_
  refine x_iconst (v := 1) dX7_setTarget_23 rfl ?_
  refine t_cvV cvX7_136_X7 dX7_setTarget_24 (st_1 _ _ _ _ _ _ _ _ (by decide) rfl) rfl ?_
  refine x_if_eqF dX7_setTarget_27 32 (by decide) (by decide) ?_
  refine x_iconst (v := 0) dX7_setTarget_30 rfl ?_
  exact x_ireturn dX7_setTarget_31 rfl (by first | rfl | exact ite_nar | exact itn_nar) ⟨rfl, by rw [upd_upd]⟩
theorem c_X7_setTarget_ok (g : xG) (B : xA) (m : Nat) (F : Nat → Int32) (W : Int64) (S : Nat → Int32) (Z : Nat → Nat → Int32) (x : Int32) (hx : ¬ inI x 0 40 = 0) (u : Nat) (hu : F 5 = nI u) (h8 : u ≤ 8) : xC g iX7_setTarget 6 [.ref m, .int x] (tA B m F W S Z) (xRet (some (.int (S 2))) (tA B m (upd (upd F 6 0) 5 (nI (kpU u + 1))) W (upd S 2 x) (zup Z 2 (kpP (Z 2) S u)))) := by
  show xW g _ _ 0 [some (.ref m), some (.int x)] [] _ _
  refine x_aload_n dX7_setTarget_0 rfl ?_
  refine x_iconst (v := 0) dX7_setTarget_1 rfl ?_
  refine t_put fpX7_72_6 dX7_setTarget_2 (by decide) ⟨rfl, rfl⟩ ?_
  refine x_aload_n dX7_setTarget_5 rfl ?_
  refine x_iload_n dX7_setTarget_6 rfl ?_
  refine x_i2l dX7_setTarget_7 ?_
  refine x_lconst (v := 0) dX7_setTarget_8 rfl ?_
  refine x_ldc2 (v := 40) q3976 dX7_setTarget_9 ?_
  refine x_csV csX7_144 dX7_setTarget_12 (ci_1 _ _ x 0 40 _ _ _ rfl rfl rfl hx) rfl ?_
  refine x_if_neT (tgt := 22) dX7_setTarget_15 (by decide) (by decide) ?_
  refine x_iconst (v := 0) dX7_setTarget_22 rfl ?_
  refine x_iconst (v := 1) dX7_setTarget_23 rfl ?_
  refine t_cvV cvX7_136_X7 dX7_setTarget_24 (st_0 _ _ _ _ _ _ _ _ (by decide) rfl) rfl ?_
  refine x_if_eqT (tgt := 32) dX7_setTarget_27 (by decide) (by decide) ?_
  refine x_aload_n dX7_setTarget_32 rfl ?_
  refine t_cvN cvX7_380_X7 dX7_setTarget_33 (c_X7_keepsPast _ _ _ _ _ _ _ u hu h8) rfl ?_
  refine x_aload_n dX7_setTarget_36 rfl ?_
  refine x_iload_n dX7_setTarget_37 rfl ?_
  refine t_cvV cvX7_339_X7 dX7_setTarget_38 (c_X7_setsTarget _ _ _ _ _ _ _ x) rfl ?_
  exact x_ireturn dX7_setTarget_41 rfl (by first | rfl | exact ite_nar | exact itn_nar) ⟨rfl, rfl⟩
theorem c_X7_passHours_1 (g : xG) (B : xA) (m : Nat) (F : Nat → Int32) (W : Int64) (S : Nat → Int32) (Z : Nat → Nat → Int32) (x : Int32) (hx : inI x 1 48 = 0) : xC g iX7_passHours 7 [.ref m, .int x] (tA B m F W S Z) (xRet (some (.int 0)) (tA B m (upd F 6 1) W S Z)) := by
  show xW g _ _ 0 [some (.ref m), some (.int x)] [] _ _
  refine x_aload_n dX7_passHours_0 rfl ?_
  refine x_iconst (v := 0) dX7_passHours_1 rfl ?_
  refine t_put fpX7_72_6 dX7_passHours_2 (by decide) ⟨rfl, rfl⟩ ?_
  refine x_aload_n dX7_passHours_5 rfl ?_
  refine x_iload_n dX7_passHours_6 rfl ?_
  refine x_i2l dX7_passHours_7 ?_
  refine x_lconst (v := 1) dX7_passHours_8 rfl ?_
  refine x_ldc2 (v := 48) q3684 dX7_passHours_9 ?_
  refine x_csV csX7_144 dX7_passHours_12 (ci_0 _ _ x 1 48 _ _ _ rfl rfl rfl hx) rfl ?_
  refine x_if_neF dX7_passHours_15 22 (by decide) (by decide) ?_
  refine x_iconst (v := 1) dX7_passHours_18 rfl ?_
  refine x_goto (tgt := 23) dX7_passHours_19 (by decide) ?_
  refine x_iconst (v := 1) dX7_passHours_23 rfl ?_
  refine t_cvV cvX7_136_X7 dX7_passHours_24 (st_1 _ _ _ _ _ _ _ _ (by decide) rfl) rfl ?_
  refine x_if_neT (tgt := 57) dX7_passHours_27 (by decide) (by decide) ?_
  refine x_iconst (v := 0) dX7_passHours_57 rfl ?_
  exact x_ireturn dX7_passHours_58 rfl (by first | rfl | exact ite_nar | exact itn_nar) ⟨rfl, by rw [upd_upd]⟩
theorem c_X7_passHours_2 (g : xG) (B : xA) (m : Nat) (F : Nat → Int32) (W : Int64) (S : Nat → Int32) (Z : Nat → Nat → Int32) (x : Int32) (hx : ¬ inI x 1 48 = 0) (ho : 9999 < S 0 + x) : xC g iX7_passHours 7 [.ref m, .int x] (tA B m F W S Z) (xRet (some (.int 0)) (tA B m (upd F 6 2) W S Z)) := by
  show xW g _ _ 0 [some (.ref m), some (.int x)] [] _ _
  refine x_aload_n dX7_passHours_0 rfl ?_
  refine x_iconst (v := 0) dX7_passHours_1 rfl ?_
  refine t_put fpX7_72_6 dX7_passHours_2 (by decide) ⟨rfl, rfl⟩ ?_
  refine x_aload_n dX7_passHours_5 rfl ?_
  refine x_iload_n dX7_passHours_6 rfl ?_
  refine x_i2l dX7_passHours_7 ?_
  refine x_lconst (v := 1) dX7_passHours_8 rfl ?_
  refine x_ldc2 (v := 48) q3684 dX7_passHours_9 ?_
  refine x_csV csX7_144 dX7_passHours_12 (ci_1 _ _ x 1 48 _ _ _ rfl rfl rfl hx) rfl ?_
  refine x_if_neT (tgt := 22) dX7_passHours_15 (by decide) (by decide) ?_
  refine x_iconst (v := 0) dX7_passHours_22 rfl ?_
  refine x_iconst (v := 1) dX7_passHours_23 rfl ?_
  refine t_cvV cvX7_136_X7 dX7_passHours_24 (st_0 _ _ _ _ _ _ _ _ (by decide) rfl) rfl ?_
  refine x_if_neF dX7_passHours_27 57 (by decide) (by decide) ?_
  refine x_aload_n dX7_passHours_30 rfl ?_
  refine x_aload_n dX7_passHours_31 rfl ?_
  refine t_get fgX7_7_6 dX7_passHours_32 rfl ?_
  refine x_iconst (v := 0) dX7_passHours_35 rfl ?_
  refine t_aldS 0 dX7_passHours_36 rfl (by decide) ?_
  refine x_iload_n dX7_passHours_37 rfl ?_
  refine x_iadd dX7_passHours_38 ?_
  refine x_sipush (v := 9999) dX7_passHours_39 (by decide) ?_
  refine x_icmp_leF dX7_passHours_42 49 (by decide) (Int32.not_le.mpr ho) ?_
  refine x_iconst (v := 1) dX7_passHours_45 rfl ?_
  refine x_goto (tgt := 50) dX7_passHours_46 (by decide) ?_
  refine x_iconst (v := 2) dX7_passHours_50 rfl ?_
  refine t_cvV cvX7_136_X7 dX7_passHours_51 (st_1 _ _ _ _ _ _ _ _ (by decide) rfl) rfl ?_
  refine x_if_eqF dX7_passHours_54 59 (by decide) (by decide) ?_
  refine x_iconst (v := 0) dX7_passHours_57 rfl ?_
  exact x_ireturn dX7_passHours_58 rfl (by first | rfl | exact ite_nar | exact itn_nar) ⟨rfl, by rw [upd_upd]⟩
theorem c_X7_passHours_ok (g : xG) (B : xA) (m : Nat) (F : Nat → Int32) (W : Int64) (S : Nat → Int32) (Z : Nat → Nat → Int32) (j : Nat) (hk : tOk S) (hj : j ≤ 48) (hx : ¬ inI (nI j) 1 48 = 0) (ho : ¬ 9999 < S 0 + nI j) (u : Nat) (hu : F 5 = nI u) (h8 : u ≤ 8) : xC g iX7_passHours 7 [.ref m, .int (nI j)] (tA B m F W S Z) (xRet (some (.int (hoursS j S 1))) (tA B m (upd (upd F 6 0) 5 (nI (kpU u + 1))) W (hoursS j S) (zup Z 2 (kpP (Z 2) S u)))) := by
  show xW g _ _ 0 [some (.ref m), some (.int (nI j))] [] _ _
  refine x_aload_n dX7_passHours_0 rfl ?_
  refine x_iconst (v := 0) dX7_passHours_1 rfl ?_
  refine t_put fpX7_72_6 dX7_passHours_2 (by decide) ⟨rfl, rfl⟩ ?_
  refine x_aload_n dX7_passHours_5 rfl ?_
  refine x_iload_n dX7_passHours_6 rfl ?_
  refine x_i2l dX7_passHours_7 ?_
  refine x_lconst (v := 1) dX7_passHours_8 rfl ?_
  refine x_ldc2 (v := 48) q3684 dX7_passHours_9 ?_
  refine x_csV csX7_144 dX7_passHours_12 (ci_1 _ _ (nI j) 1 48 _ _ _ rfl rfl rfl hx) rfl ?_
  refine x_if_neT (tgt := 22) dX7_passHours_15 (by decide) (by decide) ?_
  refine x_iconst (v := 0) dX7_passHours_22 rfl ?_
  refine x_iconst (v := 1) dX7_passHours_23 rfl ?_
  refine t_cvV cvX7_136_X7 dX7_passHours_24 (st_0 _ _ _ _ _ _ _ _ (by decide) rfl) rfl ?_
  refine x_if_neF dX7_passHours_27 57 (by decide) (by decide) ?_
  refine x_aload_n dX7_passHours_30 rfl ?_
  refine x_aload_n dX7_passHours_31 rfl ?_
  refine t_get fgX7_7_6 dX7_passHours_32 rfl ?_
  refine x_iconst (v := 0) dX7_passHours_35 rfl ?_
  refine t_aldS 0 dX7_passHours_36 rfl (by decide) ?_
  refine x_iload_n dX7_passHours_37 rfl ?_
  refine x_iadd dX7_passHours_38 ?_
  refine x_sipush (v := 9999) dX7_passHours_39 (by decide) ?_
  refine x_icmp_leT (tgt := 49) dX7_passHours_42 (by decide) (Int32.not_lt.mp ho) ?_
  refine x_iconst (v := 0) dX7_passHours_49 rfl ?_
  refine x_iconst (v := 2) dX7_passHours_50 rfl ?_
  refine t_cvV cvX7_136_X7 dX7_passHours_51 (st_0 _ _ _ _ _ _ _ _ (by decide) rfl) rfl ?_
  refine x_if_eqT (tgt := 59) dX7_passHours_54 (by decide) (by decide) ?_
  refine x_aload_n dX7_passHours_59 rfl ?_
  refine t_cvN cvX7_380_X7 dX7_passHours_60 (c_X7_keepsPast _ _ _ _ _ _ _ u hu h8) rfl ?_
  refine x_aload_n dX7_passHours_63 rfl ?_
  refine x_iload_n dX7_passHours_64 rfl ?_
  refine t_cvV cvX7_342_X7 dX7_passHours_65 (c_X7_hours1 _ _ _ _ _ _ _ j hk (by omega)) rfl ?_
  exact x_ireturn dX7_passHours_68 rfl (by first | rfl | exact ite_nar | exact itn_nar) ⟨rfl, rfl⟩
theorem c_X7_undo_1 (g : xG) (B : xA) (m : Nat) (F : Nat → Int32) (W : Int64) (S : Nat → Int32) (Z : Nat → Nat → Int32) (hu : F 5 = nI 0) : xC g iX7_undo 3 [.ref m] (tA B m F W S Z) (xRet (some (.int 0)) (tA B m (upd F 6 1) W S Z)) := by
  show xW g _ _ 0 [some (.ref m)] [] _ _
  refine x_aload_n dX7_undo_0 rfl ?_
  refine x_iconst (v := 0) dX7_undo_1 rfl ?_
  refine t_put fpX7_72_6 dX7_undo_2 (by decide) ⟨rfl, rfl⟩ ?_
  refine x_aload_n dX7_undo_5 rfl ?_
  refine x_aload_n dX7_undo_6 rfl ?_
  refine t_get fgX7_259_6 dX7_undo_7 rfl ?_
  refine x_top hu ?_
  refine x_if_neF dX7_undo_10 17 (by decide) (by decide) ?_
  refine x_iconst (v := 1) dX7_undo_13 rfl ?_
  refine x_goto (tgt := 18) dX7_undo_14 (by decide) ?_
  refine x_iconst (v := 1) dX7_undo_18 rfl ?_
  refine t_cvV cvX7_136_X7 dX7_undo_19 (st_1 _ _ _ _ _ _ _ _ (by decide) rfl) rfl ?_
  refine x_if_eqF dX7_undo_22 27 (by decide) (by decide) ?_
  refine x_iconst (v := 0) dX7_undo_25 rfl ?_
  exact x_ireturn dX7_undo_26 rfl (by first | rfl | exact ite_nar | exact itn_nar) ⟨rfl, by rw [upd_upd]⟩
theorem c_X7_undo_ok (g : xG) (B : xA) (m : Nat) (F : Nat → Int32) (W : Int64) (S : Nat → Int32) (Z : Nat → Nat → Int32) (u : Nat) (hu : F 5 = nI (u + 1)) (h8 : u < 8) : xC g iX7_undo 3 [.ref m] (tA B m F W S Z) (xRet (some (.int (nI u))) (tA B m (upd (upd F 6 0) 5 (nI u)) W (va_cpy (Z 2) S (280 * u) 0 280) Z)) := by
  show xW g _ _ 0 [some (.ref m)] [] _ _
  refine x_aload_n dX7_undo_0 rfl ?_
  refine x_iconst (v := 0) dX7_undo_1 rfl ?_
  refine t_put fpX7_72_6 dX7_undo_2 (by decide) ⟨rfl, rfl⟩ ?_
  refine x_aload_n dX7_undo_5 rfl ?_
  refine x_aload_n dX7_undo_6 rfl ?_
  refine t_get fgX7_259_6 dX7_undo_7 rfl ?_
  refine x_top hu ?_
  refine x_if_neT (tgt := 17) dX7_undo_10 (by decide) (fun e => absurd (nI_inj (b := 0) (by omega) (by omega) e) (by omega)) ?_
  refine x_iconst (v := 0) dX7_undo_17 rfl ?_
  refine x_iconst (v := 1) dX7_undo_18 rfl ?_
  refine t_cvV cvX7_136_X7 dX7_undo_19 (st_0 _ _ _ _ _ _ _ _ (by decide) rfl) rfl ?_
  refine x_if_eqT (tgt := 27) dX7_undo_22 (by decide) (by decide) ?_
  refine x_aload_n dX7_undo_27 rfl ?_
  refine x_dup dX7_undo_28 rfl ?_
  refine t_get fgX7_259_6 dX7_undo_29 rfl ?_
  refine x_top hu ?_
  refine x_iconst (v := 1) dX7_undo_32 rfl ?_
  refine x_isub dX7_undo_33 ?_
  refine x_top (show nI (u + 1) - nI 1 = nI u from pk_sub (Nat.le_add_left 1 u)) ?_
  refine t_put fpX7_259_6 dX7_undo_34 (by decide) ⟨rfl, rfl⟩ ?_
  refine x_aload_n dX7_undo_37 rfl ?_
  refine t_get fgX7_16_6 dX7_undo_38 rfl ?_
  refine x_sipush (v := 280) dX7_undo_41 (by decide) ?_
  refine x_aload_n dX7_undo_44 rfl ?_
  refine t_get fgX7_259_6 dX7_undo_45 rfl ?_
  refine x_top (show _ = nI u from rfl) ?_
  refine x_imul dX7_undo_48 ?_
  refine x_top (y := nI (280 * u)) (pk_mul 280 u) ?_
  refine x_aload_n dX7_undo_49 rfl ?_
  refine t_get fgX7_7_6 dX7_undo_50 rfl ?_
  refine x_iconst (v := 0) dX7_undo_53 rfl ?_
  refine x_csN csX7_246 dX7_undo_54 (c_cpyZS _ _ _ _ _ _ _ tz2 (280 * u) (by omega) (by decide)) rfl ?_
  refine x_aload_n dX7_undo_57 rfl ?_
  refine t_get fgX7_259_6 dX7_undo_58 rfl ?_
  refine x_top (show _ = nI u from rfl) ?_
  exact x_ireturn dX7_undo_61 rfl (by first | rfl | exact ite_nar | exact itn_nar) ⟨rfl, rfl⟩
theorem c_X7_save_1 (g : xG) (B : xA) (m : Nat) (F : Nat → Int32) (W : Int64) (S : Nat → Int32) (Z : Nat → Nat → Int32) (x : Int32) (hx : inI x 0 1 = 0) : xC g iX7_save 3 [.ref m, .int x] (tA B m F W S Z) (xRet (some (.int 0)) (tA B m (upd F 6 1) W S Z)) := by
  show xW g _ _ 0 [some (.ref m), some (.int x)] [] _ _
  refine x_aload_n dX7_save_0 rfl ?_
  refine x_iconst (v := 0) dX7_save_1 rfl ?_
  refine t_put fpX7_72_6 dX7_save_2 (by decide) ⟨rfl, rfl⟩ ?_
  refine x_aload_n dX7_save_5 rfl ?_
  refine x_iload_n dX7_save_6 rfl ?_
  refine t_cvV cvX7_397_X7 dX7_save_7 (c_X7_noSlot_1 _ _ _ _ _ _ _ x rfl hx) rfl ?_
  refine x_if_eqF dX7_save_10 15 (by decide) (by decide) ?_
  refine x_iconst (v := 0) dX7_save_13 rfl ?_
  exact x_ireturn dX7_save_14 rfl (by first | rfl | exact ite_nar | exact itn_nar) ⟨rfl, by rw [upd_upd]⟩
theorem c_X7_restore_1 (g : xG) (B : xA) (m : Nat) (F : Nat → Int32) (W : Int64) (S : Nat → Int32) (Z : Nat → Nat → Int32) (x : Int32) (hx : inI x 0 1 = 0) : xC g iX7_restore 3 [.ref m, .int x] (tA B m F W S Z) (xRet (some (.int 0)) (tA B m (upd F 6 1) W S Z)) := by
  show xW g _ _ 0 [some (.ref m), some (.int x)] [] _ _
  refine x_aload_n dX7_restore_0 rfl ?_
  refine x_iconst (v := 0) dX7_restore_1 rfl ?_
  refine t_put fpX7_72_6 dX7_restore_2 (by decide) ⟨rfl, rfl⟩ ?_
  refine x_aload_n dX7_restore_5 rfl ?_
  refine x_iload_n dX7_restore_6 rfl ?_
  refine t_cvV cvX7_397_X7 dX7_restore_7 (c_X7_noSlot_1 _ _ _ _ _ _ _ x rfl hx) rfl ?_
  refine x_if_neT (tgt := 35) dX7_restore_10 (by decide) (by decide) ?_
  refine x_iconst (v := 0) dX7_restore_35 rfl ?_
  exact x_ireturn dX7_restore_36 rfl (by first | rfl | exact ite_nar | exact itn_nar) ⟨rfl, by rw [upd_upd]⟩
theorem c_X7_save_ok (g : xG) (B : xA) (m : Nat) (F : Nat → Int32) (W : Int64) (S : Nat → Int32) (Z : Nat → Nat → Int32) (s : Nat) (hs : s < 2) : xC g iX7_save 3 [.ref m, .int (nI s)] (tA B m F W S Z) (xRet (some (.int (S 0))) (tA B m (upd F 6 0) W S (zup (zup Z 3 (va_cpy S (Z 3) 0 (280 * s) 280)) 4 (upd (Z 4) s 1)))) := by
  show xW g _ _ 0 [some (.ref m), some (.int (nI s))] [] _ _
  refine x_aload_n dX7_save_0 rfl ?_
  refine x_iconst (v := 0) dX7_save_1 rfl ?_
  refine t_put fpX7_72_6 dX7_save_2 (by decide) ⟨rfl, rfl⟩ ?_
  refine x_aload_n dX7_save_5 rfl ?_
  refine x_iload_n dX7_save_6 rfl ?_
  refine t_cvV cvX7_397_X7 dX7_save_7 (c_X7_noSlot_0 _ _ _ _ _ _ _ s rfl hs) rfl ?_
  refine x_if_eqT (tgt := 15) dX7_save_10 (by decide) (by decide) ?_
  refine x_aload_n dX7_save_15 rfl ?_
  refine t_get fgX7_7_6 dX7_save_16 rfl ?_
  refine x_iconst (v := 0) dX7_save_19 rfl ?_
  refine x_aload_n dX7_save_20 rfl ?_
  refine t_get fgX7_19_6 dX7_save_21 rfl ?_
  refine x_sipush (v := 280) dX7_save_24 (by decide) ?_
  refine x_iload_n dX7_save_27 rfl ?_
  refine x_imul dX7_save_28 ?_
  refine x_top (y := nI (280 * s)) (pk_mul 280 s) ?_
  refine x_csN csX7_246 dX7_save_29 (c_cpySZ _ _ _ _ _ _ _ tz3 (280 * s) (by omega) (by decide)) rfl ?_
  refine x_aload_n dX7_save_32 rfl ?_
  refine t_get fgX7_22_6 dX7_save_33 rfl ?_
  refine x_iload_n dX7_save_36 rfl ?_
  refine x_iconst (v := 1) dX7_save_37 rfl ?_
  refine t_astK s dX7_save_38 rfl (by omega) rfl ?_
  refine x_aload_n dX7_save_39 rfl ?_
  refine t_get fgX7_7_6 dX7_save_40 rfl ?_
  refine x_iconst (v := 0) dX7_save_43 rfl ?_
  refine t_aldS 0 dX7_save_44 rfl (by decide) ?_
  exact x_ireturn dX7_save_45 rfl (by first | rfl | exact ite_nar | exact itn_nar) ⟨rfl, rfl⟩
theorem c_X7_restore_2 (g : xG) (B : xA) (m : Nat) (F : Nat → Int32) (W : Int64) (S : Nat → Int32) (Z : Nat → Nat → Int32) (s : Nat) (hs : s < 2) (hn : Z 4 s = 0) : xC g iX7_restore 3 [.ref m, .int (nI s)] (tA B m F W S Z) (xRet (some (.int 0)) (tA B m (upd F 6 2) W S Z)) := by
  show xW g _ _ 0 [some (.ref m), some (.int (nI s))] [] _ _
  refine x_aload_n dX7_restore_0 rfl ?_
  refine x_iconst (v := 0) dX7_restore_1 rfl ?_
  refine t_put fpX7_72_6 dX7_restore_2 (by decide) ⟨rfl, rfl⟩ ?_
  refine x_aload_n dX7_restore_5 rfl ?_
  refine x_iload_n dX7_restore_6 rfl ?_
  refine t_cvV cvX7_397_X7 dX7_restore_7 (c_X7_noSlot_0 _ _ _ _ _ _ _ s rfl hs) rfl ?_
  refine x_if_neF dX7_restore_10 35 (by decide) (by decide) ?_
  refine x_aload_n dX7_restore_13 rfl ?_
  refine x_aload_n dX7_restore_14 rfl ?_
  refine t_get fgX7_22_6 dX7_restore_15 rfl ?_
  refine x_iload_n dX7_restore_18 rfl ?_
  refine t_aldK s dX7_restore_19 rfl (by omega)  ?_
  refine x_if_neF dX7_restore_20 27 (by decide) hn ?_
  refine x_iconst (v := 1) dX7_restore_23 rfl ?_
  refine x_goto (tgt := 28) dX7_restore_24 (by decide) ?_
  refine x_iconst (v := 2) dX7_restore_28 rfl ?_
  refine t_cvV cvX7_136_X7 dX7_restore_29 (st_1 _ _ _ _ _ _ _ _ (by decide) rfl) rfl ?_
  refine x_if_eqF dX7_restore_32 37 (by decide) (by decide) ?_
  refine x_iconst (v := 0) dX7_restore_35 rfl ?_
  exact x_ireturn dX7_restore_36 rfl (by first | rfl | exact ite_nar | exact itn_nar) ⟨rfl, by rw [upd_upd]⟩
theorem c_X7_restore_ok (g : xG) (B : xA) (m : Nat) (F : Nat → Int32) (W : Int64) (S : Nat → Int32) (Z : Nat → Nat → Int32) (s : Nat) (hs : s < 2) (hn : ¬ Z 4 s = 0) : xC g iX7_restore 3 [.ref m, .int (nI s)] (tA B m F W S Z) (xRet (some (.int (va_cpy (Z 3) S (280 * s) 0 280 0))) (tA B m (upd (upd F 6 0) 5 0) W (va_cpy (Z 3) S (280 * s) 0 280) Z)) := by
  show xW g _ _ 0 [some (.ref m), some (.int (nI s))] [] _ _
  refine x_aload_n dX7_restore_0 rfl ?_
  refine x_iconst (v := 0) dX7_restore_1 rfl ?_
  refine t_put fpX7_72_6 dX7_restore_2 (by decide) ⟨rfl, rfl⟩ ?_
  refine x_aload_n dX7_restore_5 rfl ?_
  refine x_iload_n dX7_restore_6 rfl ?_
  refine t_cvV cvX7_397_X7 dX7_restore_7 (c_X7_noSlot_0 _ _ _ _ _ _ _ s rfl hs) rfl ?_
  refine x_if_neF dX7_restore_10 35 (by decide) (by decide) ?_
  refine x_aload_n dX7_restore_13 rfl ?_
  refine x_aload_n dX7_restore_14 rfl ?_
  refine t_get fgX7_22_6 dX7_restore_15 rfl ?_
  refine x_iload_n dX7_restore_18 rfl ?_
  refine t_aldK s dX7_restore_19 rfl (by omega)  ?_
  refine x_if_neT (tgt := 27) dX7_restore_20 (by decide) hn ?_
  refine x_iconst (v := 0) dX7_restore_27 rfl ?_
  refine x_iconst (v := 2) dX7_restore_28 rfl ?_
  refine t_cvV cvX7_136_X7 dX7_restore_29 (st_0 _ _ _ _ _ _ _ _ (by decide) rfl) rfl ?_
  refine x_if_eqT (tgt := 37) dX7_restore_32 (by decide) (by decide) ?_
  refine x_aload_n dX7_restore_37 rfl ?_
  refine t_get fgX7_19_6 dX7_restore_38 rfl ?_
  refine x_sipush (v := 280) dX7_restore_41 (by decide) ?_
  refine x_iload_n dX7_restore_44 rfl ?_
  refine x_imul dX7_restore_45 ?_
  refine x_top (y := nI (280 * s)) (pk_mul 280 s) ?_
  refine x_aload_n dX7_restore_46 rfl ?_
  refine t_get fgX7_7_6 dX7_restore_47 rfl ?_
  refine x_iconst (v := 0) dX7_restore_50 rfl ?_
  refine x_csN csX7_246 dX7_restore_51 (c_cpyZS _ _ _ _ _ _ _ tz3 (280 * s) (by omega) (by decide)) rfl ?_
  refine x_aload_n dX7_restore_54 rfl ?_
  refine x_iconst (v := 0) dX7_restore_55 rfl ?_
  refine t_put fpX7_259_6 dX7_restore_56 (by decide) ⟨rfl, rfl⟩ ?_
  refine x_aload_n dX7_restore_59 rfl ?_
  refine t_get fgX7_7_6 dX7_restore_60 rfl ?_
  refine x_iconst (v := 0) dX7_restore_63 rfl ?_
  refine t_aldS 0 dX7_restore_64 rfl (by decide) ?_
  exact x_ireturn dX7_restore_65 rfl (by first | rfl | exact ite_nar | exact itn_nar) ⟨rfl, rfl⟩
