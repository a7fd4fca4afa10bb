set_option maxRecDepth 100000
theorem st_0 (g : xG) (B : xA) (m : Nat) (F : Nat → Int32) (W : Int64) (S : Nat → Int32) (Z : Nat → Nat → Int32) (c : Int32) (hc : ¬ c = 0) (h6 : F 6 = 0) : xC g iX7_stops 0 [.ref m, .int 0, .int c] (tA B m F W S Z) (xRet (some (.int 0)) (tA B m F W S Z)) := by
  have k := c_X7_stops g B m F W S Z 0 c hc
  rw [if_pos ⟨h6, rfl⟩, if_neg (fun e => e.2 rfl), upd_id] at k
  exact k
theorem st_1 (g : xG) (B : xA) (m : Nat) (F : Nat → Int32) (W : Int64) (S : Nat → Int32) (Z : Nat → Nat → Int32) (c : Int32) (hc : ¬ c = 0) (h6 : F 6 = 0) : xC g iX7_stops 0 [.ref m, .int 1, .int c] (tA B m F W S Z) (xRet (some (.int 1)) (tA B m (upd F 6 c) W S Z)) := by
  have k := c_X7_stops g B m F W S Z 1 c hc
  rw [if_neg (fun e => absurd e.2 (by decide)), if_pos ⟨h6, by decide⟩] at k
  exact k
theorem ci_0 (g : xG) (A : xA) (x lo hi : Int32) (a b c : Int64) (ha : a = x.toInt64) (hb : b = lo.toInt64) (hc : c = hi.toInt64) (h : inI x lo hi = 0) : xC g iX7_in 0 [.long a, .long b, .long c] A (xRet (some (.int 0)) A) := by
  have k := c_X7_in g A x lo hi a b c ha hb hc
  rw [h] at k
  exact k
theorem ci_1 (g : xG) (A : xA) (x lo hi : Int32) (a b c : Int64) (ha : a = x.toInt64) (hb : b = lo.toInt64) (hc : c = hi.toInt64) (h : ¬ inI x lo hi = 0) : xC g iX7_in 0 [.long a, .long b, .long c] A (xRet (some (.int 1)) A) := by
  have k := c_X7_in g A x lo hi a b c ha hb hc
  rw [inI_y h] at k
  exact k
theorem c_X7_noFiddler_1 (g : xG) (B : xA) (m : Nat) (F : Nat → Int32) (W : Int64) (S : Nat → Int32) (Z : Nat → Nat → Int32) (x : Int32) (h6 : F 6 = 0) (hx : inI x 0 (S 13 - 1) = 0) : xC g iX7_noFiddler 2 [.ref m, .int x] (tA B m F W S Z) (xRet (some (.int 1)) (tA B m (upd F 6 1) W S Z)) := by
  show xW g _ _ 0 [some (.ref m), some (.int x)] [] _ _
  refine x_aload_n dX7_noFiddler_0 rfl ?_
  refine x_iload_n dX7_noFiddler_1 rfl ?_
  refine x_i2l dX7_noFiddler_2 ?_
  refine x_lconst (v := 0) dX7_noFiddler_3 rfl ?_
  refine x_aload_n dX7_noFiddler_4 rfl ?_
  refine t_get fgX7_7_6 dX7_noFiddler_5 rfl ?_
  refine x_bipush (v := 13) dX7_noFiddler_8 (by decide) ?_
  refine t_aldS 13 dX7_noFiddler_10 rfl (by decide) ?_
  refine x_iconst (v := 1) dX7_noFiddler_11 rfl ?_
  refine x_isub dX7_noFiddler_12 ?_
  refine x_i2l dX7_noFiddler_13 ?_
  refine x_csV csX7_144 dX7_noFiddler_14 (ci_0 _ _ x 0 (S 13 - 1) _ _ _ rfl rfl rfl hx) rfl ?_
  refine x_if_neF dX7_noFiddler_17 24 (by decide) (by decide) ?_
  refine x_iconst (v := 1) dX7_noFiddler_20 rfl ?_
  refine x_goto (tgt := 25) dX7_noFiddler_21 (by decide) ?_
  refine x_iconst (v := 1) dX7_noFiddler_25 rfl ?_
  refine t_cvV cvX7_136_X7 dX7_noFiddler_26 (st_1 _ _ _ _ _ _ _ _ (by decide) h6) rfl ?_
  exact x_ireturn dX7_noFiddler_29 rfl (by first | rfl | exact ite_nar | exact itn_nar) ⟨rfl, rfl⟩
theorem c_X7_noFiddler_0 (g : xG) (B : xA) (m : Nat) (F : Nat → Int32) (W : Int64) (S : Nat → Int32) (Z : Nat → Nat → Int32) (f : Nat) (h6 : F 6 = 0) (hk : tOk S) (hf : f < manyS S) : xC g iX7_noFiddler 2 [.ref m, .int (nI f)] (tA B m F W S Z) (xRet (some (.int 0)) (tA B m F W S Z)) := by
  show xW g _ _ 0 [some (.ref m), some (.int (nI f))] [] _ _
  refine x_aload_n dX7_noFiddler_0 rfl ?_
  refine x_iload_n dX7_noFiddler_1 rfl ?_
  refine x_i2l dX7_noFiddler_2 ?_
  refine x_lconst (v := 0) dX7_noFiddler_3 rfl ?_
  refine x_aload_n dX7_noFiddler_4 rfl ?_
  refine t_get fgX7_7_6 dX7_noFiddler_5 rfl ?_
  refine x_bipush (v := 13) dX7_noFiddler_8 (by decide) ?_
  refine t_aldS 13 dX7_noFiddler_10 rfl (by decide) ?_
  refine x_iconst (v := 1) dX7_noFiddler_11 rfl ?_
  refine x_isub dX7_noFiddler_12 ?_
  refine x_i2l dX7_noFiddler_13 ?_
  refine x_csV csX7_144 dX7_noFiddler_14 (ci_1 _ _ (nI f) 0 (S 13 - 1) _ _ _ rfl rfl rfl (in_f hk hf)) rfl ?_
  refine x_if_neT (tgt := 24) dX7_noFiddler_17 (by decide) (by decide) ?_
  refine x_iconst (v := 0) dX7_noFiddler_24 rfl ?_
  refine x_iconst (v := 1) dX7_noFiddler_25 rfl ?_
  refine t_cvV cvX7_136_X7 dX7_noFiddler_26 (st_0 _ _ _ _ _ _ _ _ (by decide) h6) rfl ?_
  exact x_ireturn dX7_noFiddler_29 rfl (by first | rfl | exact ite_nar | exact itn_nar) ⟨rfl, rfl⟩
theorem c_X7_noString_1a (g : xG) (B : xA) (m : Nat) (F : Nat → Int32) (W : Int64) (S : Nat → Int32) (Z : Nat → Nat → Int32) (x y : Int32) (h6 : F 6 = 0) (hx : inI x 0 (S 13 - 1) = 0) : xC g iX7_noString 3 [.ref m, .int x, .int y] (tA B m F W S Z) (xRet (some (.int 1)) (tA B m (upd F 6 1) W S Z)) := by
  show xW g _ _ 0 [some (.ref m), some (.int x), some (.int y)] [] _ _
  refine x_aload_n dX7_noString_0 rfl ?_
  refine x_iload_n dX7_noString_1 rfl ?_
  refine t_cvV cvX7_383_X7 dX7_noString_2 (c_X7_noFiddler_1 _ _ _ _ _ _ _ x h6 hx) rfl ?_
  refine x_if_neT (tgt := 33) dX7_noString_5 (by decide) (by decide) ?_
  refine x_iconst (v := 1) dX7_noString_33 rfl ?_
  refine x_goto (tgt := 38) dX7_noString_34 (by decide) ?_
  exact x_ireturn dX7_noString_38 rfl (by first | rfl | exact ite_nar | exact itn_nar) ⟨rfl, rfl⟩
theorem c_X7_noString_1b (g : xG) (B : xA) (m : Nat) (F : Nat → Int32) (W : Int64) (S : Nat → Int32) (Z : Nat → Nat → Int32) (f : Nat) (y : Int32) (h6 : F 6 = 0) (hk : tOk S) (hf : f < manyS S) (hy : inI y 0 3 = 0) : xC g iX7_noString 3 [.ref m, .int (nI f), .int y] (tA B m F W S Z) (xRet (some (.int 1)) (tA B m (upd F 6 1) W S Z)) := by
  show xW g _ _ 0 [some (.ref m), some (.int (nI f)), some (.int y)] [] _ _
  refine x_aload_n dX7_noString_0 rfl ?_
  refine x_iload_n dX7_noString_1 rfl ?_
  refine t_cvV cvX7_383_X7 dX7_noString_2 (c_X7_noFiddler_0 _ _ _ _ _ _ _ f h6 hk hf) rfl ?_
  refine x_if_neF dX7_noString_5 33 (by decide) (by decide) ?_
  refine x_aload_n dX7_noString_8 rfl ?_
  refine x_iload_n dX7_noString_9 rfl ?_
  refine x_i2l dX7_noString_10 ?_
  refine x_lconst (v := 0) dX7_noString_11 rfl ?_
  refine x_ldc2 (v := 3) q3949 dX7_noString_12 ?_
  refine x_csV csX7_144 dX7_noString_15 (ci_0 _ _ y 0 3 _ _ _ rfl rfl rfl hy) rfl ?_
  refine x_if_neF dX7_noString_18 25 (by decide) (by decide) ?_
  refine x_iconst (v := 1) dX7_noString_21 rfl ?_
  refine x_goto (tgt := 26) dX7_noString_22 (by decide) ?_
  refine x_iconst (v := 1) dX7_noString_26 rfl ?_
  refine t_cvV cvX7_136_X7 dX7_noString_27 (st_1 _ _ _ _ _ _ _ _ (by decide) h6) rfl ?_
  refine x_if_eqF dX7_noString_30 37 (by decide) (by decide) ?_
  refine x_iconst (v := 1) dX7_noString_33 rfl ?_
  refine x_goto (tgt := 38) dX7_noString_34 (by decide) ?_
  exact x_ireturn dX7_noString_38 rfl (by first | rfl | exact ite_nar | exact itn_nar) ⟨rfl, rfl⟩
theorem c_X7_noString_0 (g : xG) (B : xA) (m : Nat) (F : Nat → Int32) (W : Int64) (S : Nat → Int32) (Z : Nat → Nat → Int32) (f k : Nat) (h6 : F 6 = 0) (hk : tOk S) (hf : f < manyS S) (h4 : k < 4) : xC g iX7_noString 3 [.ref m, .int (nI f), .int (nI k)] (tA B m F W S Z) (xRet (some (.int 0)) (tA B m F W S Z)) := by
  show xW g _ _ 0 [some (.ref m), some (.int (nI f)), some (.int (nI k))] [] _ _
  refine x_aload_n dX7_noString_0 rfl ?_
  refine x_iload_n dX7_noString_1 rfl ?_
  refine t_cvV cvX7_383_X7 dX7_noString_2 (c_X7_noFiddler_0 _ _ _ _ _ _ _ f h6 hk hf) rfl ?_
  refine x_if_neF dX7_noString_5 33 (by decide) (by decide) ?_
  refine x_aload_n dX7_noString_8 rfl ?_
  refine x_iload_n dX7_noString_9 rfl ?_
  refine x_i2l dX7_noString_10 ?_
  refine x_lconst (v := 0) dX7_noString_11 rfl ?_
  refine x_ldc2 (v := 3) q3949 dX7_noString_12 ?_
  refine x_csV csX7_144 dX7_noString_15 (ci_1 _ _ (nI k) 0 3 _ _ _ rfl rfl rfl (in_k h4)) rfl ?_
  refine x_if_neT (tgt := 25) dX7_noString_18 (by decide) (by decide) ?_
  refine x_iconst (v := 0) dX7_noString_25 rfl ?_
  refine x_iconst (v := 1) dX7_noString_26 rfl ?_
  refine t_cvV cvX7_136_X7 dX7_noString_27 (st_0 _ _ _ _ _ _ _ _ (by decide) h6) rfl ?_
  refine x_if_eqT (tgt := 37) dX7_noString_30 (by decide) (by decide) ?_
  refine x_iconst (v := 0) dX7_noString_37 rfl ?_
  exact x_ireturn dX7_noString_38 rfl (by first | rfl | exact ite_nar | exact itn_nar) ⟨rfl, rfl⟩
theorem c_X7_noSlot_1 (g : xG) (B : xA) (m : Nat) (F : Nat → Int32) (W : Int64) (S : Nat → Int32) (Z : Nat → Nat → Int32) (x : Int32) (h6 : F 6 = 0) (hx : inI x 0 1 = 0) : xC g iX7_noSlot 2 [.ref m, .int x] (tA B m F W S Z) (xRet (some (.int 1)) (tA B m (upd F 6 1) W S Z)) := by
  show xW g _ _ 0 [some (.ref m), some (.int x)] [] _ _
  refine x_aload_n dX7_noSlot_0 rfl ?_
  refine x_iload_n dX7_noSlot_1 rfl ?_
  refine x_i2l dX7_noSlot_2 ?_
  refine x_lconst (v := 0) dX7_noSlot_3 rfl ?_
  refine x_lconst (v := 1) dX7_noSlot_4 rfl ?_
  refine x_csV csX7_144 dX7_noSlot_5 (ci_0 _ _ x 0 1 _ _ _ rfl rfl rfl hx) rfl ?_
  refine x_if_neF dX7_noSlot_8 15 (by decide) (by decide) ?_
  refine x_iconst (v := 1) dX7_noSlot_11 rfl ?_
  refine x_goto (tgt := 16) dX7_noSlot_12 (by decide) ?_
  refine x_iconst (v := 1) dX7_noSlot_16 rfl ?_
  refine t_cvV cvX7_136_X7 dX7_noSlot_17 (st_1 _ _ _ _ _ _ _ _ (by decide) h6) rfl ?_
  exact x_ireturn dX7_noSlot_20 rfl (by first | rfl | exact ite_nar | exact itn_nar) ⟨rfl, rfl⟩
theorem c_X7_noSlot_0 (g : xG) (B : xA) (m : Nat) (F : Nat → Int32) (W : Int64) (S : Nat → Int32) (Z : Nat → Nat → Int32) (s : Nat) (h6 : F 6 = 0) (hs : s < 2) : xC g iX7_noSlot 2 [.ref m, .int (nI s)] (tA B m F W S Z) (xRet (some (.int 0)) (tA B m F W S Z)) := by
  show xW g _ _ 0 [some (.ref m), some (.int (nI s))] [] _ _
  refine x_aload_n dX7_noSlot_0 rfl ?_
  refine x_iload_n dX7_noSlot_1 rfl ?_
  refine x_i2l dX7_noSlot_2 ?_
  refine x_lconst (v := 0) dX7_noSlot_3 rfl ?_
  refine x_lconst (v := 1) dX7_noSlot_4 rfl ?_
  refine x_csV csX7_144 dX7_noSlot_5 (ci_1 _ _ (nI s) 0 1 _ _ _ rfl rfl rfl (in_ix (n := 2) hs (by decide))) rfl ?_
  refine x_if_neT (tgt := 15) dX7_noSlot_8 (by decide) (by decide) ?_
  refine x_iconst (v := 0) dX7_noSlot_15 rfl ?_
  refine x_iconst (v := 1) dX7_noSlot_16 rfl ?_
  refine t_cvV cvX7_136_X7 dX7_noSlot_17 (st_0 _ _ _ _ _ _ _ _ (by decide) h6) rfl ?_
  exact x_ireturn dX7_noSlot_20 rfl (by first | rfl | exact ite_nar | exact itn_nar) ⟨rfl, rfl⟩
theorem c_X7_told (g : xG) (B : xA) (m : Nat) (F : Nat → Int32) (W : Int64) (S : Nat → Int32) (Z : Nat → Nat → Int32) (w : Nat) (hw : w < 280) : xC g iX7_told 0 [.ref m, .int (nI w)] (tA B m F W S Z) (xRet (some (.int (S w))) (tA B m (upd F 6 0) W S Z)) := by
  show xW g _ _ 0 [some (.ref m), some (.int (nI w))] [] _ _
  refine x_aload_n dX7_told_0 rfl ?_
  refine x_iconst (v := 0) dX7_told_1 rfl ?_
  refine t_put fpX7_72_6 dX7_told_2 (by decide) ⟨rfl, rfl⟩ ?_
  refine x_aload_n dX7_told_5 rfl ?_
  refine t_get fgX7_7_6 dX7_told_6 rfl ?_
  refine x_iload_n dX7_told_9 rfl ?_
  refine t_aldS w dX7_told_10 rfl (by omega) ?_
  exact x_ireturn dX7_told_11 rfl (by first | rfl | exact ite_nar | exact itn_nar) ⟨rfl, rfl⟩
theorem c_X7_hour (g : xG) (B : xA) (m : Nat) (F : Nat → Int32) (W : Int64) (S : Nat → Int32) (Z : Nat → Nat → Int32)  : xC g iX7_hour 1 [.ref m] (tA B m F W S Z) (xRet (some (.int (S 0))) (tA B m (upd F 6 0) W S Z)) := by
  show xW g _ _ 0 [some (.ref m)] [] _ _
  refine x_aload_n dX7_hour_0 rfl ?_
  refine x_iconst (v := 0) dX7_hour_1 rfl ?_
  refine t_cvV cvX7_400_X7 dX7_hour_2 (c_X7_told _ _ _ _ _ _ _ 0 (by decide)) rfl ?_
  exact x_ireturn dX7_hour_5 rfl (by first | rfl | exact ite_nar | exact itn_nar) ⟨rfl, rfl⟩
theorem c_X7_temperature (g : xG) (B : xA) (m : Nat) (F : Nat → Int32) (W : Int64) (S : Nat → Int32) (Z : Nat → Nat → Int32)  : xC g iX7_temperature 1 [.ref m] (tA B m F W S Z) (xRet (some (.int (S 1))) (tA B m (upd F 6 0) W S Z)) := by
  show xW g _ _ 0 [some (.ref m)] [] _ _
  refine x_aload_n dX7_temperature_0 rfl ?_
  refine x_iconst (v := 1) dX7_temperature_1 rfl ?_
  refine t_cvV cvX7_400_X7 dX7_temperature_2 (c_X7_told _ _ _ _ _ _ _ 1 (by decide)) rfl ?_
  exact x_ireturn dX7_temperature_5 rfl (by first | rfl | exact ite_nar | exact itn_nar) ⟨rfl, rfl⟩
theorem c_X7_targetTemperature (g : xG) (B : xA) (m : Nat) (F : Nat → Int32) (W : Int64) (S : Nat → Int32) (Z : Nat → Nat → Int32)  : xC g iX7_targetTemperature 1 [.ref m] (tA B m F W S Z) (xRet (some (.int (S 2))) (tA B m (upd F 6 0) W S Z)) := by
  show xW g _ _ 0 [some (.ref m)] [] _ _
  refine x_aload_n dX7_targetTemperature_0 rfl ?_
  refine x_iconst (v := 2) dX7_targetTemperature_1 rfl ?_
  refine t_cvV cvX7_400_X7 dX7_targetTemperature_2 (c_X7_told _ _ _ _ _ _ _ 2 (by decide)) rfl ?_
  exact x_ireturn dX7_targetTemperature_5 rfl (by first | rfl | exact ite_nar | exact itn_nar) ⟨rfl, rfl⟩
theorem c_X7_chalkCount (g : xG) (B : xA) (m : Nat) (F : Nat → Int32) (W : Int64) (S : Nat → Int32) (Z : Nat → Nat → Int32)  : xC g iX7_chalkCount 1 [.ref m] (tA B m F W S Z) (xRet (some (.int (S 3))) (tA B m (upd F 6 0) W S Z)) := by
  show xW g _ _ 0 [some (.ref m)] [] _ _
  refine x_aload_n dX7_chalkCount_0 rfl ?_
  refine x_iconst (v := 3) dX7_chalkCount_1 rfl ?_
  refine t_cvV cvX7_400_X7 dX7_chalkCount_2 (c_X7_told _ _ _ _ _ _ _ 3 (by decide)) rfl ?_
  exact x_ireturn dX7_chalkCount_5 rfl (by first | rfl | exact ite_nar | exact itn_nar) ⟨rfl, rfl⟩
theorem c_X7_spareStrings (g : xG) (B : xA) (m : Nat) (F : Nat → Int32) (W : Int64) (S : Nat → Int32) (Z : Nat → Nat → Int32)  : xC g iX7_spareStrings 1 [.ref m] (tA B m F W S Z) (xRet (some (.int (S 4))) (tA B m (upd F 6 0) W S Z)) := by
  show xW g _ _ 0 [some (.ref m)] [] _ _
  refine x_aload_n dX7_spareStrings_0 rfl ?_
  refine x_iconst (v := 4) dX7_spareStrings_1 rfl ?_
  refine t_cvV cvX7_400_X7 dX7_spareStrings_2 (c_X7_told _ _ _ _ _ _ _ 4 (by decide)) rfl ?_
  exact x_ireturn dX7_spareStrings_5 rfl (by first | rfl | exact ite_nar | exact itn_nar) ⟨rfl, rfl⟩
theorem c_X7_fiddlerCount (g : xG) (B : xA) (m : Nat) (F : Nat → Int32) (W : Int64) (S : Nat → Int32) (Z : Nat → Nat → Int32)  : xC g iX7_fiddlerCount 1 [.ref m] (tA B m F W S Z) (xRet (some (.int (S 13))) (tA B m (upd F 6 0) W S Z)) := by
  show xW g _ _ 0 [some (.ref m)] [] _ _
  refine x_aload_n dX7_fiddlerCount_0 rfl ?_
  refine x_bipush (v := 13) dX7_fiddlerCount_1 (by decide) ?_
  refine t_cvV cvX7_400_X7 dX7_fiddlerCount_3 (c_X7_told _ _ _ _ _ _ _ 13 (by decide)) rfl ?_
  exact x_ireturn dX7_fiddlerCount_6 rfl (by first | rfl | exact ite_nar | exact itn_nar) ⟨rfl, rfl⟩
theorem c_X7_rowLength (g : xG) (B : xA) (m : Nat) (F : Nat → Int32) (W : Int64) (S : Nat → Int32) (Z : Nat → Nat → Int32)  : xC g iX7_rowLength 1 [.ref m] (tA B m F W S Z) (xRet (some (.int (S 14))) (tA B m (upd F 6 0) W S Z)) := by
  show xW g _ _ 0 [some (.ref m)] [] _ _
  refine x_aload_n dX7_rowLength_0 rfl ?_
  refine x_bipush (v := 14) dX7_rowLength_1 (by decide) ?_
  refine t_cvV cvX7_400_X7 dX7_rowLength_3 (c_X7_told _ _ _ _ _ _ _ 14 (by decide)) rfl ?_
  exact x_ireturn dX7_rowLength_6 rfl (by first | rfl | exact ite_nar | exact itn_nar) ⟨rfl, rfl⟩
theorem c_X7_forgivenStrings (g : xG) (B : xA) (m : Nat) (F : Nat → Int32) (W : Int64) (S : Nat → Int32) (Z : Nat → Nat → Int32)  : xC g iX7_forgivenStrings 1 [.ref m] (tA B m F W S Z) (xRet (some (.int (S 19))) (tA B m (upd F 6 0) W S Z)) := by
  show xW g _ _ 0 [some (.ref m)] [] _ _
  refine x_aload_n dX7_forgivenStrings_0 rfl ?_
  refine x_bipush (v := 19) dX7_forgivenStrings_1 (by decide) ?_
  refine t_cvV cvX7_400_X7 dX7_forgivenStrings_3 (c_X7_told _ _ _ _ _ _ _ 19 (by decide)) rfl ?_
  exact x_ireturn dX7_forgivenStrings_6 rfl (by first | rfl | exact ite_nar | exact itn_nar) ⟨rfl, rfl⟩
theorem c_X7_roundCount (g : xG) (B : xA) (m : Nat) (F : Nat → Int32) (W : Int64) (S : Nat → Int32) (Z : Nat → Nat → Int32)  : xC g iX7_roundCount 1 [.ref m] (tA B m F W S Z) (xRet (some (.int (S 15))) (tA B m (upd F 6 0) W S Z)) := by
  show xW g _ _ 0 [some (.ref m)] [] _ _
  refine x_aload_n dX7_roundCount_0 rfl ?_
  refine x_bipush (v := 15) dX7_roundCount_1 (by decide) ?_
  refine t_cvV cvX7_400_X7 dX7_roundCount_3 (c_X7_told _ _ _ _ _ _ _ 15 (by decide)) rfl ?_
  exact x_ireturn dX7_roundCount_6 rfl (by first | rfl | exact ite_nar | exact itn_nar) ⟨rfl, rfl⟩
theorem c_X7_turnCount (g : xG) (B : xA) (m : Nat) (F : Nat → Int32) (W : Int64) (S : Nat → Int32) (Z : Nat → Nat → Int32)  : xC g iX7_turnCount 1 [.ref m] (tA B m F W S Z) (xRet (some (.int (S 16))) (tA B m (upd F 6 0) W S Z)) := by
  show xW g _ _ 0 [some (.ref m)] [] _ _
  refine x_aload_n dX7_turnCount_0 rfl ?_
  refine x_bipush (v := 16) dX7_turnCount_1 (by decide) ?_
  refine t_cvV cvX7_400_X7 dX7_turnCount_3 (c_X7_told _ _ _ _ _ _ _ 16 (by decide)) rfl ?_
  exact x_ireturn dX7_turnCount_6 rfl (by first | rfl | exact ite_nar | exact itn_nar) ⟨rfl, rfl⟩
theorem c_X7_forgivenCount (g : xG) (B : xA) (m : Nat) (F : Nat → Int32) (W : Int64) (S : Nat → Int32) (Z : Nat → Nat → Int32)  : xC g iX7_forgivenCount 1 [.ref m] (tA B m F W S Z) (xRet (some (.int (S 17))) (tA B m (upd F 6 0) W S Z)) := by
  show xW g _ _ 0 [some (.ref m)] [] _ _
  refine x_aload_n dX7_forgivenCount_0 rfl ?_
  refine x_bipush (v := 17) dX7_forgivenCount_1 (by decide) ?_
  refine t_cvV cvX7_400_X7 dX7_forgivenCount_3 (c_X7_told _ _ _ _ _ _ _ 17 (by decide)) rfl ?_
  exact x_ireturn dX7_forgivenCount_6 rfl (by first | rfl | exact ite_nar | exact itn_nar) ⟨rfl, rfl⟩
theorem c_X7_breakCount (g : xG) (B : xA) (m : Nat) (F : Nat → Int32) (W : Int64) (S : Nat → Int32) (Z : Nat → Nat → Int32)  : xC g iX7_breakCount 1 [.ref m] (tA B m F W S Z) (xRet (some (.int (S 18))) (tA B m (upd F 6 0) W S Z)) := by
  show xW g _ _ 0 [some (.ref m)] [] _ _
  refine x_aload_n dX7_breakCount_0 rfl ?_
  refine x_bipush (v := 18) dX7_breakCount_1 (by decide) ?_
  refine t_cvV cvX7_400_X7 dX7_breakCount_3 (c_X7_told _ _ _ _ _ _ _ 18 (by decide)) rfl ?_
  exact x_ireturn dX7_breakCount_6 rfl (by first | rfl | exact ite_nar | exact itn_nar) ⟨rfl, rfl⟩
theorem c_X7_thrown (g : xG) (B : xA) (m : Nat) (F : Nat → Int32) (W : Int64) (S : Nat → Int32) (Z : Nat → Nat → Int32)  : xC g iX7_thrown 0 [.ref m] (tA B m F W S Z) (xRet (some (.int (F 6))) (tA B m F W S Z)) := by
  show xW g _ _ 0 [some (.ref m)] [] _ _
  refine x_aload_n dX7_thrown_0 rfl ?_
  refine t_get fgX7_72_6 dX7_thrown_1 rfl ?_
  exact x_ireturn dX7_thrown_4 rfl (by first | rfl | exact ite_nar | exact itn_nar) ⟨rfl, rfl⟩
theorem c_X7_errorCode (g : xG) (B : xA) (m : Nat) (F : Nat → Int32) (W : Int64) (S : Nat → Int32) (Z : Nat → Nat → Int32)  : xC g iX7_errorCode 0 [.ref m] (tA B m F W S Z) (xRet (some (.int (F 20))) (tA B m (upd F 6 0) W S Z)) := by
  show xW g _ _ 0 [some (.ref m)] [] _ _
  refine x_aload_n dX7_errorCode_0 rfl ?_
  refine x_iconst (v := 0) dX7_errorCode_1 rfl ?_
  refine t_put fpX7_72_6 dX7_errorCode_2 (by decide) ⟨rfl, rfl⟩ ?_
  refine x_aload_n dX7_errorCode_5 rfl ?_
  refine t_get fgX7_240_6 dX7_errorCode_6 rfl ?_
  exact x_ireturn dX7_errorCode_9 rfl (by first | rfl | exact ite_nar | exact itn_nar) ⟨rfl, rfl⟩
theorem c_X7_errorPosition (g : xG) (B : xA) (m : Nat) (F : Nat → Int32) (W : Int64) (S : Nat → Int32) (Z : Nat → Nat → Int32)  : xC g iX7_errorPosition 0 [.ref m] (tA B m F W S Z) (xRet (some (.int (F 21))) (tA B m (upd F 6 0) W S Z)) := by
  show xW g _ _ 0 [some (.ref m)] [] _ _
  refine x_aload_n dX7_errorPosition_0 rfl ?_
  refine x_iconst (v := 0) dX7_errorPosition_1 rfl ?_
  refine t_put fpX7_72_6 dX7_errorPosition_2 (by decide) ⟨rfl, rfl⟩ ?_
  refine x_aload_n dX7_errorPosition_5 rfl ?_
  refine t_get fgX7_48_6 dX7_errorPosition_6 rfl ?_
  exact x_ireturn dX7_errorPosition_9 rfl (by first | rfl | exact ite_nar | exact itn_nar) ⟨rfl, rfl⟩
theorem c_X7_undoCount (g : xG) (B : xA) (m : Nat) (F : Nat → Int32) (W : Int64) (S : Nat → Int32) (Z : Nat → Nat → Int32)  : xC g iX7_undoCount 0 [.ref m] (tA B m F W S Z) (xRet (some (.int (F 5))) (tA B m (upd F 6 0) W S Z)) := by
  show xW g _ _ 0 [some (.ref m)] [] _ _
  refine x_aload_n dX7_undoCount_0 rfl ?_
  refine x_iconst (v := 0) dX7_undoCount_1 rfl ?_
  refine t_put fpX7_72_6 dX7_undoCount_2 (by decide) ⟨rfl, rfl⟩ ?_
  refine x_aload_n dX7_undoCount_5 rfl ?_
  refine t_get fgX7_259_6 dX7_undoCount_6 rfl ?_
  exact x_ireturn dX7_undoCount_9 rfl (by first | rfl | exact ite_nar | exact itn_nar) ⟨rfl, rfl⟩
theorem c_X7_stretch_1 (g : xG) (B : xA) (m : Nat) (F : Nat → Int32) (W : Int64) (S : Nat → Int32) (Z : Nat → Nat → Int32) (x : Int32) (hx : inI x 0 3 = 0) : xC g iX7_stretch 2 [.ref m, .int x] (tA B m F W S Z) (xRet (some (.int 0)) (tA B m (upd F 6 1) W S Z)) := by
  show xW g _ _ 0 [some (.ref m), some (.int x)] [] _ _
  refine x_aload_n dX7_stretch_0 rfl ?_
  refine x_iconst (v := 0) dX7_stretch_1 rfl ?_
  refine t_put fpX7_72_6 dX7_stretch_2 (by decide) ⟨rfl, rfl⟩ ?_
  refine x_aload_n dX7_stretch_5 rfl ?_
  refine x_iload_n dX7_stretch_6 rfl ?_
  refine x_i2l dX7_stretch_7 ?_
  refine x_lconst (v := 0) dX7_stretch_8 rfl ?_
  refine x_ldc2 (v := 3) q3949 dX7_stretch_9 ?_
  refine x_csV csX7_144 dX7_stretch_12 (ci_0 _ _ x 0 3 _ _ _ rfl rfl rfl hx) rfl ?_
  refine x_if_neF dX7_stretch_15 22 (by decide) (by decide) ?_
  refine x_iconst (v := 1) dX7_stretch_18 rfl ?_
  refine x_goto (tgt := 23) dX7_stretch_19 (by decide) ?_
  refine x_iconst (v := 1) dX7_stretch_23 rfl ?_
  refine t_cvV cvX7_136_X7 dX7_stretch_24 (st_1 _ _ _ _ _ _ _ _ (by decide) rfl) rfl ?_
  refine x_if_eqF dX7_stretch_27 34 (by decide) (by decide) ?_
  refine x_iconst (v := 0) dX7_stretch_30 rfl ?_
  refine x_goto (tgt := 43) dX7_stretch_31 (by decide) ?_
  exact x_ireturn dX7_stretch_43 rfl (by first | rfl | exact ite_nar | exact itn_nar) ⟨rfl, by rw [upd_upd]⟩
theorem c_X7_stretch_ok (g : xG) (B : xA) (m : Nat) (F : Nat → Int32) (W : Int64) (S : Nat → Int32) (Z : Nat → Nat → Int32) (k : Nat) (h4 : k < 4) : xC g iX7_stretch 2 [.ref m, .int (nI k)] (tA B m F W S Z) (xRet (some (.int (S (9 + k)))) (tA B m (upd F 6 0) W S Z)) := by
  show xW g _ _ 0 [some (.ref m), some (.int (nI k))] [] _ _
  refine x_aload_n dX7_stretch_0 rfl ?_
  refine x_iconst (v := 0) dX7_stretch_1 rfl ?_
  refine t_put fpX7_72_6 dX7_stretch_2 (by decide) ⟨rfl, rfl⟩ ?_
  refine x_aload_n dX7_stretch_5 rfl ?_
  refine x_iload_n dX7_stretch_6 rfl ?_
  refine x_i2l dX7_stretch_7 ?_
  refine x_lconst (v := 0) dX7_stretch_8 rfl ?_
  refine x_ldc2 (v := 3) q3949 dX7_stretch_9 ?_
  refine x_csV csX7_144 dX7_stretch_12 (ci_1 _ _ (nI k) 0 3 _ _ _ rfl rfl rfl (in_k h4)) rfl ?_
  refine x_if_neT (tgt := 22) dX7_stretch_15 (by decide) (by decide) ?_
  refine x_iconst (v := 0) dX7_stretch_22 rfl ?_
  refine x_iconst (v := 1) dX7_stretch_23 rfl ?_
  refine t_cvV cvX7_136_X7 dX7_stretch_24 (st_0 _ _ _ _ _ _ _ _ (by decide) rfl) rfl ?_
  refine x_if_eqT (tgt := 34) dX7_stretch_27 (by decide) (by decide) ?_
  refine x_aload_n dX7_stretch_34 rfl ?_
  refine t_get fgX7_7_6 dX7_stretch_35 rfl ?_
  refine x_bipush (v := 9) dX7_stretch_38 (by decide) ?_
  refine x_iload_n dX7_stretch_40 rfl ?_
  refine x_iadd dX7_stretch_41 ?_
  refine x_top (y := nI (9 + k)) (nI_add 9 k) ?_
  refine t_aldS (9 + k) dX7_stretch_42 rfl (by omega) ?_
  exact x_ireturn dX7_stretch_43 rfl (by first | rfl | exact ite_nar | exact itn_nar) ⟨rfl, rfl⟩
theorem c_X7_fiddlerAt_no (g : xG) (B : xA) (m : Nat) (F : Nat → Int32) (W : Int64) (S : Nat → Int32) (Z : Nat → Nat → Int32) (x : Int32) (hx : inI x 0 (S 14 - 1) = 0) : xC g iX7_fiddlerAt 2 [.ref m, .int x] (tA B m F W S Z) (xRet (some (.int (-1))) (tA B m (upd F 6 0) W S Z)) := by
  show xW g _ _ 0 [some (.ref m), some (.int x)] [] _ _
  refine x_aload_n dX7_fiddlerAt_0 rfl ?_
  refine x_iconst (v := 0) dX7_fiddlerAt_1 rfl ?_
  refine t_put fpX7_72_6 dX7_fiddlerAt_2 (by decide) ⟨rfl, rfl⟩ ?_
  refine x_iload_n dX7_fiddlerAt_5 rfl ?_
  refine x_i2l dX7_fiddlerAt_6 ?_
  refine x_lconst (v := 0) dX7_fiddlerAt_7 rfl ?_
  refine x_aload_n dX7_fiddlerAt_8 rfl ?_
  refine t_get fgX7_7_6 dX7_fiddlerAt_9 rfl ?_
  refine x_bipush (v := 14) dX7_fiddlerAt_12 (by decide) ?_
  refine t_aldS 14 dX7_fiddlerAt_14 rfl (by decide) ?_
  refine x_iconst (v := 1) dX7_fiddlerAt_15 rfl ?_
  refine x_isub dX7_fiddlerAt_16 ?_
  refine x_i2l dX7_fiddlerAt_17 ?_
  refine x_csV csX7_144 dX7_fiddlerAt_18 (ci_0 _ _ x 0 (S 14 - 1) _ _ _ rfl rfl rfl hx) rfl ?_
  refine x_if_eqT (tgt := 36) dX7_fiddlerAt_21 (by decide) (by decide) ?_
  refine x_iconst (v := (-1)) dX7_fiddlerAt_36 rfl ?_
  exact x_ireturn dX7_fiddlerAt_37 rfl (by first | rfl | exact ite_nar | exact itn_nar) ⟨rfl, rfl⟩
theorem c_X7_fiddlerAt_ok (g : xG) (B : xA) (m : Nat) (F : Nat → Int32) (W : Int64) (S : Nat → Int32) (Z : Nat → Nat → Int32) (p : Nat) (hp : p < 100) (hx : ¬ inI (nI p) 0 (S 14 - 1) = 0) : xC g iX7_fiddlerAt 2 [.ref m, .int (nI p)] (tA B m F W S Z) (xRet (some (.int (S (20 + p)))) (tA B m (upd F 6 0) W S Z)) := by
  show xW g _ _ 0 [some (.ref m), some (.int (nI p))] [] _ _
  refine x_aload_n dX7_fiddlerAt_0 rfl ?_
  refine x_iconst (v := 0) dX7_fiddlerAt_1 rfl ?_
  refine t_put fpX7_72_6 dX7_fiddlerAt_2 (by decide) ⟨rfl, rfl⟩ ?_
  refine x_iload_n dX7_fiddlerAt_5 rfl ?_
  refine x_i2l dX7_fiddlerAt_6 ?_
  refine x_lconst (v := 0) dX7_fiddlerAt_7 rfl ?_
  refine x_aload_n dX7_fiddlerAt_8 rfl ?_
  refine t_get fgX7_7_6 dX7_fiddlerAt_9 rfl ?_
  refine x_bipush (v := 14) dX7_fiddlerAt_12 (by decide) ?_
  refine t_aldS 14 dX7_fiddlerAt_14 rfl (by decide) ?_
  refine x_iconst (v := 1) dX7_fiddlerAt_15 rfl ?_
  refine x_isub dX7_fiddlerAt_16 ?_
  refine x_i2l dX7_fiddlerAt_17 ?_
  refine x_csV csX7_144 dX7_fiddlerAt_18 (ci_1 _ _ (nI p) 0 (S 14 - 1) _ _ _ rfl rfl rfl hx) rfl ?_
  refine x_if_eqF dX7_fiddlerAt_21 36 (by decide) (by decide) ?_
  refine x_aload_n dX7_fiddlerAt_24 rfl ?_
  refine t_get fgX7_7_6 dX7_fiddlerAt_25 rfl ?_
  refine x_bipush (v := 20) dX7_fiddlerAt_28 (by decide) ?_
  refine x_iload_n dX7_fiddlerAt_30 rfl ?_
  refine x_iadd dX7_fiddlerAt_31 ?_
  refine x_top (y := nI (20 + p)) (nI_add 20 p) ?_
  refine t_aldS (20 + p) dX7_fiddlerAt_32 rfl (by omega) ?_
  refine x_goto (tgt := 37) dX7_fiddlerAt_33 (by decide) ?_
  exact x_ireturn dX7_fiddlerAt_37 rfl (by first | rfl | exact ite_nar | exact itn_nar) ⟨rfl, rfl⟩
theorem c_X7_placeOf_1 (g : xG) (B : xA) (m : Nat) (F : Nat → Int32) (W : Int64) (S : Nat → Int32) (Z : Nat → Nat → Int32) (x : Int32) (hx : inI x 0 (S 13 - 1) = 0) : xC g iX7_placeOf 3 [.ref m, .int x] (tA B m F W S Z) (xRet (some (.int 0)) (tA B m (upd F 6 1) W S Z)) := by
  show xW g _ _ 0 [some (.ref m), some (.int x)] [] _ _
  refine x_aload_n dX7_placeOf_0 rfl ?_
  refine x_iconst (v := 0) dX7_placeOf_1 rfl ?_
  refine t_put fpX7_72_6 dX7_placeOf_2 (by decide) ⟨rfl, rfl⟩ ?_
  refine x_aload_n dX7_placeOf_5 rfl ?_
  refine x_iload_n dX7_placeOf_6 rfl ?_
  refine t_cvV cvX7_383_X7 dX7_placeOf_7 (c_X7_noFiddler_1 _ _ _ _ _ _ _ x rfl hx) rfl ?_
  refine x_if_eqF dX7_placeOf_10 17 (by decide) (by decide) ?_
  refine x_iconst (v := 0) dX7_placeOf_13 rfl ?_
  refine x_goto (tgt := 22) dX7_placeOf_14 (by decide) ?_
  exact x_ireturn dX7_placeOf_22 rfl (by first | rfl | exact ite_nar | exact itn_nar) ⟨rfl, by rw [upd_upd]⟩
theorem c_X7_placeOf_ok (g : xG) (B : xA) (m : Nat) (F : Nat → Int32) (W : Int64) (S : Nat → Int32) (Z : Nat → Nat → Int32) (f : Nat) (hk : tOk S) (hf : f < manyS S) : xC g iX7_placeOf 3 [.ref m, .int (nI f)] (tA B m F W S Z) (xRet (some (.int (oI (plO S f)))) (tA B m (upd F 6 0) W S Z)) := by
  show xW g _ _ 0 [some (.ref m), some (.int (nI f))] [] _ _
  refine x_aload_n dX7_placeOf_0 rfl ?_
  refine x_iconst (v := 0) dX7_placeOf_1 rfl ?_
  refine t_put fpX7_72_6 dX7_placeOf_2 (by decide) ⟨rfl, rfl⟩ ?_
  refine x_aload_n dX7_placeOf_5 rfl ?_
  refine x_iload_n dX7_placeOf_6 rfl ?_
  refine t_cvV cvX7_383_X7 dX7_placeOf_7 (c_X7_noFiddler_0 _ _ _ _ _ _ _ f rfl hk hf) rfl ?_
  refine x_if_eqT (tgt := 17) dX7_placeOf_10 (by decide) (by decide) ?_
  refine x_aload_n dX7_placeOf_17 rfl ?_
  refine x_iload_n dX7_placeOf_18 rfl ?_
  refine t_cvV cvX7_127_X7 dX7_placeOf_19 (c_X7_place _ _ _ _ _ _ _ (nI f) hk) rfl ?_
  exact x_ireturn dX7_placeOf_22 rfl (by first | rfl | exact ite_nar | exact itn_nar) ⟨rfl, rfl⟩
theorem c_X7_patienceOf_1 (g : xG) (B : xA) (m : Nat) (F : Nat → Int32) (W : Int64) (S : Nat → Int32) (Z : Nat → Nat → Int32) (x : Int32) (hx : inI x 0 (S 13 - 1) = 0) : xC g iX7_patienceOf 3 [.ref m, .int x] (tA B m F W S Z) (xRet (some (.int 0)) (tA B m (upd F 6 1) W S Z)) := by
  show xW g _ _ 0 [some (.ref m), some (.int x)] [] _ _
  refine x_aload_n dX7_patienceOf_0 rfl ?_
  refine x_iconst (v := 0) dX7_patienceOf_1 rfl ?_
  refine t_put fpX7_72_6 dX7_patienceOf_2 (by decide) ⟨rfl, rfl⟩ ?_
  refine x_aload_n dX7_patienceOf_5 rfl ?_
  refine x_iload_n dX7_patienceOf_6 rfl ?_
  refine t_cvV cvX7_383_X7 dX7_patienceOf_7 (c_X7_noFiddler_1 _ _ _ _ _ _ _ x rfl hx) rfl ?_
  refine x_if_eqF dX7_patienceOf_10 17 (by decide) (by decide) ?_
  refine x_iconst (v := 0) dX7_patienceOf_13 rfl ?_
  refine x_goto (tgt := 23) dX7_patienceOf_14 (by decide) ?_
  exact x_ireturn dX7_patienceOf_23 rfl (by first | rfl | exact ite_nar | exact itn_nar) ⟨rfl, by rw [upd_upd]⟩
theorem c_X7_patienceOf_ok (g : xG) (B : xA) (m : Nat) (F : Nat → Int32) (W : Int64) (S : Nat → Int32) (Z : Nat → Nat → Int32) (f : Nat) (hk : tOk S) (hf : f < manyS S) : xC g iX7_patienceOf 3 [.ref m, .int (nI f)] (tA B m F W S Z) (xRet (some (.int (hs S f 1))) (tA B m (upd F 6 0) W S Z)) := by
  have f10 : f < 10 := by have := hk.1.2; omega
  show xW g _ _ 0 [some (.ref m), some (.int (nI f))] [] _ _
  refine x_aload_n dX7_patienceOf_0 rfl ?_
  refine x_iconst (v := 0) dX7_patienceOf_1 rfl ?_
  refine t_put fpX7_72_6 dX7_patienceOf_2 (by decide) ⟨rfl, rfl⟩ ?_
  refine x_aload_n dX7_patienceOf_5 rfl ?_
  refine x_iload_n dX7_patienceOf_6 rfl ?_
  refine t_cvV cvX7_383_X7 dX7_patienceOf_7 (c_X7_noFiddler_0 _ _ _ _ _ _ _ f rfl hk hf) rfl ?_
  refine x_if_eqT (tgt := 17) dX7_patienceOf_10 (by decide) (by decide) ?_
  refine x_aload_n dX7_patienceOf_17 rfl ?_
  refine x_iload_n dX7_patienceOf_18 rfl ?_
  refine x_iconst (v := 1) dX7_patienceOf_19 rfl ?_
  refine t_cvV cvX7_75_X7 dX7_patienceOf_20 (c_X7_has _ _ _ _ _ _ _ f (1) f10 (by omega)) rfl ?_
  exact x_ireturn dX7_patienceOf_23 rfl (by first | rfl | exact ite_nar | exact itn_nar) ⟨rfl, rfl⟩
theorem c_X7_referenceOf_1 (g : xG) (B : xA) (m : Nat) (F : Nat → Int32) (W : Int64) (S : Nat → Int32) (Z : Nat → Nat → Int32) (x : Int32) (hx : inI x 0 (S 13 - 1) = 0) : xC g iX7_referenceOf 3 [.ref m, .int x] (tA B m F W S Z) (xRet (some (.int 0)) (tA B m (upd F 6 1) W S Z)) := by
  show xW g _ _ 0 [some (.ref m), some (.int x)] [] _ _
  refine x_aload_n dX7_referenceOf_0 rfl ?_
  refine x_iconst (v := 0) dX7_referenceOf_1 rfl ?_
  refine t_put fpX7_72_6 dX7_referenceOf_2 (by decide) ⟨rfl, rfl⟩ ?_
  refine x_aload_n dX7_referenceOf_5 rfl ?_
  refine x_iload_n dX7_referenceOf_6 rfl ?_
  refine t_cvV cvX7_383_X7 dX7_referenceOf_7 (c_X7_noFiddler_1 _ _ _ _ _ _ _ x rfl hx) rfl ?_
  refine x_if_eqF dX7_referenceOf_10 17 (by decide) (by decide) ?_
  refine x_iconst (v := 0) dX7_referenceOf_13 rfl ?_
  refine x_goto (tgt := 23) dX7_referenceOf_14 (by decide) ?_
  exact x_ireturn dX7_referenceOf_23 rfl (by first | rfl | exact ite_nar | exact itn_nar) ⟨rfl, by rw [upd_upd]⟩
theorem c_X7_referenceOf_ok (g : xG) (B : xA) (m : Nat) (F : Nat → Int32) (W : Int64) (S : Nat → Int32) (Z : Nat → Nat → Int32) (f : Nat) (hk : tOk S) (hf : f < manyS S) : xC g iX7_referenceOf 3 [.ref m, .int (nI f)] (tA B m F W S Z) (xRet (some (.int (hs S f 3))) (tA B m (upd F 6 0) W S Z)) := by
  have f10 : f < 10 := by have := hk.1.2; omega
  show xW g _ _ 0 [some (.ref m), some (.int (nI f))] [] _ _
  refine x_aload_n dX7_referenceOf_0 rfl ?_
  refine x_iconst (v := 0) dX7_referenceOf_1 rfl ?_
  refine t_put fpX7_72_6 dX7_referenceOf_2 (by decide) ⟨rfl, rfl⟩ ?_
  refine x_aload_n dX7_referenceOf_5 rfl ?_
  refine x_iload_n dX7_referenceOf_6 rfl ?_
  refine t_cvV cvX7_383_X7 dX7_referenceOf_7 (c_X7_noFiddler_0 _ _ _ _ _ _ _ f rfl hk hf) rfl ?_
  refine x_if_eqT (tgt := 17) dX7_referenceOf_10 (by decide) (by decide) ?_
  refine x_aload_n dX7_referenceOf_17 rfl ?_
  refine x_iload_n dX7_referenceOf_18 rfl ?_
  refine x_iconst (v := 3) dX7_referenceOf_19 rfl ?_
  refine t_cvV cvX7_75_X7 dX7_referenceOf_20 (c_X7_has _ _ _ _ _ _ _ f (3) f10 (by omega)) rfl ?_
  exact x_ireturn dX7_referenceOf_23 rfl (by first | rfl | exact ite_nar | exact itn_nar) ⟨rfl, rfl⟩
theorem c_X7_chainLength_1 (g : xG) (B : xA) (m : Nat) (F : Nat → Int32) (W : Int64) (S : Nat → Int32) (Z : Nat → Nat → Int32) (x : Int32) (hx : inI x 0 (S 13 - 1) = 0) : xC g iX7_chainLength 3 [.ref m, .int x] (tA B m F W S Z) (xRet (some (.int 0)) (tA B m (upd F 6 1) W S Z)) := by
  show xW g _ _ 0 [some (.ref m), some (.int x)] [] _ _
  refine x_aload_n dX7_chainLength_0 rfl ?_
  refine x_iconst (v := 0) dX7_chainLength_1 rfl ?_
  refine t_put fpX7_72_6 dX7_chainLength_2 (by decide) ⟨rfl, rfl⟩ ?_
  refine x_aload_n dX7_chainLength_5 rfl ?_
  refine x_iload_n dX7_chainLength_6 rfl ?_
  refine t_cvV cvX7_383_X7 dX7_chainLength_7 (c_X7_noFiddler_1 _ _ _ _ _ _ _ x rfl hx) rfl ?_
  refine x_if_eqF dX7_chainLength_10 17 (by decide) (by decide) ?_
  refine x_iconst (v := 0) dX7_chainLength_13 rfl ?_
  refine x_goto (tgt := 23) dX7_chainLength_14 (by decide) ?_
  exact x_ireturn dX7_chainLength_23 rfl (by first | rfl | exact ite_nar | exact itn_nar) ⟨rfl, by rw [upd_upd]⟩
theorem c_X7_chainLength_ok (g : xG) (B : xA) (m : Nat) (F : Nat → Int32) (W : Int64) (S : Nat → Int32) (Z : Nat → Nat → Int32) (f : Nat) (hk : tOk S) (hf : f < manyS S) : xC g iX7_chainLength 3 [.ref m, .int (nI f)] (tA B m F W S Z) (xRet (some (.int (hs S f 4))) (tA B m (upd F 6 0) W S Z)) := by
  have f10 : f < 10 := by have := hk.1.2; omega
  show xW g _ _ 0 [some (.ref m), some (.int (nI f))] [] _ _
  refine x_aload_n dX7_chainLength_0 rfl ?_
  refine x_iconst (v := 0) dX7_chainLength_1 rfl ?_
  refine t_put fpX7_72_6 dX7_chainLength_2 (by decide) ⟨rfl, rfl⟩ ?_
  refine x_aload_n dX7_chainLength_5 rfl ?_
  refine x_iload_n dX7_chainLength_6 rfl ?_
  refine t_cvV cvX7_383_X7 dX7_chainLength_7 (c_X7_noFiddler_0 _ _ _ _ _ _ _ f rfl hk hf) rfl ?_
  refine x_if_eqT (tgt := 17) dX7_chainLength_10 (by decide) (by decide) ?_
  refine x_aload_n dX7_chainLength_17 rfl ?_
  refine x_iload_n dX7_chainLength_18 rfl ?_
  refine x_iconst (v := 4) dX7_chainLength_19 rfl ?_
  refine t_cvV cvX7_75_X7 dX7_chainLength_20 (c_X7_has _ _ _ _ _ _ _ f (4) f10 (by omega)) rfl ?_
  exact x_ireturn dX7_chainLength_23 rfl (by first | rfl | exact ite_nar | exact itn_nar) ⟨rfl, rfl⟩
theorem c_X7_deviation_1a (g : xG) (B : xA) (m : Nat) (F : Nat → Int32) (W : Int64) (S : Nat → Int32) (Z : Nat → Nat → Int32) (x y : Int32) (hx : inI x 0 (S 13 - 1) = 0) : xC g iX7_deviation 4 [.ref m, .int x, .int y] (tA B m F W S Z) (xRet (some (.int 0)) (tA B m (upd F 6 1) W S Z)) := by
  show xW g _ _ 0 [some (.ref m), some (.int x), some (.int y)] [] _ _
  refine x_aload_n dX7_deviation_0 rfl ?_
  refine x_iconst (v := 0) dX7_deviation_1 rfl ?_
  refine t_put fpX7_72_6 dX7_deviation_2 (by decide) ⟨rfl, rfl⟩ ?_
  refine x_aload_n dX7_deviation_5 rfl ?_
  refine x_iload_n dX7_deviation_6 rfl ?_
  refine x_iload_n dX7_deviation_7 rfl ?_
  refine t_cvV cvX7_388_X7 dX7_deviation_8 (c_X7_noString_1a _ _ _ _ _ _ _ x y rfl hx) rfl ?_
  refine x_if_neT (tgt := 28) dX7_deviation_11 (by decide) (by decide) ?_
  refine x_iconst (v := 0) dX7_deviation_28 rfl ?_
  refine x_goto (tgt := 41) dX7_deviation_29 (by decide) ?_
  exact x_ireturn dX7_deviation_41 rfl (by first | rfl | exact ite_nar | exact itn_nar) ⟨rfl, by rw [upd_upd]⟩
theorem c_X7_deviation_1b (g : xG) (B : xA) (m : Nat) (F : Nat → Int32) (W : Int64) (S : Nat → Int32) (Z : Nat → Nat → Int32) (f : Nat) (y : Int32) (hk : tOk S) (hf : f < manyS S) (hy : inI y 0 3 = 0) : xC g iX7_deviation 4 [.ref m, .int (nI f), .int y] (tA B m F W S Z) (xRet (some (.int 0)) (tA B m (upd F 6 1) W S Z)) := by
  show xW g _ _ 0 [some (.ref m), some (.int (nI f)), some (.int y)] [] _ _
  refine x_aload_n dX7_deviation_0 rfl ?_
  refine x_iconst (v := 0) dX7_deviation_1 rfl ?_
  refine t_put fpX7_72_6 dX7_deviation_2 (by decide) ⟨rfl, rfl⟩ ?_
  refine x_aload_n dX7_deviation_5 rfl ?_
  refine x_iload_n dX7_deviation_6 rfl ?_
  refine x_iload_n dX7_deviation_7 rfl ?_
  refine t_cvV cvX7_388_X7 dX7_deviation_8 (c_X7_noString_1b _ _ _ _ _ _ _ f y rfl hk hf hy) rfl ?_
  refine x_if_neT (tgt := 28) dX7_deviation_11 (by decide) (by decide) ?_
  refine x_iconst (v := 0) dX7_deviation_28 rfl ?_
  refine x_goto (tgt := 41) dX7_deviation_29 (by decide) ?_
  exact x_ireturn dX7_deviation_41 rfl (by first | rfl | exact ite_nar | exact itn_nar) ⟨rfl, by rw [upd_upd]⟩
theorem c_X7_deviation_2 (g : xG) (B : xA) (m : Nat) (F : Nat → Int32) (W : Int64) (S : Nat → Int32) (Z : Nat → Nat → Int32) (f k : Nat) (hk : tOk S) (hf : f < manyS S) (h4 : k < 4) (ho : hs S f (13 + k) = 1) : xC g iX7_deviation 4 [.ref m, .int (nI f), .int (nI k)] (tA B m F W S Z) (xRet (some (.int 0)) (tA B m (upd F 6 2) W S Z)) := by
  have f10 : f < 10 := by have := hk.1.2; omega
  show xW g _ _ 0 [some (.ref m), some (.int (nI f)), some (.int (nI k))] [] _ _
  refine x_aload_n dX7_deviation_0 rfl ?_
  refine x_iconst (v := 0) dX7_deviation_1 rfl ?_
  refine t_put fpX7_72_6 dX7_deviation_2 (by decide) ⟨rfl, rfl⟩ ?_
  refine x_aload_n dX7_deviation_5 rfl ?_
  refine x_iload_n dX7_deviation_6 rfl ?_
  refine x_iload_n dX7_deviation_7 rfl ?_
  refine t_cvV cvX7_388_X7 dX7_deviation_8 (c_X7_noString_0 _ _ _ _ _ _ _ f k rfl hk hf h4) rfl ?_
  refine x_if_neF dX7_deviation_11 28 (by decide) (by decide) ?_
  refine x_aload_n dX7_deviation_14 rfl ?_
  refine x_aload_n dX7_deviation_15 rfl ?_
  refine x_iload_n dX7_deviation_16 rfl ?_
  refine x_iload_n dX7_deviation_17 rfl ?_
  refine t_cvV cvX7_85_X7 dX7_deviation_18 (c_X7_isOff _ _ _ _ _ _ _ f k f10 h4) rfl ?_
  refine x_top (flI_y ho : flI (hs S f (13 + k) = 1) = 1) ?_
  refine x_iconst (v := 2) dX7_deviation_21 rfl ?_
  refine t_cvV cvX7_136_X7 dX7_deviation_22 (st_1 _ _ _ _ _ _ _ _ (by decide) rfl) rfl ?_
  refine x_if_eqF dX7_deviation_25 32 (by decide) (by decide) ?_
  refine x_iconst (v := 0) dX7_deviation_28 rfl ?_
  refine x_goto (tgt := 41) dX7_deviation_29 (by decide) ?_
  exact x_ireturn dX7_deviation_41 rfl (by first | rfl | exact ite_nar | exact itn_nar) ⟨rfl, by rw [upd_upd]⟩
theorem c_X7_deviation_ok (g : xG) (B : xA) (m : Nat) (F : Nat → Int32) (W : Int64) (S : Nat → Int32) (Z : Nat → Nat → Int32) (f k : Nat) (hk : tOk S) (hf : f < manyS S) (h4 : k < 4) (ho : ¬ hs S f (13 + k) = 1) : xC g iX7_deviation 4 [.ref m, .int (nI f), .int (nI k)] (tA B m F W S Z) (xRet (some (.int (hs S f (9 + k)))) (tA B m (upd F 6 0) W S Z)) := by
  have f10 : f < 10 := by have := hk.1.2; omega
  show xW g _ _ 0 [some (.ref m), some (.int (nI f)), some (.int (nI k))] [] _ _
  refine x_aload_n dX7_deviation_0 rfl ?_
  refine x_iconst (v := 0) dX7_deviation_1 rfl ?_
  refine t_put fpX7_72_6 dX7_deviation_2 (by decide) ⟨rfl, rfl⟩ ?_
  refine x_aload_n dX7_deviation_5 rfl ?_
  refine x_iload_n dX7_deviation_6 rfl ?_
  refine x_iload_n dX7_deviation_7 rfl ?_
  refine t_cvV cvX7_388_X7 dX7_deviation_8 (c_X7_noString_0 _ _ _ _ _ _ _ f k rfl hk hf h4) rfl ?_
  refine x_if_neF dX7_deviation_11 28 (by decide) (by decide) ?_
  refine x_aload_n dX7_deviation_14 rfl ?_
  refine x_aload_n dX7_deviation_15 rfl ?_
  refine x_iload_n dX7_deviation_16 rfl ?_
  refine x_iload_n dX7_deviation_17 rfl ?_
  refine t_cvV cvX7_85_X7 dX7_deviation_18 (c_X7_isOff _ _ _ _ _ _ _ f k f10 h4) rfl ?_
  refine x_top (flI_no ho : flI (hs S f (13 + k) = 1) = 0) ?_
  refine x_iconst (v := 2) dX7_deviation_21 rfl ?_
  refine t_cvV cvX7_136_X7 dX7_deviation_22 (st_0 _ _ _ _ _ _ _ _ (by decide) rfl) rfl ?_
  refine x_if_eqT (tgt := 32) dX7_deviation_25 (by decide) (by decide) ?_
  refine x_aload_n dX7_deviation_32 rfl ?_
  refine x_iload_n dX7_deviation_33 rfl ?_
  refine x_bipush (v := 9) dX7_deviation_34 (by decide) ?_
  refine x_iload_n dX7_deviation_36 rfl ?_
  refine x_iadd dX7_deviation_37 ?_
  refine x_top (y := nI (9 + k)) (nI_add 9 k) ?_
  refine t_cvV cvX7_75_X7 dX7_deviation_38 (c_X7_has _ _ _ _ _ _ _ f (9 + k) f10 (by omega)) rfl ?_
  exact x_ireturn dX7_deviation_41 rfl (by first | rfl | exact ite_nar | exact itn_nar) ⟨rfl, rfl⟩
theorem c_X7_grip_1a (g : xG) (B : xA) (m : Nat) (F : Nat → Int32) (W : Int64) (S : Nat → Int32) (Z : Nat → Nat → Int32) (x y : Int32) (hx : inI x 0 (S 13 - 1) = 0) : xC g iX7_grip 4 [.ref m, .int x, .int y] (tA B m F W S Z) (xRet (some (.int 0)) (tA B m (upd F 6 1) W S Z)) := by
  show xW g _ _ 0 [some (.ref m), some (.int x), some (.int y)] [] _ _
  refine x_aload_n dX7_grip_0 rfl ?_
  refine x_iconst (v := 0) dX7_grip_1 rfl ?_
  refine t_put fpX7_72_6 dX7_grip_2 (by decide) ⟨rfl, rfl⟩ ?_
  refine x_aload_n dX7_grip_5 rfl ?_
  refine x_iload_n dX7_grip_6 rfl ?_
  refine x_iload_n dX7_grip_7 rfl ?_
  refine t_cvV cvX7_388_X7 dX7_grip_8 (c_X7_noString_1a _ _ _ _ _ _ _ x y rfl hx) rfl ?_
  refine x_if_eqF dX7_grip_11 18 (by decide) (by decide) ?_
  refine x_iconst (v := 0) dX7_grip_14 rfl ?_
  refine x_goto (tgt := 27) dX7_grip_15 (by decide) ?_
  exact x_ireturn dX7_grip_27 rfl (by first | rfl | exact ite_nar | exact itn_nar) ⟨rfl, by rw [upd_upd]⟩
theorem c_X7_grip_1b (g : xG) (B : xA) (m : Nat) (F : Nat → Int32) (W : Int64) (S : Nat → Int32) (Z : Nat → Nat → Int32) (f : Nat) (y : Int32) (hk : tOk S) (hf : f < manyS S) (hy : inI y 0 3 = 0) : xC g iX7_grip 4 [.ref m, .int (nI f), .int y] (tA B m F W S Z) (xRet (some (.int 0)) (tA B m (upd F 6 1) W S Z)) := by
  show xW g _ _ 0 [some (.ref m), some (.int (nI f)), some (.int y)] [] _ _
  refine x_aload_n dX7_grip_0 rfl ?_
  refine x_iconst (v := 0) dX7_grip_1 rfl ?_
  refine t_put fpX7_72_6 dX7_grip_2 (by decide) ⟨rfl, rfl⟩ ?_
  refine x_aload_n dX7_grip_5 rfl ?_
  refine x_iload_n dX7_grip_6 rfl ?_
  refine x_iload_n dX7_grip_7 rfl ?_
  refine t_cvV cvX7_388_X7 dX7_grip_8 (c_X7_noString_1b _ _ _ _ _ _ _ f y rfl hk hf hy) rfl ?_
  refine x_if_eqF dX7_grip_11 18 (by decide) (by decide) ?_
  refine x_iconst (v := 0) dX7_grip_14 rfl ?_
  refine x_goto (tgt := 27) dX7_grip_15 (by decide) ?_
  exact x_ireturn dX7_grip_27 rfl (by first | rfl | exact ite_nar | exact itn_nar) ⟨rfl, by rw [upd_upd]⟩
theorem c_X7_grip_ok (g : xG) (B : xA) (m : Nat) (F : Nat → Int32) (W : Int64) (S : Nat → Int32) (Z : Nat → Nat → Int32) (f k : Nat) (hk : tOk S) (hf : f < manyS S) (h4 : k < 4) : xC g iX7_grip 4 [.ref m, .int (nI f), .int (nI k)] (tA B m F W S Z) (xRet (some (.int (hs S f (17 + k)))) (tA B m (upd F 6 0) W S Z)) := by
  have f10 : f < 10 := by have := hk.1.2; omega
  show xW g _ _ 0 [some (.ref m), some (.int (nI f)), some (.int (nI k))] [] _ _
  refine x_aload_n dX7_grip_0 rfl ?_
  refine x_iconst (v := 0) dX7_grip_1 rfl ?_
  refine t_put fpX7_72_6 dX7_grip_2 (by decide) ⟨rfl, rfl⟩ ?_
  refine x_aload_n dX7_grip_5 rfl ?_
  refine x_iload_n dX7_grip_6 rfl ?_
  refine x_iload_n dX7_grip_7 rfl ?_
  refine t_cvV cvX7_388_X7 dX7_grip_8 (c_X7_noString_0 _ _ _ _ _ _ _ f k rfl hk hf h4) rfl ?_
  refine x_if_eqT (tgt := 18) dX7_grip_11 (by decide) (by decide) ?_
  refine x_aload_n dX7_grip_18 rfl ?_
  refine x_iload_n dX7_grip_19 rfl ?_
  refine x_bipush (v := 17) dX7_grip_20 (by decide) ?_
  refine x_iload_n dX7_grip_22 rfl ?_
  refine x_iadd dX7_grip_23 ?_
  refine x_top (y := nI (17 + k)) (nI_add 17 k) ?_
  refine t_cvV cvX7_75_X7 dX7_grip_24 (c_X7_has _ _ _ _ _ _ _ f (17 + k) f10 (by omega)) rfl ?_
  exact x_ireturn dX7_grip_27 rfl (by first | rfl | exact ite_nar | exact itn_nar) ⟨rfl, rfl⟩
theorem c_X7_isBroken_1a (g : xG) (B : xA) (m : Nat) (F : Nat → Int32) (W : Int64) (S : Nat → Int32) (Z : Nat → Nat → Int32) (x y : Int32) (hx : inI x 0 (S 13 - 1) = 0) : xC g iX7_isBroken 4 [.ref m, .int x, .int y] (tA B m F W S Z) (xRet (some (.int 0)) (tA B m (upd F 6 1) W S Z)) := by
  show xW g _ _ 0 [some (.ref m), some (.int x), some (.int y)] [] _ _
  refine x_aload_n dX7_isBroken_0 rfl ?_
  refine x_iconst (v := 0) dX7_isBroken_1 rfl ?_
  refine t_put fpX7_72_6 dX7_isBroken_2 (by decide) ⟨rfl, rfl⟩ ?_
  refine x_aload_n dX7_isBroken_5 rfl ?_
  refine x_iload_n dX7_isBroken_6 rfl ?_
  refine x_iload_n dX7_isBroken_7 rfl ?_
  refine t_cvV cvX7_388_X7 dX7_isBroken_8 (c_X7_noString_1a _ _ _ _ _ _ _ x y rfl hx) rfl ?_
  refine x_if_neT (tgt := 27) dX7_isBroken_11 (by decide) (by decide) ?_
  refine x_iconst (v := 0) dX7_isBroken_27 rfl ?_
  exact x_ireturn dX7_isBroken_28 rfl (by first | rfl | exact ite_nar | exact itn_nar) ⟨rfl, by rw [upd_upd]⟩
theorem c_X7_isBroken_1b (g : xG) (B : xA) (m : Nat) (F : Nat → Int32) (W : Int64) (S : Nat → Int32) (Z : Nat → Nat → Int32) (f : Nat) (y : Int32) (hk : tOk S) (hf : f < manyS S) (hy : inI y 0 3 = 0) : xC g iX7_isBroken 4 [.ref m, .int (nI f), .int y] (tA B m F W S Z) (xRet (some (.int 0)) (tA B m (upd F 6 1) W S Z)) := by
  show xW g _ _ 0 [some (.ref m), some (.int (nI f)), some (.int y)] [] _ _
  refine x_aload_n dX7_isBroken_0 rfl ?_
  refine x_iconst (v := 0) dX7_isBroken_1 rfl ?_
  refine t_put fpX7_72_6 dX7_isBroken_2 (by decide) ⟨rfl, rfl⟩ ?_
  refine x_aload_n dX7_isBroken_5 rfl ?_
  refine x_iload_n dX7_isBroken_6 rfl ?_
  refine x_iload_n dX7_isBroken_7 rfl ?_
  refine t_cvV cvX7_388_X7 dX7_isBroken_8 (c_X7_noString_1b _ _ _ _ _ _ _ f y rfl hk hf hy) rfl ?_
  refine x_if_neT (tgt := 27) dX7_isBroken_11 (by decide) (by decide) ?_
  refine x_iconst (v := 0) dX7_isBroken_27 rfl ?_
  exact x_ireturn dX7_isBroken_28 rfl (by first | rfl | exact ite_nar | exact itn_nar) ⟨rfl, by rw [upd_upd]⟩
theorem c_X7_isBroken_y (g : xG) (B : xA) (m : Nat) (F : Nat → Int32) (W : Int64) (S : Nat → Int32) (Z : Nat → Nat → Int32) (f k : Nat) (hk : tOk S) (hf : f < manyS S) (h4 : k < 4) (ho : hs S f (13 + k) = 1) : xC g iX7_isBroken 4 [.ref m, .int (nI f), .int (nI k)] (tA B m F W S Z) (xRet (some (.int 1)) (tA B m (upd F 6 0) W S Z)) := by
  have f10 : f < 10 := by have := hk.1.2; omega
  show xW g _ _ 0 [some (.ref m), some (.int (nI f)), some (.int (nI k))] [] _ _
  refine x_aload_n dX7_isBroken_0 rfl ?_
  refine x_iconst (v := 0) dX7_isBroken_1 rfl ?_
  refine t_put fpX7_72_6 dX7_isBroken_2 (by decide) ⟨rfl, rfl⟩ ?_
  refine x_aload_n dX7_isBroken_5 rfl ?_
  refine x_iload_n dX7_isBroken_6 rfl ?_
  refine x_iload_n dX7_isBroken_7 rfl ?_
  refine t_cvV cvX7_388_X7 dX7_isBroken_8 (c_X7_noString_0 _ _ _ _ _ _ _ f k rfl hk hf h4) rfl ?_
  refine x_if_neF dX7_isBroken_11 27 (by decide) (by decide) ?_
  refine x_aload_n dX7_isBroken_14 rfl ?_
  refine x_iload_n dX7_isBroken_15 rfl ?_
  refine x_iload_n dX7_isBroken_16 rfl ?_
  refine t_cvV cvX7_85_X7 dX7_isBroken_17 (c_X7_isOff _ _ _ _ _ _ _ f k f10 h4) rfl ?_
  refine x_top (flI_y ho : flI (hs S f (13 + k) = 1) = 1) ?_
  refine x_if_eqF dX7_isBroken_20 27 (by decide) (by decide) ?_
  refine x_iconst (v := 1) dX7_isBroken_23 rfl ?_
  refine x_goto (tgt := 28) dX7_isBroken_24 (by decide) ?_
  exact x_ireturn dX7_isBroken_28 rfl (by first | rfl | exact ite_nar | exact itn_nar) ⟨rfl, rfl⟩
theorem c_X7_isBroken_n (g : xG) (B : xA) (m : Nat) (F : Nat → Int32) (W : Int64) (S : Nat → Int32) (Z : Nat → Nat → Int32) (f k : Nat) (hk : tOk S) (hf : f < manyS S) (h4 : k < 4) (ho : ¬ hs S f (13 + k) = 1) : xC g iX7_isBroken 4 [.ref m, .int (nI f), .int (nI k)] (tA B m F W S Z) (xRet (some (.int 0)) (tA B m (upd F 6 0) W S Z)) := by
  have f10 : f < 10 := by have := hk.1.2; omega
  show xW g _ _ 0 [some (.ref m), some (.int (nI f)), some (.int (nI k))] [] _ _
  refine x_aload_n dX7_isBroken_0 rfl ?_
  refine x_iconst (v := 0) dX7_isBroken_1 rfl ?_
  refine t_put fpX7_72_6 dX7_isBroken_2 (by decide) ⟨rfl, rfl⟩ ?_
  refine x_aload_n dX7_isBroken_5 rfl ?_
  refine x_iload_n dX7_isBroken_6 rfl ?_
  refine x_iload_n dX7_isBroken_7 rfl ?_
  refine t_cvV cvX7_388_X7 dX7_isBroken_8 (c_X7_noString_0 _ _ _ _ _ _ _ f k rfl hk hf h4) rfl ?_
  refine x_if_neF dX7_isBroken_11 27 (by decide) (by decide) ?_
  refine x_aload_n dX7_isBroken_14 rfl ?_
  refine x_iload_n dX7_isBroken_15 rfl ?_
  refine x_iload_n dX7_isBroken_16 rfl ?_
  refine t_cvV cvX7_85_X7 dX7_isBroken_17 (c_X7_isOff _ _ _ _ _ _ _ f k f10 h4) rfl ?_
  refine x_top (flI_no ho : flI (hs S f (13 + k) = 1) = 0) ?_
  refine x_if_eqT (tgt := 27) dX7_isBroken_20 (by decide) (by decide) ?_
  refine x_iconst (v := 0) dX7_isBroken_27 rfl ?_
  exact x_ireturn dX7_isBroken_28 rfl (by first | rfl | exact ite_nar | exact itn_nar) ⟨rfl, rfl⟩
theorem c_X7_isInTune_1 (g : xG) (B : xA) (m : Nat) (F : Nat → Int32) (W : Int64) (S : Nat → Int32) (Z : Nat → Nat → Int32) (x : Int32) (hx : inI x 0 (S 13 - 1) = 0) : xC g iX7_isInTune 3 [.ref m, .int x] (tA B m F W S Z) (xRet (some (.int 0)) (tA B m (upd F 6 1) W S Z)) := by
  show xW g _ _ 0 [some (.ref m), some (.int x)] [] _ _
  refine x_aload_n dX7_isInTune_0 rfl ?_
  refine x_iconst (v := 0) dX7_isInTune_1 rfl ?_
  refine t_put fpX7_72_6 dX7_isInTune_2 (by decide) ⟨rfl, rfl⟩ ?_
  refine x_aload_n dX7_isInTune_5 rfl ?_
  refine x_iload_n dX7_isInTune_6 rfl ?_
  refine t_cvV cvX7_383_X7 dX7_isInTune_7 (c_X7_noFiddler_1 _ _ _ _ _ _ _ x rfl hx) rfl ?_
  refine x_if_neT (tgt := 27) dX7_isInTune_10 (by decide) (by decide) ?_
  refine x_iconst (v := 0) dX7_isInTune_27 rfl ?_
  exact x_ireturn dX7_isInTune_28 rfl (by first | rfl | exact ite_nar | exact itn_nar) ⟨rfl, by rw [upd_upd]⟩
theorem c_X7_isInTune_y (g : xG) (B : xA) (m : Nat) (F : Nat → Int32) (W : Int64) (S : Nat → Int32) (Z : Nat → Nat → Int32) (f : Nat) (hk : tOk S) (hf : f < manyS S) (ho : hs S f 2 = 1) : xC g iX7_isInTune 3 [.ref m, .int (nI f)] (tA B m F W S Z) (xRet (some (.int 1)) (tA B m (upd F 6 0) W S Z)) := by
  have f10 : f < 10 := by have := hk.1.2; omega
  show xW g _ _ 0 [some (.ref m), some (.int (nI f))] [] _ _
  refine x_aload_n dX7_isInTune_0 rfl ?_
  refine x_iconst (v := 0) dX7_isInTune_1 rfl ?_
  refine t_put fpX7_72_6 dX7_isInTune_2 (by decide) ⟨rfl, rfl⟩ ?_
  refine x_aload_n dX7_isInTune_5 rfl ?_
  refine x_iload_n dX7_isInTune_6 rfl ?_
  refine t_cvV cvX7_383_X7 dX7_isInTune_7 (c_X7_noFiddler_0 _ _ _ _ _ _ _ f rfl hk hf) rfl ?_
  refine x_if_neF dX7_isInTune_10 27 (by decide) (by decide) ?_
  refine x_aload_n dX7_isInTune_13 rfl ?_
  refine x_iload_n dX7_isInTune_14 rfl ?_
  refine x_iconst (v := 2) dX7_isInTune_15 rfl ?_
  refine t_cvV cvX7_75_X7 dX7_isInTune_16 (c_X7_has _ _ _ _ _ _ _ f (2) f10 (by omega)) rfl ?_
  refine x_iconst (v := 1) dX7_isInTune_19 rfl ?_
  refine x_icmp_neF dX7_isInTune_20 27 (by decide) ho ?_
  refine x_iconst (v := 1) dX7_isInTune_23 rfl ?_
  refine x_goto (tgt := 28) dX7_isInTune_24 (by decide) ?_
  exact x_ireturn dX7_isInTune_28 rfl (by first | rfl | exact ite_nar | exact itn_nar) ⟨rfl, rfl⟩
theorem c_X7_isInTune_n (g : xG) (B : xA) (m : Nat) (F : Nat → Int32) (W : Int64) (S : Nat → Int32) (Z : Nat → Nat → Int32) (f : Nat) (hk : tOk S) (hf : f < manyS S) (ho : ¬ hs S f 2 = 1) : xC g iX7_isInTune 3 [.ref m, .int (nI f)] (tA B m F W S Z) (xRet (some (.int 0)) (tA B m (upd F 6 0) W S Z)) := by
  have f10 : f < 10 := by have := hk.1.2; omega
  show xW g _ _ 0 [some (.ref m), some (.int (nI f))] [] _ _
  refine x_aload_n dX7_isInTune_0 rfl ?_
  refine x_iconst (v := 0) dX7_isInTune_1 rfl ?_
  refine t_put fpX7_72_6 dX7_isInTune_2 (by decide) ⟨rfl, rfl⟩ ?_
  refine x_aload_n dX7_isInTune_5 rfl ?_
  refine x_iload_n dX7_isInTune_6 rfl ?_
  refine t_cvV cvX7_383_X7 dX7_isInTune_7 (c_X7_noFiddler_0 _ _ _ _ _ _ _ f rfl hk hf) rfl ?_
  refine x_if_neF dX7_isInTune_10 27 (by decide) (by decide) ?_
  refine x_aload_n dX7_isInTune_13 rfl ?_
  refine x_iload_n dX7_isInTune_14 rfl ?_
  refine x_iconst (v := 2) dX7_isInTune_15 rfl ?_
  refine t_cvV cvX7_75_X7 dX7_isInTune_16 (c_X7_has _ _ _ _ _ _ _ f (2) f10 (by omega)) rfl ?_
  refine x_iconst (v := 1) dX7_isInTune_19 rfl ?_
  refine x_icmp_neT (tgt := 27) dX7_isInTune_20 (by decide) ho ?_
  refine x_iconst (v := 0) dX7_isInTune_27 rfl ?_
  exact x_ireturn dX7_isInTune_28 rfl (by first | rfl | exact ite_nar | exact itn_nar) ⟨rfl, rfl⟩
theorem c_X7_tunedDeviation_1a (g : xG) (B : xA) (m : Nat) (F : Nat → Int32) (W : Int64) (S : Nat → Int32) (Z : Nat → Nat → Int32) (x y : Int32) (hx : inI x 0 (S 13 - 1) = 0) : xC g iX7_tunedDeviation 4 [.ref m, .int x, .int y] (tA B m F W S Z) (xRet (some (.int 0)) (tA B m (upd F 6 1) W S Z)) := by
  show xW g _ _ 0 [some (.ref m), some (.int x), some (.int y)] [] _ _
  refine x_aload_n dX7_tunedDeviation_0 rfl ?_
  refine x_iconst (v := 0) dX7_tunedDeviation_1 rfl ?_
  refine t_put fpX7_72_6 dX7_tunedDeviation_2 (by decide) ⟨rfl, rfl⟩ ?_
  refine x_aload_n dX7_tunedDeviation_5 rfl ?_
  refine x_iload_n dX7_tunedDeviation_6 rfl ?_
  refine x_iload_n dX7_tunedDeviation_7 rfl ?_
  refine t_cvV cvX7_388_X7 dX7_tunedDeviation_8 (c_X7_noString_1a _ _ _ _ _ _ _ x y rfl hx) rfl ?_
  refine x_if_neT (tgt := 36) dX7_tunedDeviation_11 (by decide) (by decide) ?_
  refine x_iconst (v := 0) dX7_tunedDeviation_36 rfl ?_
  refine x_goto (tgt := 48) dX7_tunedDeviation_37 (by decide) ?_
  exact x_ireturn dX7_tunedDeviation_48 rfl (by first | rfl | exact ite_nar | exact itn_nar) ⟨rfl, by rw [upd_upd]⟩
theorem c_X7_tunedDeviation_1b (g : xG) (B : xA) (m : Nat) (F : Nat → Int32) (W : Int64) (S : Nat → Int32) (Z : Nat → Nat → Int32) (f : Nat) (y : Int32) (hk : tOk S) (hf : f < manyS S) (hy : inI y 0 3 = 0) : xC g iX7_tunedDeviation 4 [.ref m, .int (nI f), .int y] (tA B m F W S Z) (xRet (some (.int 0)) (tA B m (upd F 6 1) W S Z)) := by
  show xW g _ _ 0 [some (.ref m), some (.int (nI f)), some (.int y)] [] _ _
  refine x_aload_n dX7_tunedDeviation_0 rfl ?_
  refine x_iconst (v := 0) dX7_tunedDeviation_1 rfl ?_
  refine t_put fpX7_72_6 dX7_tunedDeviation_2 (by decide) ⟨rfl, rfl⟩ ?_
  refine x_aload_n dX7_tunedDeviation_5 rfl ?_
  refine x_iload_n dX7_tunedDeviation_6 rfl ?_
  refine x_iload_n dX7_tunedDeviation_7 rfl ?_
  refine t_cvV cvX7_388_X7 dX7_tunedDeviation_8 (c_X7_noString_1b _ _ _ _ _ _ _ f y rfl hk hf hy) rfl ?_
  refine x_if_neT (tgt := 36) dX7_tunedDeviation_11 (by decide) (by decide) ?_
  refine x_iconst (v := 0) dX7_tunedDeviation_36 rfl ?_
  refine x_goto (tgt := 48) dX7_tunedDeviation_37 (by decide) ?_
  exact x_ireturn dX7_tunedDeviation_48 rfl (by first | rfl | exact ite_nar | exact itn_nar) ⟨rfl, by rw [upd_upd]⟩
theorem c_X7_tunedDeviation_2 (g : xG) (B : xA) (m : Nat) (F : Nat → Int32) (W : Int64) (S : Nat → Int32) (Z : Nat → Nat → Int32) (f k : Nat) (hk : tOk S) (hf : f < manyS S) (h4 : k < 4) (ho : hs S f 2 = 0) : xC g iX7_tunedDeviation 4 [.ref m, .int (nI f), .int (nI k)] (tA B m F W S Z) (xRet (some (.int 0)) (tA B m (upd F 6 2) W S Z)) := by
  have f10 : f < 10 := by have := hk.1.2; omega
  show xW g _ _ 0 [some (.ref m), some (.int (nI f)), some (.int (nI k))] [] _ _
  refine x_aload_n dX7_tunedDeviation_0 rfl ?_
  refine x_iconst (v := 0) dX7_tunedDeviation_1 rfl ?_
  refine t_put fpX7_72_6 dX7_tunedDeviation_2 (by decide) ⟨rfl, rfl⟩ ?_
  refine x_aload_n dX7_tunedDeviation_5 rfl ?_
  refine x_iload_n dX7_tunedDeviation_6 rfl ?_
  refine x_iload_n dX7_tunedDeviation_7 rfl ?_
  refine t_cvV cvX7_388_X7 dX7_tunedDeviation_8 (c_X7_noString_0 _ _ _ _ _ _ _ f k rfl hk hf h4) rfl ?_
  refine x_if_neF dX7_tunedDeviation_11 36 (by decide) (by decide) ?_
  refine x_aload_n dX7_tunedDeviation_14 rfl ?_
  refine x_aload_n dX7_tunedDeviation_15 rfl ?_
  refine x_iload_n dX7_tunedDeviation_16 rfl ?_
  refine x_iconst (v := 2) dX7_tunedDeviation_17 rfl ?_
  refine t_cvV cvX7_75_X7 dX7_tunedDeviation_18 (c_X7_has _ _ _ _ _ _ _ f (2) f10 (by omega)) rfl ?_
  refine x_if_neF dX7_tunedDeviation_21 28 (by decide) ho ?_
  refine x_iconst (v := 1) dX7_tunedDeviation_24 rfl ?_
  refine x_goto (tgt := 29) dX7_tunedDeviation_25 (by decide) ?_
  refine x_iconst (v := 2) dX7_tunedDeviation_29 rfl ?_
  refine t_cvV cvX7_136_X7 dX7_tunedDeviation_30 (st_1 _ _ _ _ _ _ _ _ (by decide) rfl) rfl ?_
  refine x_if_eqF dX7_tunedDeviation_33 40 (by decide) (by decide) ?_
  refine x_iconst (v := 0) dX7_tunedDeviation_36 rfl ?_
  refine x_goto (tgt := 48) dX7_tunedDeviation_37 (by decide) ?_
  exact x_ireturn dX7_tunedDeviation_48 rfl (by first | rfl | exact ite_nar | exact itn_nar) ⟨rfl, by rw [upd_upd]⟩
theorem c_X7_tunedDeviation_ok (g : xG) (B : xA) (m : Nat) (F : Nat → Int32) (W : Int64) (S : Nat → Int32) (Z : Nat → Nat → Int32) (f k : Nat) (hk : tOk S) (hf : f < manyS S) (h4 : k < 4) (ho : ¬ hs S f 2 = 0) : xC g iX7_tunedDeviation 4 [.ref m, .int (nI f), .int (nI k)] (tA B m F W S Z) (xRet (some (.int (hs S f (5 + k)))) (tA B m (upd F 6 0) W S Z)) := by
  have f10 : f < 10 := by have := hk.1.2; omega
  show xW g _ _ 0 [some (.ref m), some (.int (nI f)), some (.int (nI k))] [] _ _
  refine x_aload_n dX7_tunedDeviation_0 rfl ?_
  refine x_iconst (v := 0) dX7_tunedDeviation_1 rfl ?_
  refine t_put fpX7_72_6 dX7_tunedDeviation_2 (by decide) ⟨rfl, rfl⟩ ?_
  refine x_aload_n dX7_tunedDeviation_5 rfl ?_
  refine x_iload_n dX7_tunedDeviation_6 rfl ?_
  refine x_iload_n dX7_tunedDeviation_7 rfl ?_
  refine t_cvV cvX7_388_X7 dX7_tunedDeviation_8 (c_X7_noString_0 _ _ _ _ _ _ _ f k rfl hk hf h4) rfl ?_
  refine x_if_neF dX7_tunedDeviation_11 36 (by decide) (by decide) ?_
  refine x_aload_n dX7_tunedDeviation_14 rfl ?_
  refine x_aload_n dX7_tunedDeviation_15 rfl ?_
  refine x_iload_n dX7_tunedDeviation_16 rfl ?_
  refine x_iconst (v := 2) dX7_tunedDeviation_17 rfl ?_
  refine t_cvV cvX7_75_X7 dX7_tunedDeviation_18 (c_X7_has _ _ _ _ _ _ _ f (2) f10 (by omega)) rfl ?_
  refine x_if_neT (tgt := 28) dX7_tunedDeviation_21 (by decide) ho ?_
  refine x_iconst (v := 0) dX7_tunedDeviation_28 rfl ?_
  refine x_iconst (v := 2) dX7_tunedDeviation_29 rfl ?_
  refine t_cvV cvX7_136_X7 dX7_tunedDeviation_30 (st_0 _ _ _ _ _ _ _ _ (by decide) rfl) rfl ?_
  refine x_if_eqT (tgt := 40) dX7_tunedDeviation_33 (by decide) (by decide) ?_
  refine x_aload_n dX7_tunedDeviation_40 rfl ?_
  refine x_iload_n dX7_tunedDeviation_41 rfl ?_
  refine x_iconst (v := 5) dX7_tunedDeviation_42 rfl ?_
  refine x_iload_n dX7_tunedDeviation_43 rfl ?_
  refine x_iadd dX7_tunedDeviation_44 ?_
  refine x_top (y := nI (5 + k)) (nI_add 5 k) ?_
  refine t_cvV cvX7_75_X7 dX7_tunedDeviation_45 (c_X7_has _ _ _ _ _ _ _ f (5 + k) f10 (by omega)) rfl ?_
  exact x_ireturn dX7_tunedDeviation_48 rfl (by first | rfl | exact ite_nar | exact itn_nar) ⟨rfl, rfl⟩
