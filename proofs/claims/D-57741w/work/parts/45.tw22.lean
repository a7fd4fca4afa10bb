set_option maxRecDepth 100000
theorem rw_l {g : xG} {B : xA} {m : Nat} {F : Nat → Int32} {W : Int64} {S : Nat → Int32} {Z : Nat → Nat → Int32} {Q : Outcome → xA → Prop} (hk : tOk S) (hN : nOk S) (q : tO) (hq : q.1 = 0) (kont : xW g iX7_writeRow 3 75 [some (.ref m), some (.int (nI (rowS S)))] [] (tA B m (upd F 31 (nI (roW S (rowS S) q).1)) W S (zup Z 30 (roW S (rowS S) q).2)) Q) : ∀ f p, f + p = rowS S → xW g iX7_writeRow 3 12 [some (.ref m), some (.int (nI p))] [] (tA B m (upd F 31 (nI (roW S p q).1)) W S (zup Z 30 (roW S p q).2)) Q := by
  have hr := hk.2.1.2
  intro f
  induction f with
  | zero =>
    intro p hp
    have e : p = rowS S := by omega
    subst e
    refine x_iload_n dX7_writeRow_12 rfl ?_
    refine x_aload_n dX7_writeRow_13 rfl ?_
    refine t_get fgX7_7_6 dX7_writeRow_14 rfl ?_
    refine x_bipush (v := 14) dX7_writeRow_17 (by decide) ?_
    refine t_aldS 14 dX7_writeRow_19 rfl (by decide) ?_
    refine x_top hk.2.1.1 ?_
    refine x_icmp_geT (tgt := 75) dX7_writeRow_20 (by decide) (nI_le (Nat.le_refl _) (by omega)) ?_
    exact kont
  | succ f ih =>
    intro p hp
    have hp0 := hk.2.2 p (by omega)
    have kk := ih (p + 1) (by omega)
    have hle := roW_le S p q
    rw [show roW S (p + 1) q = roO S p (roW S p q) from rfl] at kk
    generalize roW S p q = w at kk hle ⊢
    have hn := hN _ hp0.2
    unfold roO at kk
    have b := spO_le w
    have c := wnO_1 (nmN S (plS S p)) (ltN 6 (nmN S (plS S p))) 0 (spO w)
    have d := ltN_le 6 (nmN S (plS S p))
    refine x_iload_n dX7_writeRow_12 rfl ?_
    refine x_aload_n dX7_writeRow_13 rfl ?_
    refine t_get fgX7_7_6 dX7_writeRow_14 rfl ?_
    refine x_bipush (v := 14) dX7_writeRow_17 (by decide) ?_
    refine t_aldS 14 dX7_writeRow_19 rfl (by decide) ?_
    refine x_top hk.2.1.1 ?_
    refine x_icmp_geF dX7_writeRow_20 75 (by decide) (nI_ge (by omega) (by omega)) ?_
    refine x_aload_n dX7_writeRow_23 rfl ?_
    refine t_cvN cvX7_435_X7 dX7_writeRow_24 (c_X7_space _ _ _ _ _ _ _ w (by omega)) rfl ?_
    refine x_aload_n dX7_writeRow_27 rfl ?_
    refine x_aload_n dX7_writeRow_28 rfl ?_
    refine x_aload_n dX7_writeRow_29 rfl ?_
    refine t_get fgX7_7_6 dX7_writeRow_30 rfl ?_
    refine x_bipush (v := 20) dX7_writeRow_33 (by decide) ?_
    refine x_iload_n dX7_writeRow_35 rfl ?_
    refine x_iadd dX7_writeRow_36 ?_
    refine x_top (y := nI (20 + p)) (nI_add 20 p) ?_
    refine t_aldS (20 + p) dX7_writeRow_37 rfl (by omega) ?_
    refine x_top hp0.1 ?_
    refine x_iconst (v := 0) dX7_writeRow_38 rfl ?_
    refine t_cvV cvX7_75_X7 dX7_writeRow_39 (c_X7_has _ _ _ _ _ _ _ (plS S p) 0 hp0.2 (by omega)) rfl ?_
    refine x_top hn.1 ?_
    refine t_cvN cvX7_438_X7 dX7_writeRow_42 (c_X7_writesName _ _ _ _ _ _ _ (spO w) (nmN S (plS S p)) hn.2 (by omega)) rfl ?_
    refine x_aload_n dX7_writeRow_45 rfl ?_
    refine x_aload_n dX7_writeRow_46 rfl ?_
    refine t_get fgX7_7_6 dX7_writeRow_47 rfl ?_
    refine x_bipush (v := 20) dX7_writeRow_50 (by decide) ?_
    refine x_iload_n dX7_writeRow_52 rfl ?_
    refine x_iadd dX7_writeRow_53 ?_
    refine x_top (y := nI (20 + p)) (nI_add 20 p) ?_
    refine t_aldS (20 + p) dX7_writeRow_54 rfl (by omega) ?_
    refine x_top hp0.1 ?_
    refine x_iconst (v := 2) dX7_writeRow_55 rfl ?_
    refine t_cvV cvX7_75_X7 dX7_writeRow_56 (c_X7_has _ _ _ _ _ _ _ (plS S p) 2 hp0.2 (by omega)) rfl ?_
    refine x_iconst (v := 1) dX7_writeRow_59 rfl ?_
    refine x_icmp_ne 69 dX7_writeRow_60 (by decide) (fun c60 => ?_) (fun c60 => ?_)
    · rw [if_neg c60] at kk
      refine x_iinc (v := nI (p + 1)) dX7_writeRow_69 rfl (nI_1 _) (by decide) rfl ?_
      refine x_goto (tgt := 12) dX7_writeRow_72 (by decide) ?_
      exact kk
    · rw [if_pos c60] at kk
      refine x_aload_n dX7_writeRow_63 rfl ?_
      refine x_bipush (v := 42) dX7_writeRow_64 (by decide) ?_
      refine t_cvN cvX7_432_X7 dX7_writeRow_66 (c_X7_writes _ _ _ _ _ _ _ _ 42 (by omega)) rfl ?_
      refine x_iinc (v := nI (p + 1)) dX7_writeRow_69 rfl (nI_1 _) (by decide) rfl ?_
      refine x_goto (tgt := 12) dX7_writeRow_72 (by decide) ?_
      exact kk
theorem c_X7_writeRow (g : xG) (B : xA) (m : Nat) (F : Nat → Int32) (W : Int64) (S : Nat → Int32) (Z : Nat → Nat → Int32) (hk : tOk S) (hN : nOk S) : xC g iX7_writeRow 3 [.ref m] (tA B m F W S Z) (xRet (some (.int (nI (roW S (rowS S) (0, Z 30)).1))) (tA B m (upd (upd F 6 0) 31 (nI (roW S (rowS S) (0, Z 30)).1)) W S (zup Z 30 (roW S (rowS S) (0, Z 30)).2))) := by
  show xW g _ _ 0 [some (.ref m), none] [] _ _
  refine x_aload_n dX7_writeRow_0 rfl ?_
  refine x_iconst (v := 0) dX7_writeRow_1 rfl ?_
  refine t_put fpX7_72_6 dX7_writeRow_2 (by decide) ⟨rfl, rfl⟩ ?_
  refine x_aload_n dX7_writeRow_5 rfl ?_
  refine x_iconst (v := 0) dX7_writeRow_6 rfl ?_
  refine t_put fpX7_429_6 dX7_writeRow_7 (by decide) ⟨rfl, rfl⟩ ?_
  refine x_iconst (v := 0) dX7_writeRow_10 rfl ?_
  refine x_istore_n dX7_writeRow_11 (by decide) rfl ?_
  have kk := fun Q hQ => rw_l (g := g) (B := B) (m := m) (F := upd F 6 0) (W := W) (Z := Z) (Q := Q) hk hN (0, Z 30) rfl hQ (rowS S) 0 (Nat.add_zero _)
  rw [show tA B m (upd (upd F 6 0) 31 0) W S Z = tA B m (upd (upd F 6 0) 31 (nI (roW S 0 (0, Z 30)).1)) W S (zup Z 30 (roW S 0 (0, Z 30)).2) by rw [show (roW S 0 (0, Z 30)).2 = Z 30 from rfl, zup_id]; rfl]
  refine kk _ ?_
  refine x_aload_n dX7_writeRow_75 rfl ?_
  refine t_get fgX7_429_6 dX7_writeRow_76 rfl ?_
  exact x_ireturn dX7_writeRow_79 rfl (by first | rfl | exact ite_nar | exact itn_nar) ⟨rfl, rfl⟩
theorem c_X7_writesString (g : xG) (B : xA) (m : Nat) (F : Nat → Int32) (W : Int64) (S : Nat → Int32) (Z : Nat → Nat → Int32) (q : tO) (f k : Nat) (hf : f < 10) (h4 : k < 4) (hD : dOk S) (h : q.1 + 7 ≤ 120) : xC g iX7_writesString 4 [.ref m, .int (nI f), .int (nI k)] (tA B m (upd F 31 (nI (q).1)) W S (zup Z 30 (q).2)) (xRet none (tA B m (upd F 31 (nI (wsO S f k q).1)) W S (zup Z 30 (wsO S f k q).2))) := by
  have b := spO_le q
  have hd := hD f k hf h4
  unfold wsO
  show xW g _ _ 0 [some (.ref m), some (.int (nI f)), some (.int (nI k)), none] [] _ _
  refine x_aload_n dX7_writesString_0 rfl ?_
  refine t_cvN cvX7_435_X7 dX7_writesString_1 (c_X7_space _ _ _ _ _ _ _ q (by omega)) rfl ?_
  refine x_aload_n dX7_writesString_4 rfl ?_
  refine x_aload_n dX7_writesString_5 rfl ?_
  refine t_get fgX7_38_6 dX7_writesString_6 rfl ?_
  refine x_iload_n dX7_writesString_9 rfl ?_
  refine t_aldW k dX7_writesString_10 rfl h4 ?_
  refine x_l2i dX7_writesString_11 ?_
  refine x_bipush (v := 96) dX7_writesString_12 (by decide) ?_
  refine x_iadd dX7_writesString_14 ?_
  refine t_cvN cvX7_432_X7 dX7_writesString_15 (c_X7_writes _ _ _ _ _ _ _ (spO q) ((tWords k).toInt32 + 96) (by omega)) rfl ?_
  refine x_aload_n dX7_writesString_18 rfl ?_
  refine x_bipush (v := 58) dX7_writesString_19 (by decide) ?_
  refine t_cvN cvX7_432_X7 dX7_writesString_21 (c_X7_writes _ _ _ _ _ _ _ _ 58 (by show (spO q).1 + 1 < 120; omega)) rfl ?_
  refine x_aload_n dX7_writesString_24 rfl ?_
  refine x_iload_n dX7_writesString_25 rfl ?_
  refine x_bipush (v := 9) dX7_writesString_26 (by decide) ?_
  refine x_iload_n dX7_writesString_28 rfl ?_
  refine x_iadd dX7_writesString_29 ?_
  refine x_top (y := nI (9 + k)) (nI_add 9 k) ?_
  refine t_cvV cvX7_75_X7 dX7_writesString_30 (c_X7_has _ _ _ _ _ _ _ f (9 + k) hf (by omega)) rfl ?_
  refine x_istore_n dX7_writesString_33 (by decide) rfl ?_
  refine x_aload_n dX7_writesString_34 rfl ?_
  refine x_iload_n dX7_writesString_35 rfl ?_
  refine x_iload_n dX7_writesString_36 rfl ?_
  refine t_cvV cvX7_85_X7 dX7_writesString_37 (c_X7_isOff _ _ _ _ _ _ _ f k hf h4) rfl ?_
  refine x_if_eq 50 dX7_writesString_40 (by decide) (fun c40 => ?_) (fun c40 => ?_)
  · rw [if_neg (flI_0.mp c40)]
    refine x_iload_n dX7_writesString_50 rfl ?_
    refine x_if_ge 60 dX7_writesString_51 (by decide) (fun c51 => ?_) (fun c51 => ?_)
    · rw [if_neg (Int32.not_lt.mpr c51)]
      refine x_aload_n dX7_writesString_60 rfl ?_
      refine x_iload_n dX7_writesString_61 rfl ?_
      refine x_csV csX7_93 dX7_writesString_62 (c_X7_bare _ _ (hs S f (9 + k))) rfl ?_
      refine x_top hd.1 ?_
      refine t_cvN cvX7_441_X7 dX7_writesString_65 (c_X7_writesNumber _ _ _ _ _ _ _ _ (dvN S f k) hd.2 (by first | (show (spO q).1 + 1 + 1 + 1 + 3 ≤ 120; omega) | (show (spO q).1 + 1 + 1 + 3 ≤ 120; omega))) rfl ?_
      exact x_return dX7_writesString_68 rfl ⟨rfl, rfl⟩
    · rw [if_pos (Int32.not_le.mp c51)]
      refine x_aload_n dX7_writesString_54 rfl ?_
      refine x_bipush (v := 45) dX7_writesString_55 (by decide) ?_
      refine t_cvN cvX7_432_X7 dX7_writesString_57 (c_X7_writes _ _ _ _ _ _ _ _ 45 (by show (spO q).1 + 1 + 1 < 120; omega)) rfl ?_
      refine x_aload_n dX7_writesString_60 rfl ?_
      refine x_iload_n dX7_writesString_61 rfl ?_
      refine x_csV csX7_93 dX7_writesString_62 (c_X7_bare _ _ (hs S f (9 + k))) rfl ?_
      refine x_top hd.1 ?_
      refine t_cvN cvX7_441_X7 dX7_writesString_65 (c_X7_writesNumber _ _ _ _ _ _ _ _ (dvN S f k) hd.2 (by first | (show (spO q).1 + 1 + 1 + 1 + 3 ≤ 120; omega) | (show (spO q).1 + 1 + 1 + 3 ≤ 120; omega))) rfl ?_
      exact x_return dX7_writesString_68 rfl ⟨rfl, rfl⟩
  · rw [if_pos (flI_n.mp c40)]
    refine x_aload_n dX7_writesString_43 rfl ?_
    refine x_bipush (v := 120) dX7_writesString_44 (by decide) ?_
    refine t_cvN cvX7_432_X7 dX7_writesString_46 (c_X7_writes _ _ _ _ _ _ _ _ 120 (by show (spO q).1 + 1 + 1 < 120; omega)) rfl ?_
    exact x_return dX7_writesString_49 rfl ⟨rfl, rfl⟩
theorem c_X7_writeFiddler_1 (g : xG) (B : xA) (m : Nat) (F : Nat → Int32) (W : Int64) (S : Nat → Int32) (Z : Nat → Nat → Int32) (x : Int32) (hx : inI x 0 (S 13 - 1) = 0) : xC g iX7_writeFiddler 5 [.ref m, .int x] (tA B m F W S Z) (xRet (some (.int 0)) (tA B m (upd F 6 1) W S Z)) := by
  show xW g _ _ 0 [some (.ref m), some (.int x), none] [] _ _
  refine x_aload_n dX7_writeFiddler_0 rfl ?_
  refine x_iconst (v := 0) dX7_writeFiddler_1 rfl ?_
  refine t_put fpX7_72_6 dX7_writeFiddler_2 (by decide) ⟨rfl, rfl⟩ ?_
  refine x_aload_n dX7_writeFiddler_5 rfl ?_
  refine x_iload_n dX7_writeFiddler_6 rfl ?_
  refine t_cvV cvX7_383_X7 dX7_writeFiddler_7 (c_X7_noFiddler_1 _ _ _ _ _ _ _ x rfl hx) rfl ?_
  refine x_if_eqF dX7_writeFiddler_10 15 (by decide) (by decide) ?_
  refine x_iconst (v := 0) dX7_writeFiddler_13 rfl ?_
  exact x_ireturn dX7_writeFiddler_14 rfl (by first | rfl | exact ite_nar | exact itn_nar) ⟨rfl, by rw [upd_upd]⟩
theorem wf_o {g : xG} {B : xA} {m : Nat} {F : Nat → Int32} {W : Int64} {S : Nat → Int32} {Z : Nat → Nat → Int32} {Q : Outcome → xA → Prop} (f k : Nat) (q : tO) (hf : f < 10) (h4 : k < 4) (hD : dOk S) (h : q.1 + 7 ≤ 120) (kont : xW g iX7_writeFiddler 5 22 [some (.ref m), some (.int (nI f)), some (.int (nI (k + 1)))] [] (tA B m (upd F 31 (nI (wsO S f k q).1)) W S (zup Z 30 (wsO S f k q).2)) Q) : xW g iX7_writeFiddler 5 22 [some (.ref m), some (.int (nI f)), some (.int (nI k))] [] (tA B m (upd F 31 (nI (q).1)) W S (zup Z 30 (q).2)) Q := by
  refine x_iload_n dX7_writeFiddler_22 rfl ?_
  refine x_iconst (v := 4) dX7_writeFiddler_23 rfl ?_
  refine x_icmp_geF dX7_writeFiddler_24 39 (by decide) (nI_ge (a := k) (b := 4) h4 (by omega)) ?_
  refine x_aload_n dX7_writeFiddler_27 rfl ?_
  refine x_iload_n dX7_writeFiddler_28 rfl ?_
  refine x_iload_n dX7_writeFiddler_29 rfl ?_
  refine t_cvN cvX7_444_X7 dX7_writeFiddler_30 (c_X7_writesString _ _ _ _ _ _ _ q f k hf h4 hD h) rfl ?_
  refine x_iinc (v := nI (k + 1)) dX7_writeFiddler_33 rfl (nI_1 _) (by decide) rfl ?_
  refine x_goto (tgt := 22) dX7_writeFiddler_36 (by decide) ?_
  exact kont
theorem c_X7_writeFiddler_ok (g : xG) (B : xA) (m : Nat) (F : Nat → Int32) (W : Int64) (S : Nat → Int32) (Z : Nat → Nat → Int32) (f : Nat) (hk : tOk S) (hf : f < manyS S) (hD : dOk S) : xC g iX7_writeFiddler 5 [.ref m, .int (nI f)] (tA B m F W S Z) (xRet (some (.int (nI (wsO S f 3 (wsO S f 2 (wsO S f 1 (wsO S f 0 (0, Z 30))))).1))) (tA B m (upd (upd F 6 0) 31 (nI (wsO S f 3 (wsO S f 2 (wsO S f 1 (wsO S f 0 (0, Z 30))))).1)) W S (zup Z 30 (wsO S f 3 (wsO S f 2 (wsO S f 1 (wsO S f 0 (0, Z 30))))).2))) := by
  have f10 : f < 10 := by have := hk.1.2; omega
  have w0 := wsO_le S f 0 (0, Z 30)
  have w1 := wsO_le S f 1 (wsO S f 0 (0, Z 30))
  have w2 := wsO_le S f 2 (wsO S f 1 (wsO S f 0 (0, Z 30)))
  have z0 : ((0, Z 30) : tO).1 = 0 := rfl
  show xW g _ _ 0 [some (.ref m), some (.int (nI f)), none] [] _ _
  refine x_aload_n dX7_writeFiddler_0 rfl ?_
  refine x_iconst (v := 0) dX7_writeFiddler_1 rfl ?_
  refine t_put fpX7_72_6 dX7_writeFiddler_2 (by decide) ⟨rfl, rfl⟩ ?_
  refine x_aload_n dX7_writeFiddler_5 rfl ?_
  refine x_iload_n dX7_writeFiddler_6 rfl ?_
  refine t_cvV cvX7_383_X7 dX7_writeFiddler_7 (c_X7_noFiddler_0 _ _ _ _ _ _ _ f rfl hk hf) rfl ?_
  refine x_if_eqT (tgt := 15) dX7_writeFiddler_10 (by decide) (by decide) ?_
  refine x_aload_n dX7_writeFiddler_15 rfl ?_
  refine x_iconst (v := 0) dX7_writeFiddler_16 rfl ?_
  refine t_put fpX7_429_6 dX7_writeFiddler_17 (by decide) ⟨rfl, rfl⟩ ?_
  refine x_iconst (v := 0) dX7_writeFiddler_20 rfl ?_
  refine x_istore_n dX7_writeFiddler_21 (by decide) rfl ?_
  rw [show tA B m (upd (upd F 6 0) 31 0) W S Z = tA B m (upd (upd F 6 0) 31 (nI ((0, Z 30) : tO).1)) W S (zup Z 30 ((0, Z 30) : tO).2) by rw [show ((0, Z 30) : tO).2 = Z 30 from rfl, zup_id]; rfl]
  refine wf_o f 0 (0, Z 30) f10 (by omega) hD (by omega) ?_
  refine wf_o f 1 _ f10 (by omega) hD (by omega) ?_
  refine wf_o f 2 _ f10 (by omega) hD (by omega) ?_
  refine wf_o f 3 _ f10 (by omega) hD (by omega) ?_
  refine x_iload_n dX7_writeFiddler_22 rfl ?_
  refine x_iconst (v := 4) dX7_writeFiddler_23 rfl ?_
  refine x_icmp_geT (tgt := 39) dX7_writeFiddler_24 (by decide) (nI_le (a := 4) (b := 4) (by omega) (by omega)) ?_
  refine x_aload_n dX7_writeFiddler_39 rfl ?_
  refine t_get fgX7_429_6 dX7_writeFiddler_40 rfl ?_
  exact x_ireturn dX7_writeFiddler_43 rfl (by first | rfl | exact ite_nar | exact itn_nar) ⟨rfl, rfl⟩
theorem c_X7_inTuneShare (g : xG) (B : xA) (m : Nat) (F : Nat → Int32) (W : Int64) (S : Nat → Int32) (Z : Nat → Nat → Int32) (hk : tOk S) (hn : vf_n32 (FP.fdiv (FP.i2f (itS (manyS S) S)) (FP.i2f (S 13)))) : xC g iX7_inTuneShare 3 [.ref m] (tA B m F W S Z) (xRet (some (.float (FP.fdiv (FP.i2f (itS (manyS S) S)) (FP.i2f (S 13))))) (tA B m (upd F 6 0) W S Z)) := by
  show xW g _ _ 0 [some (.ref m)] [] _ _
  refine x_aload_n dX7_inTuneShare_0 rfl ?_
  refine x_iconst (v := 0) dX7_inTuneShare_1 rfl ?_
  refine t_put fpX7_72_6 dX7_inTuneShare_2 (by decide) ⟨rfl, rfl⟩ ?_
  refine x_aload_n dX7_inTuneShare_5 rfl ?_
  refine t_cvV cvX7_117_X7 dX7_inTuneShare_6 (c_X7_inTune _ _ _ _ _ _ _ hk) rfl ?_
  refine x_i2f dX7_inTuneShare_9 ?_
  refine x_aload_n dX7_inTuneShare_10 rfl ?_
  refine t_get fgX7_7_6 dX7_inTuneShare_11 rfl ?_
  refine x_bipush (v := 13) dX7_inTuneShare_14 (by decide) ?_
  refine t_aldS 13 dX7_inTuneShare_16 rfl (by decide) ?_
  refine x_i2f dX7_inTuneShare_17 ?_
  refine x_fdiv dX7_inTuneShare_18 hn ?_
  exact x_freturn dX7_inTuneShare_19 rfl ⟨rfl, rfl⟩
theorem c_X7_meanDeviation_n (g : xG) (B : xA) (m : Nat) (F : Nat → Int32) (W : Int64) (S : Nat → Int32) (Z : Nat → Nat → Int32) (hk : tOk S) (hn : ¬ (mdS S (4 * manyS S)).1 = 0) (hv : vf_n64 (FP.ddiv (FP.i2d (mdS S (4 * manyS S)).2) (FP.i2d (nI (mdS S (4 * manyS S)).1)))) : xC g iX7_meanDeviation 4 [.ref m] (tA B m F W S Z) (xRet (some (.double (FP.ddiv (FP.i2d (mdS S (4 * manyS S)).2) (FP.i2d (nI (mdS S (4 * manyS S)).1))))) (tA B m (upd F 6 0) W S Z)) := by
  show xW g _ _ 0 [some (.ref m), none, none, none] [] _ _
  refine x_aload_n dX7_meanDeviation_0 rfl ?_
  refine x_iconst (v := 0) dX7_meanDeviation_1 rfl ?_
  refine t_put fpX7_72_6 dX7_meanDeviation_2 (by decide) ⟨rfl, rfl⟩ ?_
  refine x_iconst (v := 0) dX7_meanDeviation_5 rfl ?_
  refine x_istore_n dX7_meanDeviation_6 (by decide) rfl ?_
  refine x_iconst (v := 0) dX7_meanDeviation_7 rfl ?_
  refine x_istore_n dX7_meanDeviation_8 (by decide) rfl ?_
  refine x_iconst (v := 0) dX7_meanDeviation_9 rfl ?_
  refine x_istore_n dX7_meanDeviation_10 (by decide) rfl ?_
  refine md_l hk ?_ (4 * manyS S) 0 (Nat.add_zero _)
  refine x_iload_n dX7_meanDeviation_65 rfl ?_
  refine x_if_neT (tgt := 73) dX7_meanDeviation_66 (by decide) (fun e => hn (nI_inj (by have := mdS_le S (4 * manyS S); have := hk.1.2; omega) (by omega) e)) ?_
  refine x_iload_n dX7_meanDeviation_73 rfl ?_
  refine x_i2d dX7_meanDeviation_74 ?_
  refine x_iload_n dX7_meanDeviation_75 rfl ?_
  refine x_i2d dX7_meanDeviation_76 ?_
  refine x_ddiv dX7_meanDeviation_77 hv ?_
  exact x_dreturn dX7_meanDeviation_78 rfl ⟨rfl, rfl⟩
