set_option maxRecDepth 100000
theorem le_l {g : xG} {A : xA} (x : Int32) : ∀ f y c, y < 32 ^ f → y < 2 ^ 31 → xW g iX7_lettersOf 0 4 [some (.int x), some (.int (nI c)), some (.int (nI y))] [] A (xRet (some (.int (nI (c + ltN f y)))) A) := by
  intro f
  induction f with
  | zero =>
    intro y c hy h31
    have e : y = 0 := by omega
    subst e
    rw [show c + ltN 0 0 = c from rfl]
    refine x_iload_n dX7_lettersOf_4 rfl ?_
    refine x_if_leT (tgt := 18) dX7_lettersOf_5 (by decide) (by decide) ?_
    refine x_iload_n dX7_lettersOf_18 rfl ?_
    exact x_ireturn dX7_lettersOf_19 rfl (by first | rfl | exact ite_nar | exact itn_nar) ⟨rfl, rfl⟩
  | succ f ih =>
    intro y c hy h31
    rw [show ltN (f + 1) y = if y = 0 then 0 else 1 + ltN f (y / 32) from rfl]
    refine x_iload_n dX7_lettersOf_4 rfl ?_
    refine x_if_le 18 dX7_lettersOf_5 (by decide) (fun c5 => ?_) (fun c5 => ?_)
    · have e : y = 0 := by rw [show (0 : Int32) = nI 0 from rfl, nI_leI h31 (by omega)] at c5; omega
      rw [if_pos e, Nat.add_zero]
      refine x_iload_n dX7_lettersOf_18 rfl ?_
      exact x_ireturn dX7_lettersOf_19 rfl (by first | rfl | exact ite_nar | exact itn_nar) ⟨rfl, rfl⟩
    · have e : ¬ y = 0 := fun k => c5 (by rw [k]; decide)
      rw [if_neg e]
      refine x_iinc (v := nI (c + 1)) dX7_lettersOf_8 rfl (nI_1 _) (by decide) rfl ?_
      refine x_iload_n dX7_lettersOf_11 rfl ?_
      refine x_iconst (v := 5) dX7_lettersOf_12 rfl ?_
      refine x_ishr dX7_lettersOf_13 ?_
      refine x_top (shr5 y h31) ?_
      refine x_istore_n dX7_lettersOf_14 (by decide) rfl ?_
      refine x_goto (tgt := 4) dX7_lettersOf_15 (by decide) ?_
      rw [show c + (1 + ltN f (y / 32)) = c + 1 + ltN f (y / 32) by omega]
      exact ih (y / 32) (c + 1) (by rw [Nat.pow_succ] at hy; omega) (by omega)
theorem c_X7_lettersOf (g : xG) (A : xA) (y : Nat) (h30 : y < 2 ^ 30) : xC g iX7_lettersOf 0 [.int (nI y)] A (xRet (some (.int (nI (ltN 6 y)))) A) := by
  show xW g _ _ 0 [some (.int (nI y)), none, none] [] _ _
  refine x_iconst (v := 0) dX7_lettersOf_0 rfl ?_
  refine x_istore_n dX7_lettersOf_1 (by decide) rfl ?_
  refine x_iload_n dX7_lettersOf_2 rfl ?_
  refine x_istore_n dX7_lettersOf_3 (by decide) rfl ?_
  have kk := le_l (g := g) (A := A) (nI y) 6 y 0 (by omega) (by omega)
  rw [Nat.zero_add] at kk
  exact kk
theorem c_X7_letterOf_no (g : xG) (A : xA) (y : Nat) (i : Int32) (h30 : y < 2 ^ 30) (hi : inI i 0 (nI (ltN 6 y) - 1) = 0) : xC g iX7_letterOf 1 [.int (nI y), .int i] A (xRet (some (.int (-1))) A) := by
  show xW g _ _ 0 [some (.int (nI y)), some (.int i), none] [] _ _
  refine x_iload_n dX7_letterOf_0 rfl ?_
  refine x_csV csX7_406 dX7_letterOf_1 (c_X7_lettersOf _ _ y h30) rfl ?_
  refine x_istore_n dX7_letterOf_4 (by decide) rfl ?_
  refine x_iload_n dX7_letterOf_5 rfl ?_
  refine x_i2l dX7_letterOf_6 ?_
  refine x_lconst (v := 0) dX7_letterOf_7 rfl ?_
  refine x_iload_n dX7_letterOf_8 rfl ?_
  refine x_iconst (v := 1) dX7_letterOf_9 rfl ?_
  refine x_isub dX7_letterOf_10 ?_
  refine x_i2l dX7_letterOf_11 ?_
  refine x_csV csX7_144 dX7_letterOf_12 (ci_0 _ _ i 0 (nI (ltN 6 y) - 1) _ _ _ rfl rfl rfl hi) rfl ?_
  refine x_if_eqT (tgt := 36) dX7_letterOf_15 (by decide) (by decide) ?_
  refine x_iconst (v := (-1)) dX7_letterOf_36 rfl ?_
  exact x_ireturn dX7_letterOf_37 rfl (by first | rfl | exact ite_nar | exact itn_nar) ⟨rfl, rfl⟩
theorem c_X7_letterOf_ok (g : xG) (A : xA) (y j : Nat) (h30 : y < 2 ^ 30) (hj : j < ltN 6 y) : xC g iX7_letterOf 1 [.int (nI y), .int (nI j)] A (xRet (some (.int (nI (ltD y j)))) A) := by
  have h6 := ltN_le 6 y
  show xW g _ _ 0 [some (.int (nI y)), some (.int (nI j)), none] [] _ _
  refine x_iload_n dX7_letterOf_0 rfl ?_
  refine x_csV csX7_406 dX7_letterOf_1 (c_X7_lettersOf _ _ y h30) rfl ?_
  refine x_istore_n dX7_letterOf_4 (by decide) rfl ?_
  refine x_iload_n dX7_letterOf_5 rfl ?_
  refine x_i2l dX7_letterOf_6 ?_
  refine x_lconst (v := 0) dX7_letterOf_7 rfl ?_
  refine x_iload_n dX7_letterOf_8 rfl ?_
  refine x_iconst (v := 1) dX7_letterOf_9 rfl ?_
  refine x_isub dX7_letterOf_10 ?_
  refine x_i2l dX7_letterOf_11 ?_
  refine x_csV csX7_144 dX7_letterOf_12 (ci_1 _ _ (nI j) 0 (nI (ltN 6 y) - 1) _ _ _ rfl rfl rfl (in_ix hj (by omega))) rfl ?_
  refine x_if_eqF dX7_letterOf_15 36 (by decide) (by decide) ?_
  refine x_iload_n dX7_letterOf_18 rfl ?_
  refine x_iconst (v := 5) dX7_letterOf_19 rfl ?_
  refine x_iload_n dX7_letterOf_20 rfl ?_
  refine x_iconst (v := 1) dX7_letterOf_21 rfl ?_
  refine x_isub dX7_letterOf_22 ?_
  refine x_top (show nI (ltN 6 y) - nI 1 = nI (ltN 6 y - 1) from pk_sub (by omega)) ?_
  refine x_iload_n dX7_letterOf_23 rfl ?_
  refine x_isub dX7_letterOf_24 ?_
  refine x_top (show nI (ltN 6 y - 1) - nI j = nI (ltN 6 y - 1 - j) from pk_sub (by omega)) ?_
  refine x_imul dX7_letterOf_25 ?_
  refine x_top (y := nI (5 * (ltN 6 y - 1 - j))) (pk_mul 5 _) ?_
  refine x_ishr dX7_letterOf_26 ?_
  refine x_bipush (v := 31) dX7_letterOf_27 (by decide) ?_
  refine x_iand dX7_letterOf_29 ?_
  refine x_top (letD (x := y) (j := j) (by omega) (by omega)) ?_
  refine x_bipush (v := 96) dX7_letterOf_30 (by decide) ?_
  refine x_iadd dX7_letterOf_32 ?_
  refine x_top (y := nI (y / 2 ^ (5 * (ltN 6 y - 1 - j)) % 32 + 96)) (nI_add (y / 2 ^ (5 * (ltN 6 y - 1 - j)) % 32) 96) ?_
  refine x_goto (tgt := 37) dX7_letterOf_33 (by decide) ?_
  exact x_ireturn dX7_letterOf_37 rfl (by first | rfl | exact ite_nar | exact itn_nar) ⟨rfl, rfl⟩
theorem c_X7_nameLetter_1 (g : xG) (B : xA) (m : Nat) (F : Nat → Int32) (W : Int64) (S : Nat → Int32) (Z : Nat → Nat → Int32) (x i : Int32) (hx : inI x 0 (S 13 - 1) = 0) : xC g iX7_nameLetter 4 [.ref m, .int x, .int i] (tA B m F W S Z) (xRet (some (.int 0)) (tA B m (upd F 6 1) W S Z)) := by
  show xW g _ _ 0 [some (.ref m), some (.int x), some (.int i)] [] _ _
  refine x_aload_n dX7_nameLetter_0 rfl ?_
  refine x_iconst (v := 0) dX7_nameLetter_1 rfl ?_
  refine t_put fpX7_72_6 dX7_nameLetter_2 (by decide) ⟨rfl, rfl⟩ ?_
  refine x_aload_n dX7_nameLetter_5 rfl ?_
  refine x_iload_n dX7_nameLetter_6 rfl ?_
  refine t_cvV cvX7_383_X7 dX7_nameLetter_7 (c_X7_noFiddler_1 _ _ _ _ _ _ _ x rfl hx) rfl ?_
  refine x_if_eqF dX7_nameLetter_10 17 (by decide) (by decide) ?_
  refine x_iconst (v := 0) dX7_nameLetter_13 rfl ?_
  refine x_goto (tgt := 27) dX7_nameLetter_14 (by decide) ?_
  exact x_ireturn dX7_nameLetter_27 rfl (by first | rfl | exact ite_nar | exact itn_nar) ⟨rfl, by rw [upd_upd]⟩
theorem c_X7_nameLetter_no (g : xG) (B : xA) (m : Nat) (F : Nat → Int32) (W : Int64) (S : Nat → Int32) (Z : Nat → Nat → Int32) (f y : Nat) (i : Int32) (hk : tOk S) (hf : f < manyS S) (hn : hs S f 0 = nI y) (h30 : y < 2 ^ 30) (hi : inI i 0 (nI (ltN 6 y) - 1) = 0) : xC g iX7_nameLetter 4 [.ref m, .int (nI f), .int i] (tA B m F W S Z) (xRet (some (.int (-1))) (tA B m (upd F 6 0) W S Z)) := by
  have f10 : f < 10 := by have := hk.1.2; omega
  show xW g _ _ 0 [some (.ref m), some (.int (nI f)), some (.int i)] [] _ _
  refine x_aload_n dX7_nameLetter_0 rfl ?_
  refine x_iconst (v := 0) dX7_nameLetter_1 rfl ?_
  refine t_put fpX7_72_6 dX7_nameLetter_2 (by decide) ⟨rfl, rfl⟩ ?_
  refine x_aload_n dX7_nameLetter_5 rfl ?_
  refine x_iload_n dX7_nameLetter_6 rfl ?_
  refine t_cvV cvX7_383_X7 dX7_nameLetter_7 (c_X7_noFiddler_0 _ _ _ _ _ _ _ f rfl hk hf) rfl ?_
  refine x_if_eqT (tgt := 17) dX7_nameLetter_10 (by decide) (by decide) ?_
  refine x_aload_n dX7_nameLetter_17 rfl ?_
  refine x_iload_n dX7_nameLetter_18 rfl ?_
  refine x_iconst (v := 0) dX7_nameLetter_19 rfl ?_
  refine t_cvV cvX7_75_X7 dX7_nameLetter_20 (c_X7_has _ _ _ _ _ _ _ f 0 f10 (by omega)) rfl ?_
  refine x_top hn ?_
  refine x_iload_n dX7_nameLetter_23 rfl ?_
  refine x_csV csX7_409 dX7_nameLetter_24 (c_X7_letterOf_no _ _ y i h30 hi) rfl ?_
  exact x_ireturn dX7_nameLetter_27 rfl (by first | rfl | exact ite_nar | exact itn_nar) ⟨rfl, rfl⟩
theorem c_X7_nameLetter_ok (g : xG) (B : xA) (m : Nat) (F : Nat → Int32) (W : Int64) (S : Nat → Int32) (Z : Nat → Nat → Int32) (f y j : Nat) (hk : tOk S) (hf : f < manyS S) (hn : hs S f 0 = nI y) (h30 : y < 2 ^ 30) (hj : j < ltN 6 y) : xC g iX7_nameLetter 4 [.ref m, .int (nI f), .int (nI j)] (tA B m F W S Z) (xRet (some (.int (nI (ltD y j)))) (tA B m (upd F 6 0) W S Z)) := by
  have f10 : f < 10 := by have := hk.1.2; omega
  show xW g _ _ 0 [some (.ref m), some (.int (nI f)), some (.int (nI j))] [] _ _
  refine x_aload_n dX7_nameLetter_0 rfl ?_
  refine x_iconst (v := 0) dX7_nameLetter_1 rfl ?_
  refine t_put fpX7_72_6 dX7_nameLetter_2 (by decide) ⟨rfl, rfl⟩ ?_
  refine x_aload_n dX7_nameLetter_5 rfl ?_
  refine x_iload_n dX7_nameLetter_6 rfl ?_
  refine t_cvV cvX7_383_X7 dX7_nameLetter_7 (c_X7_noFiddler_0 _ _ _ _ _ _ _ f rfl hk hf) rfl ?_
  refine x_if_eqT (tgt := 17) dX7_nameLetter_10 (by decide) (by decide) ?_
  refine x_aload_n dX7_nameLetter_17 rfl ?_
  refine x_iload_n dX7_nameLetter_18 rfl ?_
  refine x_iconst (v := 0) dX7_nameLetter_19 rfl ?_
  refine t_cvV cvX7_75_X7 dX7_nameLetter_20 (c_X7_has _ _ _ _ _ _ _ f 0 f10 (by omega)) rfl ?_
  refine x_top hn ?_
  refine x_iload_n dX7_nameLetter_23 rfl ?_
  refine x_csV csX7_409 dX7_nameLetter_24 (c_X7_letterOf_ok _ _ y j h30 hj) rfl ?_
  exact x_ireturn dX7_nameLetter_27 rfl (by first | rfl | exact ite_nar | exact itn_nar) ⟨rfl, rfl⟩
theorem c_X7_writes (g : xG) (B : xA) (m : Nat) (F : Nat → Int32) (W : Int64) (S : Nat → Int32) (Z : Nat → Nat → Int32) (q : tO) (c : Int32) (h : q.1 < 120) : xC g iX7_writes 0 [.ref m, .int c] (tA B m (upd F 31 (nI (q).1)) W S (zup Z 30 (q).2)) (xRet none (tA B m (upd F 31 (nI (wrO c q).1)) W S (zup Z 30 (wrO c q).2))) := by
  show xW g _ _ 0 [some (.ref m), some (.int c)] [] _ _
  refine x_aload_n dX7_writes_0 rfl ?_
  refine t_get fgX7_58_6 dX7_writes_1 rfl ?_
  refine x_aload_n dX7_writes_4 rfl ?_
  refine t_get fgX7_429_6 dX7_writes_5 rfl ?_
  refine x_top (show _ = nI q.1 from rfl) ?_
  refine x_iload_n dX7_writes_8 rfl ?_
  refine t_astZ tz30 q.1 dX7_writes_9 rfl h ?_
  refine x_aload_n dX7_writes_10 rfl ?_
  refine x_dup dX7_writes_11 rfl ?_
  refine t_get fgX7_429_6 dX7_writes_12 rfl ?_
  refine x_top (show _ = nI q.1 from rfl) ?_
  refine x_iconst (v := 1) dX7_writes_15 rfl ?_
  refine x_iadd dX7_writes_16 ?_
  refine x_top (y := nI (q.1 + 1)) (nI_add q.1 1) ?_
  refine t_put fpX7_429_6 dX7_writes_17 (by decide) ⟨rfl, rfl⟩ ?_
  exact x_return dX7_writes_20 rfl ⟨rfl, by rw [upd_upd, zuu]; rfl⟩
theorem c_X7_space (g : xG) (B : xA) (m : Nat) (F : Nat → Int32) (W : Int64) (S : Nat → Int32) (Z : Nat → Nat → Int32) (q : tO) (h : q.1 < 120) : xC g iX7_space 1 [.ref m] (tA B m (upd F 31 (nI (q).1)) W S (zup Z 30 (q).2)) (xRet none (tA B m (upd F 31 (nI (spO q).1)) W S (zup Z 30 (spO q).2))) := by
  show xW g _ _ 0 [some (.ref m)] [] _ _
  refine x_aload_n dX7_space_0 rfl ?_
  refine t_get fgX7_429_6 dX7_space_1 rfl ?_
  refine x_top (show _ = nI q.1 from rfl) ?_
  refine x_if_le 13 dX7_space_4 (by decide) (fun c4 => ?_) (fun c4 => ?_)
  · have e : q.1 = 0 := by rw [show (0 : Int32) = nI 0 from rfl, nI_leI (by omega) (by omega)] at c4; omega
    rw [show spO q = q from if_pos e]
    exact x_return dX7_space_13 rfl ⟨rfl, rfl⟩
  · have e : ¬ q.1 = 0 := fun k => c4 (by rw [k]; decide)
    rw [show spO q = wrO 32 q from if_neg e]
    refine x_aload_n dX7_space_7 rfl ?_
    refine x_bipush (v := 32) dX7_space_8 (by decide) ?_
    refine t_cvN cvX7_432_X7 dX7_space_10 (c_X7_writes _ _ _ _ _ _ _ q 32 h) rfl ?_
    exact x_return dX7_space_13 rfl ⟨rfl, rfl⟩
theorem wn_o {g : xG} {B : xA} {m : Nat} {F : Nat → Int32} {W : Int64} {S : Nat → Int32} {Z : Nat → Nat → Int32} {Q : Outcome → xA → Prop} (y : Nat) (h30 : y < 2 ^ 30) : ∀ f i (q : tO), f + i = ltN 6 y → q.1 + f ≤ 120 → xW g iX7_writesName 2 25 [some (.ref m), some (.int (nI y)), some (.int (nI (ltN 6 y)))] [] (tA B m (upd F 31 (nI (wnO y f i q).1)) W S (zup Z 30 (wnO y f i q).2)) Q → xW g iX7_writesName 2 2 [some (.ref m), some (.int (nI y)), some (.int (nI i))] [] (tA B m (upd F 31 (nI (q).1)) W S (zup Z 30 (q).2)) Q := by
  have h6 := ltN_le 6 y
  intro f
  induction f with
  | zero =>
    intro i q hi hq kk
    have e : i = ltN 6 y := by omega
    subst e
    refine x_iload_n dX7_writesName_2 rfl ?_
    refine x_iload_n dX7_writesName_3 rfl ?_
    refine x_csV csX7_406 dX7_writesName_4 (c_X7_lettersOf _ _ y h30) rfl ?_
    refine x_icmp_geT (tgt := 25) dX7_writesName_7 (by decide) (nI_le (Nat.le_refl _) (by omega)) ?_
    exact kk
  | succ f ih =>
    intro i q hi hq kk
    refine x_iload_n dX7_writesName_2 rfl ?_
    refine x_iload_n dX7_writesName_3 rfl ?_
    refine x_csV csX7_406 dX7_writesName_4 (c_X7_lettersOf _ _ y h30) rfl ?_
    refine x_icmp_geF dX7_writesName_7 25 (by decide) (nI_ge (by omega) (by omega)) ?_
    refine x_aload_n dX7_writesName_10 rfl ?_
    refine x_iload_n dX7_writesName_11 rfl ?_
    refine x_iload_n dX7_writesName_12 rfl ?_
    refine x_csV csX7_409 dX7_writesName_13 (c_X7_letterOf_ok _ _ y i h30 (by omega)) rfl ?_
    refine t_cvN cvX7_432_X7 dX7_writesName_16 (c_X7_writes _ _ _ _ _ _ _ q (nI (ltD y i)) (by omega)) rfl ?_
    refine x_iinc (v := nI (i + 1)) dX7_writesName_19 rfl (nI_1 _) (by decide) rfl ?_
    refine x_goto (tgt := 2) dX7_writesName_22 (by decide) ?_
    exact ih (i + 1) (wrO (nI (ltD y i)) q) (by omega) (by show q.1 + 1 + f ≤ 120; omega) kk
theorem c_X7_writesName (g : xG) (B : xA) (m : Nat) (F : Nat → Int32) (W : Int64) (S : Nat → Int32) (Z : Nat → Nat → Int32) (q : tO) (y : Nat) (h30 : y < 2 ^ 30) (h : q.1 + 6 ≤ 120) : xC g iX7_writesName 2 [.ref m, .int (nI y)] (tA B m (upd F 31 (nI (q).1)) W S (zup Z 30 (q).2)) (xRet none (tA B m (upd F 31 (nI (wnO y (ltN 6 y) 0 q).1)) W S (zup Z 30 (wnO y (ltN 6 y) 0 q).2))) := by
  have h6 := ltN_le 6 y
  show xW g _ _ 0 [some (.ref m), some (.int (nI y)), none] [] _ _
  refine x_iconst (v := 0) dX7_writesName_0 rfl ?_
  refine x_istore_n dX7_writesName_1 (by decide) rfl ?_
  refine wn_o y h30 (ltN 6 y) 0 q (Nat.add_zero _) (by omega) ?_
  exact x_return dX7_writesName_25 rfl ⟨rfl, rfl⟩
theorem c_X7_writesNumber_1 (g : xG) (B : xA) (m : Nat) (F : Nat → Int32) (W : Int64) (S : Nat → Int32) (Z : Nat → Nat → Int32) (q : tO) (y : Nat) (hy : y < 10) (h : q.1 + 3 ≤ 120) : xC g iX7_writesNumber 1 [.ref m, .int (nI y)] (tA B m (upd F 31 (nI (q).1)) W S (zup Z 30 (q).2)) (xRet none (tA B m (upd F 31 (nI (nuO y q).1)) W S (zup Z 30 (nuO y q).2))) := by
  show xW g _ _ 0 [some (.ref m), some (.int (nI y)), none] [] _ _
  refine x_iconst (v := 1) dX7_writesNumber_0 rfl ?_
  refine x_istore_n dX7_writesNumber_1 (by decide) rfl ?_
  refine x_iload_n dX7_writesNumber_2 rfl ?_
  refine x_iload_n dX7_writesNumber_3 rfl ?_
  refine x_idiv dX7_writesNumber_4 (by decide) ?_
  refine x_top (y := nI (y / 1)) (pk_div (a := y) (d := 1) (by omega) (by decide) (by decide)) ?_
  refine x_bipush (v := 9) dX7_writesNumber_5 (by decide) ?_
  refine x_icmp_leT (tgt := 18) dX7_writesNumber_7 (by decide) (nI_le (b := 9) (by omega) (by decide)) ?_
  refine x_iload_n dX7_writesNumber_18 rfl ?_
  refine x_if_leF dX7_writesNumber_19 43 (by decide) (by decide) ?_
  refine x_aload_n dX7_writesNumber_22 rfl ?_
  refine x_bipush (v := 48) dX7_writesNumber_23 (by decide) ?_
  refine x_iload_n dX7_writesNumber_25 rfl ?_
  refine x_iload_n dX7_writesNumber_26 rfl ?_
  refine x_idiv dX7_writesNumber_27 (by decide) ?_
  refine x_top (y := nI (y / 1)) (pk_div (a := y) (d := 1) (by omega) (by decide) (by decide)) ?_
  refine x_bipush (v := 10) dX7_writesNumber_28 (by decide) ?_
  refine x_irem dX7_writesNumber_30 (by decide) ?_
  refine x_top (y := nI (y / 1 % 10)) (pk_rem (a := y / 1) (d := 10) (by omega) (by decide) (by decide)) ?_
  refine x_iadd dX7_writesNumber_31 ?_
  refine x_top (y := nI (48 + y / 1 % 10)) (nI_add 48 (y / 1 % 10)) ?_
  refine t_cvN cvX7_432_X7 dX7_writesNumber_32 (c_X7_writes _ _ _ _ _ _ _ q (nI (48 + y / 1 % 10)) (by first | omega | (show _ + 1 < 120; omega) | (show _ + 1 + 1 < 120; omega))) rfl ?_
  refine x_iload_n dX7_writesNumber_35 rfl ?_
  refine x_bipush (v := 10) dX7_writesNumber_36 (by decide) ?_
  refine x_idiv dX7_writesNumber_38 (by decide) ?_
  refine x_top (show _ = nI 0 from by decide) ?_
  refine x_istore_n dX7_writesNumber_39 (by decide) rfl ?_
  refine x_goto (tgt := 18) dX7_writesNumber_40 (by decide) ?_
  refine x_iload_n dX7_writesNumber_18 rfl ?_
  refine x_if_leT (tgt := 43) dX7_writesNumber_19 (by decide) (by decide) ?_
  exact x_return dX7_writesNumber_43 rfl ⟨rfl, by rw [show nuO y q = _ from if_pos hy]⟩
theorem c_X7_writesNumber_2 (g : xG) (B : xA) (m : Nat) (F : Nat → Int32) (W : Int64) (S : Nat → Int32) (Z : Nat → Nat → Int32) (q : tO) (y : Nat) (hy : 10 ≤ y ∧ y < 100) (h : q.1 + 3 ≤ 120) : xC g iX7_writesNumber 1 [.ref m, .int (nI y)] (tA B m (upd F 31 (nI (q).1)) W S (zup Z 30 (q).2)) (xRet none (tA B m (upd F 31 (nI (nuO y q).1)) W S (zup Z 30 (nuO y q).2))) := by
  show xW g _ _ 0 [some (.ref m), some (.int (nI y)), none] [] _ _
  refine x_iconst (v := 1) dX7_writesNumber_0 rfl ?_
  refine x_istore_n dX7_writesNumber_1 (by decide) rfl ?_
  refine x_iload_n dX7_writesNumber_2 rfl ?_
  refine x_iload_n dX7_writesNumber_3 rfl ?_
  refine x_idiv dX7_writesNumber_4 (by decide) ?_
  refine x_top (y := nI (y / 1)) (pk_div (a := y) (d := 1) (by omega) (by decide) (by decide)) ?_
  refine x_bipush (v := 9) dX7_writesNumber_5 (by decide) ?_
  refine x_icmp_leF dX7_writesNumber_7 18 (by decide) (fun k => absurd ((nI_leI (b := 9) (by omega) (by decide)).mp k) (by omega)) ?_
  refine x_iload_n dX7_writesNumber_10 rfl ?_
  refine x_bipush (v := 10) dX7_writesNumber_11 (by decide) ?_
  refine x_imul dX7_writesNumber_13 ?_
  refine x_top (show _ = nI 10 from by decide) ?_
  refine x_istore_n dX7_writesNumber_14 (by decide) rfl ?_
  refine x_goto (tgt := 2) dX7_writesNumber_15 (by decide) ?_
  refine x_iload_n dX7_writesNumber_2 rfl ?_
  refine x_iload_n dX7_writesNumber_3 rfl ?_
  refine x_idiv dX7_writesNumber_4 (by decide) ?_
  refine x_top (y := nI (y / 10)) (pk_div (a := y) (d := 10) (by omega) (by decide) (by decide)) ?_
  refine x_bipush (v := 9) dX7_writesNumber_5 (by decide) ?_
  refine x_icmp_leT (tgt := 18) dX7_writesNumber_7 (by decide) (nI_le (b := 9) (by omega) (by decide)) ?_
  refine x_iload_n dX7_writesNumber_18 rfl ?_
  refine x_if_leF dX7_writesNumber_19 43 (by decide) (by decide) ?_
  refine x_aload_n dX7_writesNumber_22 rfl ?_
  refine x_bipush (v := 48) dX7_writesNumber_23 (by decide) ?_
  refine x_iload_n dX7_writesNumber_25 rfl ?_
  refine x_iload_n dX7_writesNumber_26 rfl ?_
  refine x_idiv dX7_writesNumber_27 (by decide) ?_
  refine x_top (y := nI (y / 10)) (pk_div (a := y) (d := 10) (by omega) (by decide) (by decide)) ?_
  refine x_bipush (v := 10) dX7_writesNumber_28 (by decide) ?_
  refine x_irem dX7_writesNumber_30 (by decide) ?_
  refine x_top (y := nI (y / 10 % 10)) (pk_rem (a := y / 10) (d := 10) (by omega) (by decide) (by decide)) ?_
  refine x_iadd dX7_writesNumber_31 ?_
  refine x_top (y := nI (48 + y / 10 % 10)) (nI_add 48 (y / 10 % 10)) ?_
  refine t_cvN cvX7_432_X7 dX7_writesNumber_32 (c_X7_writes _ _ _ _ _ _ _ q (nI (48 + y / 10 % 10)) (by first | omega | (show _ + 1 < 120; omega) | (show _ + 1 + 1 < 120; omega))) rfl ?_
  refine x_iload_n dX7_writesNumber_35 rfl ?_
  refine x_bipush (v := 10) dX7_writesNumber_36 (by decide) ?_
  refine x_idiv dX7_writesNumber_38 (by decide) ?_
  refine x_top (show _ = nI 1 from by decide) ?_
  refine x_istore_n dX7_writesNumber_39 (by decide) rfl ?_
  refine x_goto (tgt := 18) dX7_writesNumber_40 (by decide) ?_
  refine x_iload_n dX7_writesNumber_18 rfl ?_
  refine x_if_leF dX7_writesNumber_19 43 (by decide) (by decide) ?_
  refine x_aload_n dX7_writesNumber_22 rfl ?_
  refine x_bipush (v := 48) dX7_writesNumber_23 (by decide) ?_
  refine x_iload_n dX7_writesNumber_25 rfl ?_
  refine x_iload_n dX7_writesNumber_26 rfl ?_
  refine x_idiv dX7_writesNumber_27 (by decide) ?_
  refine x_top (y := nI (y / 1)) (pk_div (a := y) (d := 1) (by omega) (by decide) (by decide)) ?_
  refine x_bipush (v := 10) dX7_writesNumber_28 (by decide) ?_
  refine x_irem dX7_writesNumber_30 (by decide) ?_
  refine x_top (y := nI (y / 1 % 10)) (pk_rem (a := y / 1) (d := 10) (by omega) (by decide) (by decide)) ?_
  refine x_iadd dX7_writesNumber_31 ?_
  refine x_top (y := nI (48 + y / 1 % 10)) (nI_add 48 (y / 1 % 10)) ?_
  refine t_cvN cvX7_432_X7 dX7_writesNumber_32 (c_X7_writes _ _ _ _ _ _ _ (wrO (nI (48 + y / 10 % 10)) (q)) (nI (48 + y / 1 % 10)) (by first | omega | (show _ + 1 < 120; omega) | (show _ + 1 + 1 < 120; omega))) rfl ?_
  refine x_iload_n dX7_writesNumber_35 rfl ?_
  refine x_bipush (v := 10) dX7_writesNumber_36 (by decide) ?_
  refine x_idiv dX7_writesNumber_38 (by decide) ?_
  refine x_top (show _ = nI 0 from by decide) ?_
  refine x_istore_n dX7_writesNumber_39 (by decide) rfl ?_
  refine x_goto (tgt := 18) dX7_writesNumber_40 (by decide) ?_
  refine x_iload_n dX7_writesNumber_18 rfl ?_
  refine x_if_leT (tgt := 43) dX7_writesNumber_19 (by decide) (by decide) ?_
  exact x_return dX7_writesNumber_43 rfl ⟨rfl, by rw [show nuO y q = _ from (if_neg (by omega)).trans (if_pos hy.2)]⟩
theorem c_X7_writesNumber_3 (g : xG) (B : xA) (m : Nat) (F : Nat → Int32) (W : Int64) (S : Nat → Int32) (Z : Nat → Nat → Int32) (q : tO) (y : Nat) (hy : 100 ≤ y ∧ y < 1000) (h : q.1 + 3 ≤ 120) : xC g iX7_writesNumber 1 [.ref m, .int (nI y)] (tA B m (upd F 31 (nI (q).1)) W S (zup Z 30 (q).2)) (xRet none (tA B m (upd F 31 (nI (nuO y q).1)) W S (zup Z 30 (nuO y q).2))) := by
  show xW g _ _ 0 [some (.ref m), some (.int (nI y)), none] [] _ _
  refine x_iconst (v := 1) dX7_writesNumber_0 rfl ?_
  refine x_istore_n dX7_writesNumber_1 (by decide) rfl ?_
  refine x_iload_n dX7_writesNumber_2 rfl ?_
  refine x_iload_n dX7_writesNumber_3 rfl ?_
  refine x_idiv dX7_writesNumber_4 (by decide) ?_
  refine x_top (y := nI (y / 1)) (pk_div (a := y) (d := 1) (by omega) (by decide) (by decide)) ?_
  refine x_bipush (v := 9) dX7_writesNumber_5 (by decide) ?_
  refine x_icmp_leF dX7_writesNumber_7 18 (by decide) (fun k => absurd ((nI_leI (b := 9) (by omega) (by decide)).mp k) (by omega)) ?_
  refine x_iload_n dX7_writesNumber_10 rfl ?_
  refine x_bipush (v := 10) dX7_writesNumber_11 (by decide) ?_
  refine x_imul dX7_writesNumber_13 ?_
  refine x_top (show _ = nI 10 from by decide) ?_
  refine x_istore_n dX7_writesNumber_14 (by decide) rfl ?_
  refine x_goto (tgt := 2) dX7_writesNumber_15 (by decide) ?_
  refine x_iload_n dX7_writesNumber_2 rfl ?_
  refine x_iload_n dX7_writesNumber_3 rfl ?_
  refine x_idiv dX7_writesNumber_4 (by decide) ?_
  refine x_top (y := nI (y / 10)) (pk_div (a := y) (d := 10) (by omega) (by decide) (by decide)) ?_
  refine x_bipush (v := 9) dX7_writesNumber_5 (by decide) ?_
  refine x_icmp_leF dX7_writesNumber_7 18 (by decide) (fun k => absurd ((nI_leI (b := 9) (by omega) (by decide)).mp k) (by omega)) ?_
  refine x_iload_n dX7_writesNumber_10 rfl ?_
  refine x_bipush (v := 10) dX7_writesNumber_11 (by decide) ?_
  refine x_imul dX7_writesNumber_13 ?_
  refine x_top (show _ = nI 100 from by decide) ?_
  refine x_istore_n dX7_writesNumber_14 (by decide) rfl ?_
  refine x_goto (tgt := 2) dX7_writesNumber_15 (by decide) ?_
  refine x_iload_n dX7_writesNumber_2 rfl ?_
  refine x_iload_n dX7_writesNumber_3 rfl ?_
  refine x_idiv dX7_writesNumber_4 (by decide) ?_
  refine x_top (y := nI (y / 100)) (pk_div (a := y) (d := 100) (by omega) (by decide) (by decide)) ?_
  refine x_bipush (v := 9) dX7_writesNumber_5 (by decide) ?_
  refine x_icmp_leT (tgt := 18) dX7_writesNumber_7 (by decide) (nI_le (b := 9) (by omega) (by decide)) ?_
  refine x_iload_n dX7_writesNumber_18 rfl ?_
  refine x_if_leF dX7_writesNumber_19 43 (by decide) (by decide) ?_
  refine x_aload_n dX7_writesNumber_22 rfl ?_
  refine x_bipush (v := 48) dX7_writesNumber_23 (by decide) ?_
  refine x_iload_n dX7_writesNumber_25 rfl ?_
  refine x_iload_n dX7_writesNumber_26 rfl ?_
  refine x_idiv dX7_writesNumber_27 (by decide) ?_
  refine x_top (y := nI (y / 100)) (pk_div (a := y) (d := 100) (by omega) (by decide) (by decide)) ?_
  refine x_bipush (v := 10) dX7_writesNumber_28 (by decide) ?_
  refine x_irem dX7_writesNumber_30 (by decide) ?_
  refine x_top (y := nI (y / 100 % 10)) (pk_rem (a := y / 100) (d := 10) (by omega) (by decide) (by decide)) ?_
  refine x_iadd dX7_writesNumber_31 ?_
  refine x_top (y := nI (48 + y / 100 % 10)) (nI_add 48 (y / 100 % 10)) ?_
  refine t_cvN cvX7_432_X7 dX7_writesNumber_32 (c_X7_writes _ _ _ _ _ _ _ q (nI (48 + y / 100 % 10)) (by first | omega | (show _ + 1 < 120; omega) | (show _ + 1 + 1 < 120; omega))) rfl ?_
  refine x_iload_n dX7_writesNumber_35 rfl ?_
  refine x_bipush (v := 10) dX7_writesNumber_36 (by decide) ?_
  refine x_idiv dX7_writesNumber_38 (by decide) ?_
  refine x_top (show _ = nI 10 from by decide) ?_
  refine x_istore_n dX7_writesNumber_39 (by decide) rfl ?_
  refine x_goto (tgt := 18) dX7_writesNumber_40 (by decide) ?_
  refine x_iload_n dX7_writesNumber_18 rfl ?_
  refine x_if_leF dX7_writesNumber_19 43 (by decide) (by decide) ?_
  refine x_aload_n dX7_writesNumber_22 rfl ?_
  refine x_bipush (v := 48) dX7_writesNumber_23 (by decide) ?_
  refine x_iload_n dX7_writesNumber_25 rfl ?_
  refine x_iload_n dX7_writesNumber_26 rfl ?_
  refine x_idiv dX7_writesNumber_27 (by decide) ?_
  refine x_top (y := nI (y / 10)) (pk_div (a := y) (d := 10) (by omega) (by decide) (by decide)) ?_
  refine x_bipush (v := 10) dX7_writesNumber_28 (by decide) ?_
  refine x_irem dX7_writesNumber_30 (by decide) ?_
  refine x_top (y := nI (y / 10 % 10)) (pk_rem (a := y / 10) (d := 10) (by omega) (by decide) (by decide)) ?_
  refine x_iadd dX7_writesNumber_31 ?_
  refine x_top (y := nI (48 + y / 10 % 10)) (nI_add 48 (y / 10 % 10)) ?_
  refine t_cvN cvX7_432_X7 dX7_writesNumber_32 (c_X7_writes _ _ _ _ _ _ _ (wrO (nI (48 + y / 100 % 10)) (q)) (nI (48 + y / 10 % 10)) (by first | omega | (show _ + 1 < 120; omega) | (show _ + 1 + 1 < 120; omega))) rfl ?_
  refine x_iload_n dX7_writesNumber_35 rfl ?_
  refine x_bipush (v := 10) dX7_writesNumber_36 (by decide) ?_
  refine x_idiv dX7_writesNumber_38 (by decide) ?_
  refine x_top (show _ = nI 1 from by decide) ?_
  refine x_istore_n dX7_writesNumber_39 (by decide) rfl ?_
  refine x_goto (tgt := 18) dX7_writesNumber_40 (by decide) ?_
  refine x_iload_n dX7_writesNumber_18 rfl ?_
  refine x_if_leF dX7_writesNumber_19 43 (by decide) (by decide) ?_
  refine x_aload_n dX7_writesNumber_22 rfl ?_
  refine x_bipush (v := 48) dX7_writesNumber_23 (by decide) ?_
  refine x_iload_n dX7_writesNumber_25 rfl ?_
  refine x_iload_n dX7_writesNumber_26 rfl ?_
  refine x_idiv dX7_writesNumber_27 (by decide) ?_
  refine x_top (y := nI (y / 1)) (pk_div (a := y) (d := 1) (by omega) (by decide) (by decide)) ?_
  refine x_bipush (v := 10) dX7_writesNumber_28 (by decide) ?_
  refine x_irem dX7_writesNumber_30 (by decide) ?_
  refine x_top (y := nI (y / 1 % 10)) (pk_rem (a := y / 1) (d := 10) (by omega) (by decide) (by decide)) ?_
  refine x_iadd dX7_writesNumber_31 ?_
  refine x_top (y := nI (48 + y / 1 % 10)) (nI_add 48 (y / 1 % 10)) ?_
  refine t_cvN cvX7_432_X7 dX7_writesNumber_32 (c_X7_writes _ _ _ _ _ _ _ (wrO (nI (48 + y / 10 % 10)) (wrO (nI (48 + y / 100 % 10)) (q))) (nI (48 + y / 1 % 10)) (by first | omega | (show _ + 1 < 120; omega) | (show _ + 1 + 1 < 120; omega))) rfl ?_
  refine x_iload_n dX7_writesNumber_35 rfl ?_
  refine x_bipush (v := 10) dX7_writesNumber_36 (by decide) ?_
  refine x_idiv dX7_writesNumber_38 (by decide) ?_
  refine x_top (show _ = nI 0 from by decide) ?_
  refine x_istore_n dX7_writesNumber_39 (by decide) rfl ?_
  refine x_goto (tgt := 18) dX7_writesNumber_40 (by decide) ?_
  refine x_iload_n dX7_writesNumber_18 rfl ?_
  refine x_if_leT (tgt := 43) dX7_writesNumber_19 (by decide) (by decide) ?_
  exact x_return dX7_writesNumber_43 rfl ⟨rfl, by rw [show nuO y q = _ from (if_neg (by omega)).trans (if_neg (by omega))]⟩
theorem c_X7_writesNumber (g : xG) (B : xA) (m : Nat) (F : Nat → Int32) (W : Int64) (S : Nat → Int32) (Z : Nat → Nat → Int32) (q : tO) (y : Nat) (hy : y ≤ 999) (h : q.1 + 3 ≤ 120) : xC g iX7_writesNumber 1 [.ref m, .int (nI y)] (tA B m (upd F 31 (nI (q).1)) W S (zup Z 30 (q).2)) (xRet none (tA B m (upd F 31 (nI (nuO y q).1)) W S (zup Z 30 (nuO y q).2))) := by
  by_cases h1 : y < 10
  · exact c_X7_writesNumber_1 g B m F W S Z q y h1 h
  · by_cases h2 : y < 100
    · exact c_X7_writesNumber_2 g B m F W S Z q y ⟨by omega, h2⟩ h
    · exact c_X7_writesNumber_3 g B m F W S Z q y ⟨by omega, by omega⟩ h
