set_option maxRecDepth 100000
theorem txV_1 (a b : Nat → Int32) (i : Nat) : upd (txV i a b) i (a i) = txV (i + 1) a b := by
  funext j
  unfold upd txV
  split
  · rename_i h; rw [h, if_pos (by omega)]
  · split <;> first | rw [if_pos (by omega)] | rw [if_neg (by omega)]
theorem txV_0 (a b : Nat → Int32) : txV 0 a b = b := funext fun j => if_neg (by omega)
theorem tk_l {g : xG} {B : xA} {m : Nat} {F : Nat → Int32} {W : Int64} {S : Nat → Int32} {Z : Nat → Nat → Int32} {Q : Outcome → xA → Prop} {b : Nat → Int32} (n : Nat) (hb : F 12 = nI n) (hn : n ≤ 800) (kont : xW g iX7_takesText 0 28 [some (.ref m), some (.int (nI n))] [] (tA B m F W S (zup Z 11 (txV n (Z 10) b))) Q) : ∀ f i, f + i = n → xW g iX7_takesText 0 2 [some (.ref m), some (.int (nI i))] [] (tA B m F W S (zup Z 11 (txV i (Z 10) b))) Q := by
  intro f
  induction f with
  | zero =>
    intro i hi
    rw [show i = n by omega]
    refine x_iload_n dX7_takesText_2 rfl ?_
    refine x_aload_n dX7_takesText_3 rfl ?_
    refine t_get fgX7_130_6 dX7_takesText_4 rfl ?_
    refine x_top hb ?_
    refine x_icmp_geT (tgt := 28) dX7_takesText_7 (by decide) (nI_le (Nat.le_refl _) (by omega)) ?_
    exact kont
  | succ f ih =>
    intro i hi
    refine x_iload_n dX7_takesText_2 rfl ?_
    refine x_aload_n dX7_takesText_3 rfl ?_
    refine t_get fgX7_130_6 dX7_takesText_4 rfl ?_
    refine x_top hb ?_
    refine x_icmp_geF dX7_takesText_7 28 (by decide) (nI_ge (a := i) (b := n) (by omega) (by omega)) ?_
    refine x_aload_n dX7_takesText_10 rfl ?_
    refine t_get fgX7_45_6 dX7_takesText_11 rfl ?_
    refine x_iload_n dX7_takesText_14 rfl ?_
    refine x_aload_n dX7_takesText_15 rfl ?_
    refine t_get fgX7_42_6 dX7_takesText_16 rfl ?_
    refine x_iload_n dX7_takesText_19 rfl ?_
    refine t_aldZ tz10 i dX7_takesText_20 rfl (by omega) ?_
    refine t_astZ tz11 i dX7_takesText_21 rfl (by omega) ?_
    refine x_iinc (v := nI (i + 1)) dX7_takesText_22 rfl (nI_1 _) (by decide) rfl ?_
    refine x_goto (tgt := 2) dX7_takesText_25 (by decide) ?_
    rw [zuu, show zup Z 11 (txV i (Z 10) b) 10 = Z 10 from rfl, txV_1]
    exact ih (i + 1) (by omega)
theorem c_X7_takesText (g : xG) (B : xA) (m : Nat) (F : Nat → Int32) (W : Int64) (S : Nat → Int32) (Z : Nat → Nat → Int32) (n : Nat) (hb : F 12 = nI n) (hn : n ≤ 800) : xC g iX7_takesText 0 [.ref m] (tA B m F W S Z) (xRet none (tA B m (tkF F) W S (zup Z 11 (txV n (Z 10) (Z 11))))) := by
  show xW g _ _ 0 [some (.ref m), none] [] _ _
  refine x_iconst (v := 0) dX7_takesText_0 rfl ?_
  refine x_istore_n dX7_takesText_1 (by decide) rfl ?_
  rw [show tA B m F W S Z = tA B m F W S (zup Z 11 (txV 0 (Z 10) (Z 11))) by rw [txV_0, zup_id]]
  refine tk_l n hb hn ?_ n 0 (by omega)
  refine x_aload_n dX7_takesText_28 rfl ?_
  refine x_aload_n dX7_takesText_29 rfl ?_
  refine t_get fgX7_130_6 dX7_takesText_30 rfl ?_
  refine t_put fpX7_148_6 dX7_takesText_33 (by decide) ⟨rfl, rfl⟩ ?_
  refine x_aload_n dX7_takesText_36 rfl ?_
  refine x_iconst (v := 0) dX7_takesText_37 rfl ?_
  refine t_put fpX7_130_6 dX7_takesText_38 (by decide) ⟨rfl, rfl⟩ ?_
  exact x_return dX7_takesText_41 rfl ⟨rfl, rfl⟩
theorem ft_l1 {g : xG} {B : xA} {m : Nat} {Z : Nat → Nat → Int32} {Q : Outcome → xA → Prop} (a b : Int32) (f k : Nat) (r : tR) (h : TI r.1.1) (hf : f < 10) (hk : k < 4)
    (kont : xW g iX7_fiddlerText 6 84 [some (.ref m), some (.int a), some (.int b), some (.int (nI f)), some (.int (nI (k + 1)))] [] (tA B m (cdK (Z 11) f k r).1.1 (cdK (Z 11) f k r).1.2 (cdK (Z 11) f k r).2 Z) Q) : xW g iX7_fiddlerText 6 84 [some (.ref m), some (.int a), some (.int b), some (.int (nI f)), some (.int (nI (k)))] [] (tA B m (r).1.1 (r).1.2 (r).2 Z) Q := by
  refine x_iload dX7_fiddlerText_84 rfl ?_
  refine x_iconst (v := 4) dX7_fiddlerText_86 rfl ?_
  refine x_icmp_geF dX7_fiddlerText_87 118 (by decide) (nI_ge (a := k) (b := 4) hk (by omega)) ?_
  refine x_aload_n dX7_fiddlerText_90 rfl ?_
  refine t_get fgX7_7_6 dX7_fiddlerText_91 rfl ?_
  refine x_iload_n dX7_fiddlerText_94 rfl ?_
  refine x_bipush (v := 9) dX7_fiddlerText_95 (by decide) ?_
  refine x_iload dX7_fiddlerText_97 rfl ?_
  refine x_iadd dX7_fiddlerText_99 ?_
  refine x_top (y := nI (9 + k)) (nI_add 9 k) ?_
  refine x_csV csX7_65 dX7_fiddlerText_100 (c_X7_at _ _ f (9 + k)) rfl ?_
  refine x_aload_n dX7_fiddlerText_103 rfl ?_
  refine x_iconst (v := 0) dX7_fiddlerText_104 rfl ?_
  refine x_sipush (v := 200) dX7_fiddlerText_105 (by decide) ?_
  refine t_cvV cvX7_221_X7 dX7_fiddlerText_108 (c_X7_centsText _ _ _ _ _ _ _ _ _ (by apply_rules [TI.j, TI_sc, TI_mu, TI_go, TI_sg, TI_rdF, TI_rd, TI_cm0, TI_cm])) rfl ?_
  refine t_astS (70 + 21 * f + (9 + k)) dX7_fiddlerText_111 rfl (by omega) ?_
  refine x_iinc (v := nI (k + 1)) dX7_fiddlerText_112 rfl (nI_1 _) (by decide) rfl ?_
  refine x_goto (tgt := 84) dX7_fiddlerText_115 (by decide) ?_
  exact kont
theorem ft_l2 {g : xG} {B : xA} {m : Nat} {Z : Nat → Nat → Int32} {Q : Outcome → xA → Prop} (a b : Int32) (f k : Nat) (r : tR) (h : TI r.1.1) (hf : f < 10) (hk : k < 4)
    (kont : xW g iX7_fiddlerText 6 136 [some (.ref m), some (.int a), some (.int b), some (.int (nI f)), some (.int (nI (k + 1)))] [] (tA B m (gdK (Z 11) f k r).1.1 (gdK (Z 11) f k r).1.2 (gdK (Z 11) f k r).2 Z) Q) : xW g iX7_fiddlerText 6 136 [some (.ref m), some (.int a), some (.int b), some (.int (nI f)), some (.int (nI (k)))] [] (tA B m (r).1.1 (r).1.2 (r).2 Z) Q := by
  refine x_iload dX7_fiddlerText_136 rfl ?_
  refine x_iconst (v := 4) dX7_fiddlerText_138 rfl ?_
  refine x_icmp_geF dX7_fiddlerText_139 169 (by decide) (nI_ge (a := k) (b := 4) hk (by omega)) ?_
  refine x_aload_n dX7_fiddlerText_142 rfl ?_
  refine t_get fgX7_7_6 dX7_fiddlerText_143 rfl ?_
  refine x_iload_n dX7_fiddlerText_146 rfl ?_
  refine x_bipush (v := 17) dX7_fiddlerText_147 (by decide) ?_
  refine x_iload dX7_fiddlerText_149 rfl ?_
  refine x_iadd dX7_fiddlerText_151 ?_
  refine x_top (y := nI (17 + k)) (nI_add 17 k) ?_
  refine x_csV csX7_65 dX7_fiddlerText_152 (c_X7_at _ _ f (17 + k)) rfl ?_
  refine x_aload_n dX7_fiddlerText_155 rfl ?_
  refine x_iconst (v := 0) dX7_fiddlerText_156 rfl ?_
  refine x_bipush (v := 9) dX7_fiddlerText_157 (by decide) ?_
  refine t_cvV cvX7_208_X7 dX7_fiddlerText_159 (c_X7_reads _ _ _ _ _ _ _ _ _ (by apply_rules [TI.j, TI_sc, TI_mu, TI_go, TI_sg, TI_rdF, TI_rd, TI_cm0, TI_cm])) rfl ?_
  refine t_astS (70 + 21 * f + (17 + k)) dX7_fiddlerText_162 rfl (by omega) ?_
  refine x_iinc (v := nI (k + 1)) dX7_fiddlerText_163 rfl (nI_1 _) (by decide) rfl ?_
  refine x_goto (tgt := 136) dX7_fiddlerText_166 (by decide) ?_
  exact kont
theorem ft_g {g : xG} {B : xA} {m : Nat} {Z : Nat → Nat → Int32} (a b : Int32) (f : Nat) (r : tR) (h : TI r.1.1) (hf : f < 10) : xW g iX7_fiddlerText 6 118 [some (.ref m), some (.int a), some (.int b), some (.int (nI f)), some (.int (nI (4)))] [] (tA B m (r).1.1 (r).1.2 (r).2 Z) (xRet none (tA B m (ftG (Z 11) f r).1.1 (ftG (Z 11) f r).1.2 (ftG (Z 11) f r).2 Z)) := by
  refine x_aload_n dX7_fiddlerText_118 rfl ?_
  refine x_ldc2 (v := 7939603) q3741 dX7_fiddlerText_119 ?_
  refine t_cvV cvX7_226_X7 dX7_fiddlerText_122 (c_X7_isWord _ _ _ _ _ _ _ _) rfl ?_
  refine x_if_ne 129 dX7_fiddlerText_125 (by decide) (fun c125 => ?_) (fun c125 => ?_)
  · have hi : ¬ iwI r.1 7939603 = 0 := c125
    refine x_aload_n dX7_fiddlerText_129 rfl ?_
    refine t_cvN cvX7_205_X7 dX7_fiddlerText_130 (c_X7_goesOn _ _ _ _ _ _ _  (by apply_rules [TI.j, TI_sc, TI_mu, TI_go, TI_sg, TI_rdF, TI_rd, TI_cm0, TI_cm])) rfl ?_
    refine x_iconst (v := 0) dX7_fiddlerText_133 rfl ?_
    refine x_istore dX7_fiddlerText_134 (by decide) rfl ?_
    have hG : ftG (Z 11) f r = _ := if_neg hi
    rw [hG]
    have hT : TI (goX (Z 11) r.1).1 := TI_go h
    change xW g _ _ 136 _ [] (tA B m (goX (Z 11) r.1, r.2).1.1 (goX (Z 11) r.1, r.2).1.2 (goX (Z 11) r.1, r.2).2 Z) _
    have h0 : TI (goX (Z 11) r.1, r.2).1.1 := hT
    generalize (goX (Z 11) r.1, r.2) = r0 at h0 ⊢
    refine ft_l2 a b f 0 r0 h0 hf (by omega) ?_
    have h1 := (stp_gdK (T := Z 11) (f := f) (k := 0) (r := r0)).1 h0
    generalize gdK (Z 11) f 0 r0 = r1 at h1 ⊢
    refine ft_l2 a b f 1 r1 h1 hf (by omega) ?_
    have h2 := (stp_gdK (T := Z 11) (f := f) (k := 1) (r := r1)).1 h1
    generalize gdK (Z 11) f 1 r1 = r2 at h2 ⊢
    refine ft_l2 a b f 2 r2 h2 hf (by omega) ?_
    have h3 := (stp_gdK (T := Z 11) (f := f) (k := 2) (r := r2)).1 h2
    generalize gdK (Z 11) f 2 r2 = r3 at h3 ⊢
    refine ft_l2 a b f 3 r3 h3 hf (by omega) ?_
    generalize gdK (Z 11) f 3 r3 = r4
    refine x_iload dX7_fiddlerText_136 rfl ?_
    refine x_iconst (v := 4) dX7_fiddlerText_138 rfl ?_
    refine x_icmp_geT (tgt := 169) dX7_fiddlerText_139 (by decide) (nI_le (a := 4) (b := 4) (by omega) (by omega)) ?_
    exact x_return dX7_fiddlerText_169 rfl ⟨rfl, rfl⟩
  · have hi : iwI r.1 7939603 = 0 := c125
    exact x_return dX7_fiddlerText_128 rfl ⟨rfl, by rw [show ftG (Z 11) f r = r from if_pos hi]⟩
theorem ft_b {g : xG} {B : xA} {m : Nat} {Z : Nat → Nat → Int32} (r : tR) (h : sOk r) (hm : r.1.1 18 = 0 → manyS r.2 < 10) : xW g iX7_fiddlerText 6 39 [some (.ref m), none, none, none, none] [] (tA B m (r).1.1 (r).1.2 (r).2 Z) (xRet none (tA B m (ftB (Z 11) r).1.1 (ftB (Z 11) r).1.2 (ftB (Z 11) r).2 Z)) := by
  have hq := (stp_go (T := Z 11) (r := r)).tr (stp_rd (T := Z 11) (lo := 0) (hi := 8) (r := (goX (Z 11) r.1, r.2)))
  have h1 := h.1
  refine x_aload_n dX7_fiddlerText_39 rfl ?_
  refine t_get fgX7_174_6 dX7_fiddlerText_40 rfl ?_
  refine x_l2i dX7_fiddlerText_43 ?_
  refine x_istore_n dX7_fiddlerText_44 (by decide) rfl ?_
  refine x_aload_n dX7_fiddlerText_45 rfl ?_
  refine t_cvN cvX7_205_X7 dX7_fiddlerText_46 (c_X7_goesOn _ _ _ _ _ _ _  (by apply_rules [TI.j, TI_sc, TI_mu, TI_go, TI_sg, TI_rdF, TI_rd, TI_cm0, TI_cm])) rfl ?_
  refine x_aload_n dX7_fiddlerText_49 rfl ?_
  refine x_iconst (v := 0) dX7_fiddlerText_50 rfl ?_
  refine x_bipush (v := 8) dX7_fiddlerText_51 (by decide) ?_
  refine t_cvV cvX7_208_X7 dX7_fiddlerText_53 (c_X7_reads _ _ _ _ _ _ _ _ _ (by apply_rules [TI.j, TI_sc, TI_mu, TI_go, TI_sg, TI_rdF, TI_rd, TI_cm0, TI_cm])) rfl ?_
  refine x_istore_n dX7_fiddlerText_56 (by decide) rfl ?_
  refine x_aload_n dX7_fiddlerText_57 rfl ?_
  refine t_cvV cvX7_215_X7 dX7_fiddlerText_58 (c_X7_isGood _ _ _ _ _ _ _ ) rfl ?_
  refine x_if_ne 65 dX7_fiddlerText_61 (by decide) (fun c61 => ?_) (fun c61 => ?_)
  · have h0 : (rdX (Z 11) 0 8 (goX (Z 11) r.1)).1 18 = 0 := flI_n.mp c61
    have hb := hq.2.1 h0
    have hmm := hm hb
    have hrr : rowS r.2 < 10 := by have := h.2.2; omega
    have hB : ftB (Z 11) r = _ := if_pos h0
    rw [hB]
    have hT : TI (rdX (Z 11) 0 8 (goX (Z 11) r.1)).1 := hq.1 h1
    change xW g _ _ 65 [some (.ref m), some (.int r.1.2.toInt32), some (.int (rdI (Z 11) 0 8 (goX (Z 11) r.1))), none, none] [] (tA B m (rdX (Z 11) 0 8 (goX (Z 11) r.1)).1 (rdX (Z 11) 0 8 (goX (Z 11) r.1)).2 r.2 Z) _
    clear hB
    revert hT
    generalize rdX (Z 11) 0 8 (goX (Z 11) r.1) = q
    generalize rdI (Z 11) 0 8 (goX (Z 11) r.1) = v
    intro hT
    refine x_aload_n dX7_fiddlerText_65 rfl ?_
    refine x_iload_n dX7_fiddlerText_66 rfl ?_
    refine x_iload_n dX7_fiddlerText_67 rfl ?_
    refine t_cvN cvX7_61_X7 dX7_fiddlerText_68 (c_X7_comes _ _ _ _ _ _ _ _ _ h.2.1.1.1 h.2.1.2.1.1 hmm hrr) rfl ?_
    refine x_aload_n dX7_fiddlerText_71 rfl ?_
    refine t_get fgX7_7_6 dX7_fiddlerText_72 rfl ?_
    refine x_bipush (v := 13) dX7_fiddlerText_75 (by decide) ?_
    refine t_aldS 13 dX7_fiddlerText_77 rfl (by decide) ?_
    refine x_iconst (v := 1) dX7_fiddlerText_78 rfl ?_
    refine x_isub dX7_fiddlerText_79 ?_
    refine x_top (show _ = nI (manyS r.2) by rw [comes_13, h.2.1.1.1, show nI (manyS r.2) + 1 - 1 = nI (manyS r.2) by rw [nI_1]; exact pk_sub (Nat.le_add_left 1 _)]) ?_
    refine x_istore_n dX7_fiddlerText_80 (by decide) rfl ?_
    refine x_iconst (v := 0) dX7_fiddlerText_81 rfl ?_
    refine x_istore dX7_fiddlerText_82 (by decide) rfl ?_
    change xW g _ _ 84 _ [] (tA B m (q, comesS r.2 r.1.2.toInt32 v).1.1 (q, comesS r.2 r.1.2.toInt32 v).1.2 (q, comesS r.2 r.1.2.toInt32 v).2 Z) _
    generalize comesS r.2 r.1.2.toInt32 v = S1
    have g0 : TI (q, S1).1.1 := hT
    unfold ftC
    generalize (q, S1) = r0 at g0 ⊢
    refine ft_l1 _ _ _ 0 r0 g0 hmm (by omega) ?_
    have g1 := (stp_cdK (T := Z 11) (f := manyS r.2) (k := 0) (r := r0)).1 g0
    generalize cdK (Z 11) (manyS r.2) 0 r0 = r1 at g1 ⊢
    refine ft_l1 _ _ _ 1 r1 g1 hmm (by omega) ?_
    have g2 := (stp_cdK (T := Z 11) (f := manyS r.2) (k := 1) (r := r1)).1 g1
    generalize cdK (Z 11) (manyS r.2) 1 r1 = r2 at g2 ⊢
    refine ft_l1 _ _ _ 2 r2 g2 hmm (by omega) ?_
    have g3 := (stp_cdK (T := Z 11) (f := manyS r.2) (k := 2) (r := r2)).1 g2
    generalize cdK (Z 11) (manyS r.2) 2 r2 = r3 at g3 ⊢
    refine ft_l1 _ _ _ 3 r3 g3 hmm (by omega) ?_
    have g4 := (stp_cdK (T := Z 11) (f := manyS r.2) (k := 3) (r := r3)).1 g3
    generalize cdK (Z 11) (manyS r.2) 3 r3 = r4 at g4 ⊢
    refine x_iload dX7_fiddlerText_84 rfl ?_
    refine x_iconst (v := 4) dX7_fiddlerText_86 rfl ?_
    refine x_icmp_geT (tgt := 118) dX7_fiddlerText_87 (by decide) (nI_le (a := 4) (b := 4) (by omega) (by omega)) ?_
    exact ft_g _ _ _ r4 g4 hmm
  · have h0 : ¬ (rdX (Z 11) 0 8 (goX (Z 11) r.1)).1 18 = 0 := flI_0.mp c61
    exact x_return dX7_fiddlerText_64 rfl ⟨rfl, by rw [show ftB (Z 11) r = _ from if_neg h0]⟩
theorem c_X7_fiddlerText (g : xG) (B : xA) (m : Nat) (F : Nat → Int32) (W : Int64) (S : Nat → Int32) (Z : Nat → Nat → Int32) (h : sOk ((F, W), S)) (hm : F 18 = 0 → manyS S < 10) : xC g iX7_fiddlerText 6 [.ref m] (tA B m F W S Z) (xRet none (tA B m (ftX (Z 11) ((F, W), S)).1.1 (ftX (Z 11) ((F, W), S)).1.2 (ftX (Z 11) ((F, W), S)).2 Z)) := by
  have hk : tOk S := h.2.1
  have h1 : stp ((F, W), S) ((ftF (F, W) S, W), S) := (stp_mu (z := nhI F) (c := 1) (r := ((F, W), S)) (by decide)).tr (stp_mu (r := ((muF F (nhI F) 1, W), S)) (by decide))
  have hs := (h1.ok h).1
  have hms : ftF (F, W) S 18 = 0 → manyS S < 10 := fun e => hm (h1.2.1 e)
  show xW g iX7_fiddlerText 6 0 [some (.ref m), none, none, none, none] [] (tA B m F W S Z) (xRet none (tA B m (ftX (Z 11) ((F, W), S)).1.1 (ftX (Z 11) ((F, W), S)).1.2 (ftX (Z 11) ((F, W), S)).2 Z))
  have hR : ftB (Z 11) ((ftF (F, W) S, W), S) = ftX (Z 11) ((F, W), S) := rfl
  generalize ftX (Z 11) ((F, W), S) = R at hR ⊢
  refine x_aload_n dX7_fiddlerText_0 rfl ?_
  refine x_aload_n dX7_fiddlerText_1 rfl ?_
  refine t_cvV cvX7_211_X7 dX7_fiddlerText_2 (c_X7_isNameHere _ _ _ _ _ _ _ ) rfl ?_
  refine x_iconst (v := 1) dX7_fiddlerText_5 rfl ?_
  refine t_cvN cvX7_201_X7 dX7_fiddlerText_6 (c_X7_must _ _ _ _ _ _ _ _ _) rfl ?_
  refine x_aload_n dX7_fiddlerText_9 rfl ?_
  refine x_aload_n dX7_fiddlerText_10 rfl ?_
  refine t_cvV cvX7_215_X7 dX7_fiddlerText_11 (c_X7_isGood _ _ _ _ _ _ _ ) rfl ?_
  refine x_if_eq 30 dX7_fiddlerText_14 (by decide) (fun c14 => ?_) (fun c14 => ?_)
  · have hbd : ¬ muF F (nhI F) 1 18 = 0 := flI_0.mp c14
    refine x_iconst (v := 1) dX7_fiddlerText_30 rfl ?_
    refine x_goto (tgt := 35) dX7_fiddlerText_31 (by decide) ?_
    refine x_iconst (v := 3) dX7_fiddlerText_35 rfl ?_
    refine t_cvN cvX7_201_X7 dX7_fiddlerText_36 (c_X7_must _ _ _ _ _ _ _ _ _) rfl ?_
    have ee : flI (¬ muF F (nhI F) 1 18 = 0 ∨ namS S W.toInt32 (manyS S) 0 = none) = 1 := if_pos (Or.inl hbd)
    have e : ftF (F, W) S = muF (muF F (nhI F) 1) 1 3 := congrArg (fun z => muF (muF F (nhI F) 1) z 3) ee
    have k := ft_b (g := g) (B := B) (m := m) (Z := Z) ((ftF (F, W) S, W), S) hs hms
    rw [hR] at k
    have k2 : xW g iX7_fiddlerText 6 39 [some (.ref m), none, none, none, none] [] (tA B m (ftF (F, W) S) W S Z) (xRet none (tA B m R.1.1 R.1.2 R.2 Z)) := k
    rw [e] at k2
    exact k2
  · have hbd : muF F (nhI F) 1 18 = 0 := flI_n.mp c14
    refine x_aload_n dX7_fiddlerText_17 rfl ?_
    refine x_aload_n dX7_fiddlerText_18 rfl ?_
    refine t_get fgX7_174_6 dX7_fiddlerText_19 rfl ?_
    refine x_l2i dX7_fiddlerText_22 ?_
    refine t_cvV cvX7_218_X7 dX7_fiddlerText_23 (c_X7_namedFiddler _ _ _ _ _ _ _ _ hk) rfl ?_
    refine x_iconst (v := (-1)) dX7_fiddlerText_26 rfl ?_
    refine x_diaN (vt := 0) (vf := 1) (j := 35) (fun h k => x_icmp_neT (tgt := 34) dX7_fiddlerText_27 (by decide) h k) (fun h k => x_icmp_neF dX7_fiddlerText_27 34 (by decide) h k) (x_ic dX7_fiddlerText_34 rfl (by decide)) (x_icg dX7_fiddlerText_30 rfl dX7_fiddlerText_31 (by decide)) ?_
    refine x_iconst (v := 3) dX7_fiddlerText_35 rfl ?_
    refine t_cvN cvX7_201_X7 dX7_fiddlerText_36 (c_X7_must _ _ _ _ _ _ _ _ _) rfl ?_
    have ee : flI (¬ muF F (nhI F) 1 18 = 0 ∨ namS S W.toInt32 (manyS S) 0 = none) = (if oI (namS S W.toInt32 (manyS S) 0) = -1 then 1 else 0) := by unfold flI; simp only [oI_nam hk, hbd, not_true_eq_false, false_or]
    have e : ftF (F, W) S = muF (muF F (nhI F) 1) (if oI (namS S W.toInt32 (manyS S) 0) = -1 then 1 else 0) 3 := congrArg (fun z => muF (muF F (nhI F) 1) z 3) ee
    have k := ft_b (g := g) (B := B) (m := m) (Z := Z) ((ftF (F, W) S, W), S) hs hms
    rw [hR] at k
    have k2 : xW g iX7_fiddlerText 6 39 [some (.ref m), none, none, none, none] [] (tA B m (ftF (F, W) S) W S Z) (xRet none (tA B m R.1.1 R.1.2 R.2 Z)) := k
    rw [e] at k2
    exact k2
theorem c_cpySZ (g : xG) (B : xA) (m : Nat) (F : Nat → Int32) (W : Int64) (S : Nat → Int32) (Z : Nat → Nat → Int32) {c j N : Nat} (hz : tZ c j N) (to : Nat) (ht : to + 280 ≤ N) (hc : c ≠ 1) : xC g iX7_copies 0 [.ref (m + 1), .int (nI 0), .ref (m + c), .int (nI to)] (tA B m F W S Z) (xRet none (tA B m F W S (zup Z j (va_cpy S (Z j) 0 to 280)))) := by
  obtain ⟨h1, h2, h3⟩ := tZ_cell (m := m) (F := F) (W := W) (S := S) (Z := Z) hz
  have hN : N < 65536 := by rcases hz with ⟨_, _, h⟩ | ⟨_, _, h⟩ | ⟨_, _, h⟩ | ⟨_, _, h⟩ | ⟨_, _, h⟩ | ⟨_, _, h⟩ | ⟨_, _, h⟩ | ⟨_, _, h⟩ | ⟨_, _, h⟩ | ⟨_, _, h⟩ <;> omega
  have k := c_X7_copies g (tA B m F W S Z) (m + 1) (m + c) 280 N 0 to S (Z j) (by omega) (Or.inl (tA_at 1 (by decide))) ((tA_at c h1).trans (congrArg some h3)) (by omega) ht (by omega) hN
  rw [tZ_up hz] at k
  exact k
theorem tS_up {B : xA} {m : Nat} {F : Nat → Int32} {W : Int64} {S : Nat → Int32} {Z : Nat → Nat → Int32} (f : Nat → Int32) : xup (tA B m F W S Z) (m + 1) (.inl (0, 280, .inl f)) = tA B m F W f Z := tA_up 1 (by decide) rfl (fun i hi h0 => by
    match i, h0 with
    | 1, h0 => exact absurd rfl h0
    | 0, _ | 2, _ | 3, _ | 4, _ | 5, _ | 6, _ | 7, _ | 8, _ | 9, _ | 10, _ | 11, _ | 12, _ | 13, _ => rfl
    | i + 14, _ => omega)
theorem c_cpyZS (g : xG) (B : xA) (m : Nat) (F : Nat → Int32) (W : Int64) (S : Nat → Int32) (Z : Nat → Nat → Int32) {c j N : Nat} (hz : tZ c j N) (fr : Nat) (ht : fr + 280 ≤ N) (hc : c ≠ 1) : xC g iX7_copies 0 [.ref (m + c), .int (nI fr), .ref (m + 1), .int (nI 0)] (tA B m F W S Z) (xRet none (tA B m F W (va_cpy (Z j) S fr 0 280) Z)) := by
  obtain ⟨h1, h2, h3⟩ := tZ_cell (m := m) (F := F) (W := W) (S := S) (Z := Z) hz
  have hN : N < 65536 := by rcases hz with ⟨_, _, h⟩ | ⟨_, _, h⟩ | ⟨_, _, h⟩ | ⟨_, _, h⟩ | ⟨_, _, h⟩ | ⟨_, _, h⟩ | ⟨_, _, h⟩ | ⟨_, _, h⟩ | ⟨_, _, h⟩ | ⟨_, _, h⟩ <;> omega
  have k := c_X7_copies g (tA B m F W S Z) (m + c) (m + 1) N 280 fr 0 (Z j) S (by omega) (Or.inl ((tA_at c h1).trans (congrArg some h3))) (tA_at 1 (by decide)) ht (by omega) hN (by omega)
  rw [tS_up] at k
  exact k
theorem se_l {g : xG} {B : xA} {m : Nat} {Z : Nat → Nat → Int32} {Q : Outcome → xA → Prop} (N : Nat) (hN : N = 11) : ∀ f (r : tR), sOk r → (r.1.1 18 = 0 → 11 - manyS r.2 ≤ f) → xW g iX7_setup 7 164 [some (.ref m), none] [] (tA B m (seL (Z 11) f r).1.1 (seL (Z 11) f r).1.2 (seL (Z 11) f r).2 Z) Q → xW g iX7_setup 7 115 [some (.ref m), none] [] (tA B m (r).1.1 (r).1.2 (r).2 Z) Q := by
  intro f
  induction f with
  | zero =>
    intro r h hf kont
    have h1 := h.1
    have hb : ¬ r.1.1 18 = 0 := fun e => by have := hf e; have := h.2.1.1.2; omega
    have hi : iwI r.1 6748778674 = 0 := iw_b hb
    refine x_aload_n dX7_setup_115 rfl ?_
    refine x_ldc2 (v := 6748778674) q3716 dX7_setup_116 ?_
    refine t_cvV cvX7_226_X7 dX7_setup_119 (c_X7_isWord _ _ _ _ _ _ _ _) rfl ?_
    refine x_if_eqT (tgt := 164) dX7_setup_122 (by decide) hi ?_
    exact kont
  | succ f ih =>
    intro r h hf kont
    have h1 := h.1
    have hk := h.2.1
    have h2 := (stp_mu (z := if 10 ≤ r.2 13 then 0 else 1) (c := 4) (r := r) (by decide)).tr (stp_go (T := Z 11) (r := ((muF r.1.1 (if 10 ≤ r.2 13 then 0 else 1) 4, r.1.2), r.2)))
    have hS := (h2.ok h).1
    have hm : (goX (Z 11) (muF r.1.1 (if 10 ≤ r.2 13 then 0 else 1) 4, r.1.2)).1 18 = 0 → manyS r.2 < 10 := fun e => by
      rw [go_18] at e
      exact i10 hk (mu_0 (by decide) e).2.1
    have hB := seB_ok (T := Z 11) h
    have eL : seL (Z 11) (f + 1) r = (if iwI r.1 6748778674 = 0 then r else seL (Z 11) f (seB (Z 11) r)) := rfl
    rw [eL] at kont
    refine x_aload_n dX7_setup_115 rfl ?_
    refine x_ldc2 (v := 6748778674) q3716 dX7_setup_116 ?_
    refine t_cvV cvX7_226_X7 dX7_setup_119 (c_X7_isWord _ _ _ _ _ _ _ _) rfl ?_
    refine x_if_eq 164 dX7_setup_122 (by decide) (fun c122 => ?_) (fun c122 => ?_)
    · rw [if_pos c122] at kont
      exact kont
    · rw [if_neg c122] at kont
      refine x_aload_n dX7_setup_125 rfl ?_
      refine x_aload_n dX7_setup_126 rfl ?_
      refine t_get fgX7_7_6 dX7_setup_127 rfl ?_
      refine x_bipush (v := 13) dX7_setup_130 (by decide) ?_
      refine t_aldS 13 dX7_setup_132 rfl (by decide) ?_
      refine x_bipush (v := 10) dX7_setup_133 (by decide) ?_
      refine x_dia (vt := 0) (vf := 1) (j := 143) (fun h k => x_icmp_geT (tgt := 142) dX7_setup_135 (by decide) h k) (fun h k => x_icmp_geF dX7_setup_135 142 (by decide) h k) (x_ic dX7_setup_142 rfl (by decide)) (x_icg dX7_setup_138 rfl dX7_setup_139 (by decide)) ?_
      refine x_iconst (v := 4) dX7_setup_143 rfl ?_
      refine t_cvN cvX7_201_X7 dX7_setup_144 (c_X7_must _ _ _ _ _ _ _ _ _) rfl ?_
      refine x_aload_n dX7_setup_147 rfl ?_
      refine t_cvN cvX7_205_X7 dX7_setup_148 (c_X7_goesOn _ _ _ _ _ _ _  (by apply_rules [TI.j, TI_sc, TI_mu, TI_go, TI_sg, TI_rdF, TI_rd, TI_cm0, TI_cm])) rfl ?_
      have eS : ftX (Z 11) (goX (Z 11) (muF r.1.1 (if 10 ≤ r.2 13 then 0 else 1) 4, r.1.2), r.2) = seB0 (Z 11) r := rfl
      generalize goX (Z 11) (muF r.1.1 (if 10 ≤ r.2 13 then 0 else 1) 4, r.1.2) = q at hS hm eS ⊢
      refine x_aload_n dX7_setup_151 rfl ?_
      refine t_cvN cvX7_237_X7 dX7_setup_152 (c_X7_fiddlerText _ _ _ _ _ _ _  hS hm) rfl ?_
      have hB0 := (seB0_ok (T := Z 11) h).1.1
      rw [show ftX (Z 11) ((q.1, q.2), r.2) = seB0 (Z 11) r from eS]
      have eB : (sgX (Z 11) 59 (seB0 (Z 11) r).1, (seB0 (Z 11) r).2) = seB (Z 11) r := rfl
      revert eB hB0
      generalize seB0 (Z 11) r = s
      intro hB0 eB
      refine x_aload_n dX7_setup_155 rfl ?_
      refine x_bipush (v := 59) dX7_setup_156 (by decide) ?_
      refine t_cvN cvX7_232_X7 dX7_setup_158 (c_X7_sign _ _ _ _ _ _ _ _ (by apply_rules [TI.j, TI_sc, TI_mu, TI_go, TI_sg, TI_rdF, TI_rd, TI_cm0, TI_cm])) rfl ?_
      refine x_goto (tgt := 115) dX7_setup_161 (by decide) ?_
      change xW g iX7_setup 7 115 _ _ (tA B m (sgX (Z 11) 59 s.1, s.2).1.1 (sgX (Z 11) 59 s.1, s.2).1.2 (sgX (Z 11) 59 s.1, s.2).2 Z) Q
      rw [eB]
      exact ih _ hB.1 (fun e => by have := hB.2.1 e; have := hf this.1; omega) kont
theorem c_X7_setup (g : xG) (B : xA) (m : Nat) (F : Nat → Int32) (W : Int64) (S : Nat → Int32) (Z : Nat → Nat → Int32) (h : sOk ((F, W), S)) : xC g iX7_setup 7 [.ref m] (tA B m F W S Z) (xRet none (tA B m (seX (Z 11) ((F, W), S)).1.1 (seX (Z 11) ((F, W), S)).1.2 (seX (Z 11) ((F, W), S)).2 Z)) := by
  have h1 : TI F := h.1
  have hH := seH_ok (T := Z 11) h
  have eX : ((muF (seL (Z 11) 11 (seH (Z 11) ((F, W), S))).1.1 (if (seL (Z 11) 11 (seH (Z 11) ((F, W), S))).1.1 16 = 0 then 1 else 0) 1, (seL (Z 11) 11 (seH (Z 11) ((F, W), S))).1.2), (seL (Z 11) 11 (seH (Z 11) ((F, W), S))).2) = seX (Z 11) ((F, W), S) := rfl
  show xW g iX7_setup 7 0 [some (.ref m), none] [] (tA B m F W S Z) (xRet none (tA B m (seX (Z 11) ((F, W), S)).1.1 (seX (Z 11) ((F, W), S)).1.2 (seX (Z 11) ((F, W), S)).2 Z))
  generalize seX (Z 11) ((F, W), S) = R at eX ⊢
  have eH : ((muF (sgX (Z 11) 59 (seH0 (Z 11) ((F, W), S)).1).1 (iwI (sgX (Z 11) 59 (seH0 (Z 11) ((F, W), S)).1) 6748778674) 1, (sgX (Z 11) 59 (seH0 (Z 11) ((F, W), S)).1).2), (seH0 (Z 11) ((F, W), S)).2) = seH (Z 11) ((F, W), S) := rfl
  generalize seH (Z 11) ((F, W), S) = RH at eH eX hH
  have e0 : s1K (Z 11) 12 9 (s1K (Z 11) 11 9 (s1K (Z 11) 10 9 (s1K (Z 11) 9 9 (s1K (Z 11) 4 99 (s1K (Z 11) 3 99 (s1K (Z 11) 2 40 (s1K (Z 11) 1 40 (goX (Z 11) (muF F (iwI (F, W) 263564) 1, W), S)))))))) = seH0 (Z 11) ((F, W), S) := rfl
  generalize seH0 (Z 11) ((F, W), S) = R0 at e0 eH
  refine x_aload_n dX7_setup_0 rfl ?_
  refine x_aload_n dX7_setup_1 rfl ?_
  refine x_ldc2 (v := 263564) q3691 dX7_setup_2 ?_
  refine t_cvV cvX7_226_X7 dX7_setup_5 (c_X7_isWord _ _ _ _ _ _ _ _) rfl ?_
  refine x_iconst (v := 1) dX7_setup_8 rfl ?_
  refine t_cvN cvX7_201_X7 dX7_setup_9 (c_X7_must _ _ _ _ _ _ _ _ _) rfl ?_
  refine x_aload_n dX7_setup_12 rfl ?_
  refine t_cvN cvX7_205_X7 dX7_setup_13 (c_X7_goesOn _ _ _ _ _ _ _  (by apply_rules [TI.j, TI_sc, TI_mu, TI_go, TI_sg, TI_rdF, TI_rd, TI_cm0, TI_cm])) rfl ?_
  have g0 : TI (goX (Z 11) (muF F (iwI (F, W) 263564) 1, W), S).1.1 := TI_go (TI_mu h1)
  change xW g iX7_setup 7 16 _ _ (tA B m (goX (Z 11) (muF F (iwI (F, W) 263564) 1, W), S).1.1 (goX (Z 11) (muF F (iwI (F, W) 263564) 1, W), S).1.2 (goX (Z 11) (muF F (iwI (F, W) 263564) 1, W), S).2 Z) _
  generalize (goX (Z 11) (muF F (iwI (F, W) 263564) 1, W), S) = r0 at g0 e0 ⊢
  refine x_aload_n dX7_setup_16 rfl ?_
  refine t_get fgX7_7_6 dX7_setup_17 rfl ?_
  refine x_iconst (v := 1) dX7_setup_20 rfl ?_
  refine x_aload_n dX7_setup_21 rfl ?_
  refine x_iconst (v := 0) dX7_setup_22 rfl ?_
  refine x_bipush (v := 40) dX7_setup_23 (by decide) ?_
  refine t_cvV cvX7_208_X7 dX7_setup_25 (c_X7_reads _ _ _ _ _ _ _ _ _ (by apply_rules [TI.j, TI_sc, TI_mu, TI_go, TI_sg, TI_rdF, TI_rd, TI_cm0, TI_cm])) rfl ?_
  refine t_astS 1 dX7_setup_28 rfl (by decide) ?_
  have g1 : TI (s1K (Z 11) 1 40 r0).1.1 := TI_rd g0
  change xW g iX7_setup 7 29 _ _ (tA B m (s1K (Z 11) 1 40 r0).1.1 (s1K (Z 11) 1 40 r0).1.2 (s1K (Z 11) 1 40 r0).2 Z) _
  generalize s1K (Z 11) 1 40 r0 = r1 at g1 e0 ⊢
  refine x_aload_n dX7_setup_29 rfl ?_
  refine t_get fgX7_7_6 dX7_setup_30 rfl ?_
  refine x_iconst (v := 2) dX7_setup_33 rfl ?_
  refine x_aload_n dX7_setup_34 rfl ?_
  refine x_iconst (v := 0) dX7_setup_35 rfl ?_
  refine x_bipush (v := 40) dX7_setup_36 (by decide) ?_
  refine t_cvV cvX7_208_X7 dX7_setup_38 (c_X7_reads _ _ _ _ _ _ _ _ _ (by apply_rules [TI.j, TI_sc, TI_mu, TI_go, TI_sg, TI_rdF, TI_rd, TI_cm0, TI_cm])) rfl ?_
  refine t_astS 2 dX7_setup_41 rfl (by decide) ?_
  have g2 : TI (s1K (Z 11) 2 40 r1).1.1 := TI_rd g1
  change xW g iX7_setup 7 42 _ _ (tA B m (s1K (Z 11) 2 40 r1).1.1 (s1K (Z 11) 2 40 r1).1.2 (s1K (Z 11) 2 40 r1).2 Z) _
  generalize s1K (Z 11) 2 40 r1 = r2 at g2 e0 ⊢
  refine x_aload_n dX7_setup_42 rfl ?_
  refine t_get fgX7_7_6 dX7_setup_43 rfl ?_
  refine x_iconst (v := 3) dX7_setup_46 rfl ?_
  refine x_aload_n dX7_setup_47 rfl ?_
  refine x_iconst (v := 0) dX7_setup_48 rfl ?_
  refine x_bipush (v := 99) dX7_setup_49 (by decide) ?_
  refine t_cvV cvX7_208_X7 dX7_setup_51 (c_X7_reads _ _ _ _ _ _ _ _ _ (by apply_rules [TI.j, TI_sc, TI_mu, TI_go, TI_sg, TI_rdF, TI_rd, TI_cm0, TI_cm])) rfl ?_
  refine t_astS 3 dX7_setup_54 rfl (by decide) ?_
  have g3 : TI (s1K (Z 11) 3 99 r2).1.1 := TI_rd g2
  change xW g iX7_setup 7 55 _ _ (tA B m (s1K (Z 11) 3 99 r2).1.1 (s1K (Z 11) 3 99 r2).1.2 (s1K (Z 11) 3 99 r2).2 Z) _
  generalize s1K (Z 11) 3 99 r2 = r3 at g3 e0 ⊢
  refine x_aload_n dX7_setup_55 rfl ?_
  refine t_get fgX7_7_6 dX7_setup_56 rfl ?_
  refine x_iconst (v := 4) dX7_setup_59 rfl ?_
  refine x_aload_n dX7_setup_60 rfl ?_
  refine x_iconst (v := 0) dX7_setup_61 rfl ?_
  refine x_bipush (v := 99) dX7_setup_62 (by decide) ?_
  refine t_cvV cvX7_208_X7 dX7_setup_64 (c_X7_reads _ _ _ _ _ _ _ _ _ (by apply_rules [TI.j, TI_sc, TI_mu, TI_go, TI_sg, TI_rdF, TI_rd, TI_cm0, TI_cm])) rfl ?_
  refine t_astS 4 dX7_setup_67 rfl (by decide) ?_
  have g4 : TI (s1K (Z 11) 4 99 r3).1.1 := TI_rd g3
  change xW g iX7_setup 7 68 _ _ (tA B m (s1K (Z 11) 4 99 r3).1.1 (s1K (Z 11) 4 99 r3).1.2 (s1K (Z 11) 4 99 r3).2 Z) _
  generalize s1K (Z 11) 4 99 r3 = r4 at g4 e0 ⊢
  refine x_iconst (v := 0) dX7_setup_68 rfl ?_
  refine x_istore_n dX7_setup_69 (by decide) rfl ?_
  refine x_iload_n dX7_setup_70 rfl ?_
  refine x_iconst (v := 4) dX7_setup_71 rfl ?_
  refine x_icmp_geF dX7_setup_72 97 (by decide) (by decide) ?_
  refine x_aload_n dX7_setup_75 rfl ?_
  refine t_get fgX7_7_6 dX7_setup_76 rfl ?_
  refine x_bipush (v := 9) dX7_setup_79 (by decide) ?_
  refine x_iload_n dX7_setup_81 rfl ?_
  refine x_iadd dX7_setup_82 ?_
  refine x_top (y := nI (9)) (nI_add 9 0) ?_
  refine x_aload_n dX7_setup_83 rfl ?_
  refine x_iconst (v := 0) dX7_setup_84 rfl ?_
  refine x_bipush (v := 9) dX7_setup_85 (by decide) ?_
  refine t_cvV cvX7_208_X7 dX7_setup_87 (c_X7_reads _ _ _ _ _ _ _ _ _ (by apply_rules [TI.j, TI_sc, TI_mu, TI_go, TI_sg, TI_rdF, TI_rd, TI_cm0, TI_cm])) rfl ?_
  refine t_astS 9 dX7_setup_90 rfl (by decide) ?_
  refine x_iinc (v := nI (1)) dX7_setup_91 rfl (nI_1 _) (by decide) rfl ?_
  refine x_goto (tgt := 70) dX7_setup_94 (by decide) ?_
  have g5 : TI (s1K (Z 11) 9 9 r4).1.1 := TI_rd g4
  change xW g iX7_setup 7 70 _ _ (tA B m (s1K (Z 11) 9 9 r4).1.1 (s1K (Z 11) 9 9 r4).1.2 (s1K (Z 11) 9 9 r4).2 Z) _
  generalize s1K (Z 11) 9 9 r4 = r5 at g5 e0 ⊢
  refine x_iload_n dX7_setup_70 rfl ?_
  refine x_iconst (v := 4) dX7_setup_71 rfl ?_
  refine x_icmp_geF dX7_setup_72 97 (by decide) (by decide) ?_
  refine x_aload_n dX7_setup_75 rfl ?_
  refine t_get fgX7_7_6 dX7_setup_76 rfl ?_
  refine x_bipush (v := 9) dX7_setup_79 (by decide) ?_
  refine x_iload_n dX7_setup_81 rfl ?_
  refine x_iadd dX7_setup_82 ?_
  refine x_top (y := nI (10)) (nI_add 9 1) ?_
  refine x_aload_n dX7_setup_83 rfl ?_
  refine x_iconst (v := 0) dX7_setup_84 rfl ?_
  refine x_bipush (v := 9) dX7_setup_85 (by decide) ?_
  refine t_cvV cvX7_208_X7 dX7_setup_87 (c_X7_reads _ _ _ _ _ _ _ _ _ (by apply_rules [TI.j, TI_sc, TI_mu, TI_go, TI_sg, TI_rdF, TI_rd, TI_cm0, TI_cm])) rfl ?_
  refine t_astS 10 dX7_setup_90 rfl (by decide) ?_
  refine x_iinc (v := nI (2)) dX7_setup_91 rfl (nI_1 _) (by decide) rfl ?_
  refine x_goto (tgt := 70) dX7_setup_94 (by decide) ?_
  have g6 : TI (s1K (Z 11) 10 9 r5).1.1 := TI_rd g5
  change xW g iX7_setup 7 70 _ _ (tA B m (s1K (Z 11) 10 9 r5).1.1 (s1K (Z 11) 10 9 r5).1.2 (s1K (Z 11) 10 9 r5).2 Z) _
  generalize s1K (Z 11) 10 9 r5 = r6 at g6 e0 ⊢
  refine x_iload_n dX7_setup_70 rfl ?_
  refine x_iconst (v := 4) dX7_setup_71 rfl ?_
  refine x_icmp_geF dX7_setup_72 97 (by decide) (by decide) ?_
  refine x_aload_n dX7_setup_75 rfl ?_
  refine t_get fgX7_7_6 dX7_setup_76 rfl ?_
  refine x_bipush (v := 9) dX7_setup_79 (by decide) ?_
  refine x_iload_n dX7_setup_81 rfl ?_
  refine x_iadd dX7_setup_82 ?_
  refine x_top (y := nI (11)) (nI_add 9 2) ?_
  refine x_aload_n dX7_setup_83 rfl ?_
  refine x_iconst (v := 0) dX7_setup_84 rfl ?_
  refine x_bipush (v := 9) dX7_setup_85 (by decide) ?_
  refine t_cvV cvX7_208_X7 dX7_setup_87 (c_X7_reads _ _ _ _ _ _ _ _ _ (by apply_rules [TI.j, TI_sc, TI_mu, TI_go, TI_sg, TI_rdF, TI_rd, TI_cm0, TI_cm])) rfl ?_
  refine t_astS 11 dX7_setup_90 rfl (by decide) ?_
  refine x_iinc (v := nI (3)) dX7_setup_91 rfl (nI_1 _) (by decide) rfl ?_
  refine x_goto (tgt := 70) dX7_setup_94 (by decide) ?_
  have g7 : TI (s1K (Z 11) 11 9 r6).1.1 := TI_rd g6
  change xW g iX7_setup 7 70 _ _ (tA B m (s1K (Z 11) 11 9 r6).1.1 (s1K (Z 11) 11 9 r6).1.2 (s1K (Z 11) 11 9 r6).2 Z) _
  generalize s1K (Z 11) 11 9 r6 = r7 at g7 e0 ⊢
  refine x_iload_n dX7_setup_70 rfl ?_
  refine x_iconst (v := 4) dX7_setup_71 rfl ?_
  refine x_icmp_geF dX7_setup_72 97 (by decide) (by decide) ?_
  refine x_aload_n dX7_setup_75 rfl ?_
  refine t_get fgX7_7_6 dX7_setup_76 rfl ?_
  refine x_bipush (v := 9) dX7_setup_79 (by decide) ?_
  refine x_iload_n dX7_setup_81 rfl ?_
  refine x_iadd dX7_setup_82 ?_
  refine x_top (y := nI (12)) (nI_add 9 3) ?_
  refine x_aload_n dX7_setup_83 rfl ?_
  refine x_iconst (v := 0) dX7_setup_84 rfl ?_
  refine x_bipush (v := 9) dX7_setup_85 (by decide) ?_
  refine t_cvV cvX7_208_X7 dX7_setup_87 (c_X7_reads _ _ _ _ _ _ _ _ _ (by apply_rules [TI.j, TI_sc, TI_mu, TI_go, TI_sg, TI_rdF, TI_rd, TI_cm0, TI_cm])) rfl ?_
  refine t_astS 12 dX7_setup_90 rfl (by decide) ?_
  refine x_iinc (v := nI (4)) dX7_setup_91 rfl (nI_1 _) (by decide) rfl ?_
  refine x_goto (tgt := 70) dX7_setup_94 (by decide) ?_
  have g8 : TI (s1K (Z 11) 12 9 r7).1.1 := TI_rd g7
  change xW g iX7_setup 7 70 _ _ (tA B m (s1K (Z 11) 12 9 r7).1.1 (s1K (Z 11) 12 9 r7).1.2 (s1K (Z 11) 12 9 r7).2 Z) _
  generalize s1K (Z 11) 12 9 r7 = r8 at g8 e0 ⊢
  refine x_iload_n dX7_setup_70 rfl ?_
  refine x_iconst (v := 4) dX7_setup_71 rfl ?_
  refine x_icmp_geT (tgt := 97) dX7_setup_72 (by decide) (by decide) ?_
  subst e0
  refine x_aload_n dX7_setup_97 rfl ?_
  refine x_bipush (v := 59) dX7_setup_98 (by decide) ?_
  refine t_cvN cvX7_232_X7 dX7_setup_100 (c_X7_sign _ _ _ _ _ _ _ _ (by apply_rules [TI.j, TI_sc, TI_mu, TI_go, TI_sg, TI_rdF, TI_rd, TI_cm0, TI_cm])) rfl ?_
  refine x_aload_n dX7_setup_103 rfl ?_
  refine x_aload_n dX7_setup_104 rfl ?_
  refine x_ldc2 (v := 6748778674) q3716 dX7_setup_105 ?_
  refine t_cvV cvX7_226_X7 dX7_setup_108 (c_X7_isWord _ _ _ _ _ _ _ _) rfl ?_
  refine x_iconst (v := 1) dX7_setup_111 rfl ?_
  refine t_cvN cvX7_201_X7 dX7_setup_112 (c_X7_must _ _ _ _ _ _ _ _ _) rfl ?_
  change xW g iX7_setup 7 115 _ [] (tA B m ((muF (sgX (Z 11) 59 r8.1).1 (iwI (sgX (Z 11) 59 r8.1) 6748778674) 1, (sgX (Z 11) 59 r8.1).2), r8.2).1.1 ((muF (sgX (Z 11) 59 r8.1).1 (iwI (sgX (Z 11) 59 r8.1) 6748778674) 1, (sgX (Z 11) 59 r8.1).2), r8.2).1.2 ((muF (sgX (Z 11) 59 r8.1).1 (iwI (sgX (Z 11) 59 r8.1) 6748778674) 1, (sgX (Z 11) 59 r8.1).2), r8.2).2 Z) _
  rw [eH]
  refine xW.loc (L' := [some (.ref m), none]) ⟨rfl, trivial⟩ ?_
  refine se_l 11 rfl 11 RH hH.1 (fun _ => by omega) ?_
  generalize seL (Z 11) 11 RH = s at eX ⊢
  refine x_aload_n dX7_setup_164 rfl ?_
  refine x_aload_n dX7_setup_165 rfl ?_
  refine t_get fgX7_167_6 dX7_setup_166 rfl ?_
  refine x_diaN (vt := 0) (vf := 1) (j := 177) (fun h k => x_if_neT (tgt := 176) dX7_setup_169 (by decide) h k) (fun h k => x_if_neF dX7_setup_169 176 (by decide) h k) (x_ic dX7_setup_176 rfl (by decide)) (x_icg dX7_setup_172 rfl dX7_setup_173 (by decide)) ?_
  refine x_iconst (v := 1) dX7_setup_177 rfl ?_
  refine t_cvN cvX7_201_X7 dX7_setup_178 (c_X7_must _ _ _ _ _ _ _ _ _) rfl ?_
  exact x_return dX7_setup_181 rfl ⟨rfl, by rw [← eX]⟩
