set_option maxRecDepth 100000
theorem or_c {g : xG} {B : xA} {m : Nat} {Z : Nat → Nat → Int32} (r o : Int32) (q : tQ) (h : tH) (O G : Nat → Int32) (R : tM) (hR : R = orW (Z 11) r o (q, h, O, G)) (hm : MI (q, h, O, G)) : xW g iX7_order 10 97 [some (.ref m), some (.int r), some (.int o), none, none] [] (tA B m q.1 q.2 h.1 (zM Z (q, h, O, G))) (xRet none (tA B m R.1.1 R.1.2 R.2.1.1 (zM Z R))) := by
  have ht : TI q.1 := hm.1
  have hq : TI (goX (Z 11) q).1 := TI_go ht
  have hk : rOk h.1 := hm.2.2.2
  have hm2 : MI (goX (Z 11) q, h, O, G) := MI.fr hm (y := (goX (Z 11) q, h, O, G)) hq fr_go.d rfl hk
  have op := orP_or (T := Z 11) (o := o) (kind := q.2) (h := h) hq hk
  have e1 : (q.1 18 = 0 → orW (Z 11) r o (q, h, O, G) = if ¬ r = 0 then agX (Z 11) (goX (Z 11) q, h, O, G) else (sgX (Z 11) 59 (orR (Z 11) o q.2 (goX (Z 11) q) h).1, (orR (Z 11) o q.2 (goX (Z 11) q) h).2, O, G)) := fun e => if_neg (fun k => k e)
  have e0 : (¬ q.1 18 = 0 → orW (Z 11) r o (q, h, O, G) = (q, h, O, G)) := fun e => if_pos e
  refine x_aload_n dX7_order_97 rfl ?_
  refine t_get fgX7_189_6 dX7_order_98 rfl ?_
  refine x_if_eq 105 dX7_order_101 (by decide) (fun c101 => ?_) (fun c101 => ?_)
  · rw [e1 c101] at hR
    clear e0 e1
    refine x_aload_n dX7_order_105 rfl ?_
    refine t_get fgX7_174_6 dX7_order_106 rfl ?_
    refine x_lstore_n dX7_order_109 (by decide) rfl ?_
    refine x_aload_n dX7_order_110 rfl ?_
    refine t_cvN cvX7_205_X7 dX7_order_111 (c_X7_goesOn _ _ _ _ _ _ _  (by apply_rules [TI.j, TI_sc, TI_mu, TI_go, TI_sg, TI_rdF, TI_rd, TI_cm0, TI_cm, TI_nt, TI_swF, TI_swT, TI_sx, TI_soT, TI_woT])) rfl ?_
    change xW g iX7_order 10 114 _ _ (tA B m (goX (Z 11) q).1 (goX (Z 11) q).2 h.1 (zM Z (goX (Z 11) q, h, O, G))) _
    generalize goX (Z 11) q = s at hR hq hm2 op ⊢
    refine x_iload_n dX7_order_114 rfl ?_
    refine x_if_eq 123 dX7_order_115 (by decide) (fun c115 => ?_) (fun c115 => ?_)
    · rw [if_neg (fun k => k c115)] at hR
      revert hR op
      generalize hR2 : orR (Z 11) o q.2 s h = R2
      intro hR op
      refine x_iload_n dX7_order_123 rfl ?_
      refine x_if_eq 135 dX7_order_124 (by decide) (fun c124 => ?_) (fun c124 => ?_)
      · rw [show orR (Z 11) o q.2 s h = woX (Z 11) q.2 s h from if_pos c124] at hR2
        refine x_aload_n dX7_order_135 rfl ?_
        refine x_lload_n dX7_order_136 rfl ?_
        refine t_cvN cvX7_368_X7 dX7_order_137 (c_X7_wholeOrder _ _ _ _ _ _ (zM Z (s, h, O, G)) q.2 R2 hR2.symm hq hk.1) rfl ?_
        change xW g iX7_order 10 140 _ _ (tA B m R2.1.1 R2.1.2 R2.2.1 (zup (zM Z (s, h, O, G)) 8 R2.2.2)) _
        rw [zM_8 (q' := R2.1)]
        refine x_aload_n dX7_order_140 rfl ?_
        refine x_bipush (v := 59) dX7_order_141 (by decide) ?_
        refine t_cvN cvX7_232_X7 dX7_order_143 (c_X7_sign _ _ _ _ _ _ _ _ op.1) rfl ?_
        exact x_return dX7_order_146 rfl ⟨rfl, by first | rfl | (rw [hR]; done) | (rw [hR]; rfl)⟩
      · rw [show orR (Z 11) o q.2 s h = noX (Z 11) q.2 s h from if_neg c124] at hR2
        refine x_aload_n dX7_order_127 rfl ?_
        refine x_lload_n dX7_order_128 rfl ?_
        refine t_cvN cvX7_364_X7 dX7_order_129 (c_X7_nameOrder _ _ _ _ _ _ (zM Z (s, h, O, G)) q.2 R2 hR2.symm hq hk) rfl ?_
        refine x_goto (tgt := 140) dX7_order_132 (by decide) ?_
        change xW g iX7_order 10 140 _ _ (tA B m R2.1.1 R2.1.2 R2.2.1 (zup (zM Z (s, h, O, G)) 8 R2.2.2)) _
        rw [zM_8 (q' := R2.1)]
        refine x_aload_n dX7_order_140 rfl ?_
        refine x_bipush (v := 59) dX7_order_141 (by decide) ?_
        refine t_cvN cvX7_232_X7 dX7_order_143 (c_X7_sign _ _ _ _ _ _ _ _ op.1) rfl ?_
        exact x_return dX7_order_146 rfl ⟨rfl, by first | rfl | (rw [hR]; done) | (rw [hR]; rfl)⟩
    · rw [if_pos c115] at hR
      refine x_aload_n dX7_order_118 rfl ?_
      refine t_cvN cvX7_361_X7 dX7_order_119 (c_X7_againOrder _ _ _ _ s h O G R hR hm2) rfl ?_
      exact x_return dX7_order_122 rfl ⟨rfl, by first | rfl | (rw [hR]; done) | (rw [hR]; rfl)⟩
  · rw [e0 c101] at hR
    clear e0 e1
    exact x_return dX7_order_104 rfl ⟨rfl, by first | rfl | (rw [hR]; done) | (rw [hR]; rfl)⟩
theorem or_b {g : xG} {B : xA} {m : Nat} {Z : Nat → Nat → Int32} (r o : Int32) (q : tQ) (h : tH) (O G : Nat → Int32) (R : tM) (hR : R = orW (Z 11) r o ((orV q.1, q.2), h, O, G)) (hm : MI (q, h, O, G)) : xW g iX7_order 10 61 [some (.ref m), some (.int r), some (.int o), none, none] [] (tA B m q.1 q.2 h.1 (zM Z (q, h, O, G))) (xRet none (tA B m R.1.1 R.1.2 R.2.1.1 (zM Z R))) := by
  have ht : TI q.1 := hm.1
  have kk := or_c (g := g) (B := B) (m := m) (Z := Z) r o (orV q.1, q.2) h O G R hR (MI.fr hm (y := ((orV q.1, q.2), h, O, G)) (TI_orV ht) fr_orV rfl hm.2.2.2)
  clear hR
  change xW g iX7_order 10 97 _ _ (tA B m (orV q.1) q.2 h.1 (zM Z (q, h, O, G))) _ at kk
  refine x_aload_n dX7_order_61 rfl ?_
  refine t_get fgX7_274_6 dX7_order_62 rfl ?_
  refine x_if_ne 97 dX7_order_65 (by decide) (fun c65 => ?_) (fun c65 => ?_)
  · rw [show orV q.1 = q.1 from if_neg c65] at kk
    exact kk
  · rw [show orV q.1 = _ from if_pos c65] at kk
    refine x_aload_n dX7_order_68 rfl ?_
    refine x_aload_n dX7_order_69 rfl ?_
    refine t_get fgX7_358_6 dX7_order_70 rfl ?_
    refine x_bipush (v := 30) dX7_order_73 (by decide) ?_
    refine x_dia (vt := 0) (vf := 1) (j := 83) (fun h k => x_icmp_geT (tgt := 82) dX7_order_75 (by decide) h k) (fun h k => x_icmp_geF dX7_order_75 82 (by decide) h k) (x_ic dX7_order_82 rfl (by decide)) (x_icg dX7_order_78 rfl dX7_order_79 (by decide)) ?_
    refine x_iconst (v := 4) dX7_order_83 rfl ?_
    refine t_cvN cvX7_201_X7 dX7_order_84 (c_X7_must _ _ _ _ _ _ _ _ _) rfl ?_
    refine x_aload_n dX7_order_87 rfl ?_
    refine x_dup dX7_order_88 rfl ?_
    refine t_get fgX7_358_6 dX7_order_89 rfl ?_
    refine x_iconst (v := 1) dX7_order_92 rfl ?_
    refine x_iadd dX7_order_93 ?_
    refine t_put fpX7_358_6 dX7_order_94 (by decide) ⟨rfl, rfl⟩ ?_
    exact kk
theorem c_X7_order (g : xG) (B : xA) (m : Nat) (Z : Nat → Nat → Int32) (q : tQ) (h : tH) (O G : Nat → Int32) (R : tM) (hR : R = orX (Z 11) (q, h, O, G)) (hm : MI (q, h, O, G)) : xC g iX7_order 10 [.ref m] (tA B m q.1 q.2 h.1 (zM Z (q, h, O, G))) (xRet none (tA B m R.1.1 R.1.2 R.2.1.1 (zM Z R))) := by
  show xW g iX7_order 10 0 [some (.ref m), none, none, none, none] [] (tA B m q.1 q.2 h.1 (zM Z (q, h, O, G))) (xRet none (tA B m R.1.1 R.1.2 R.2.1.1 (zM Z R)))
  have ht : TI q.1 := hm.1
  have kk := or_b (g := g) (B := B) (m := m) (Z := Z) (iwI q 609752116) (ofI q) (muF q.1 (orZ q) 1, q.2) h O G R hR (MI.fr hm (y := ((muF q.1 (orZ q) 1, q.2), h, O, G)) (TI_mu ht) fr_mu.d rfl hm.2.2.2)
  clear hR
  change xW g iX7_order 10 61 _ _ (tA B m (muF q.1 (orZ q) 1) q.2 h.1 (zM Z (q, h, O, G))) _ at kk
  refine x_aload_n dX7_order_0 rfl ?_
  refine x_ldc2 (v := 609752116) q3762 dX7_order_1 ?_
  refine t_cvV cvX7_226_X7 dX7_order_4 (c_X7_isWord _ _ _ _ _ _ _ _) rfl ?_
  refine x_istore_n dX7_order_7 (by decide) rfl ?_
  refine x_aload_n dX7_order_8 rfl ?_
  refine t_cvV cvX7_353_X7 dX7_order_9 (c_X7_isOfName _ _ _ _ _ _ _ ) rfl ?_
  refine x_istore_n dX7_order_12 (by decide) rfl ?_
  refine x_aload_n dX7_order_13 rfl ?_
  refine x_iload_n dX7_order_14 rfl ?_
  refine x_if_ne 52 dX7_order_15 (by decide) (fun c15 => ?_) (fun c15 => ?_)
  · refine x_iconst (v := 1) dX7_order_52 rfl ?_
    refine x_goto (tgt := 57) dX7_order_53 (by decide) ?_
    refine x_iconst (v := 1) dX7_order_57 rfl ?_
    refine t_cvN cvX7_201_X7 dX7_order_58 (c_X7_must _ _ _ _ _ _ _ _ _) rfl ?_
    rw [show orZ q = 1 from if_pos (Or.inl c15)] at kk
    exact kk
  · refine x_iload_n dX7_order_18 rfl ?_
    refine x_if_ne 52 dX7_order_19 (by decide) (fun c19 => ?_) (fun c19 => ?_)
    · refine x_iconst (v := 1) dX7_order_52 rfl ?_
      refine x_goto (tgt := 57) dX7_order_53 (by decide) ?_
      refine x_iconst (v := 1) dX7_order_57 rfl ?_
      refine t_cvN cvX7_201_X7 dX7_order_58 (c_X7_must _ _ _ _ _ _ _ _ _) rfl ?_
      rw [show orZ q = 1 from if_pos (Or.inr (Or.inl c19))] at kk
      exact kk
    · refine x_aload_n dX7_order_22 rfl ?_
      refine x_ldc2 (v := 677317) q3773 dX7_order_23 ?_
      refine t_cvV cvX7_226_X7 dX7_order_26 (c_X7_isWord _ _ _ _ _ _ _ _) rfl ?_
      refine x_if_ne 52 dX7_order_29 (by decide) (fun c29 => ?_) (fun c29 => ?_)
      · refine x_iconst (v := 1) dX7_order_52 rfl ?_
        refine x_goto (tgt := 57) dX7_order_53 (by decide) ?_
        refine x_iconst (v := 1) dX7_order_57 rfl ?_
        refine t_cvN cvX7_201_X7 dX7_order_58 (c_X7_must _ _ _ _ _ _ _ _ _) rfl ?_
        rw [show orZ q = 1 from if_pos (Or.inr (Or.inr (Or.inl c29)))] at kk
        exact kk
      · refine x_aload_n dX7_order_32 rfl ?_
        refine x_ldc2 (v := 672734388) q3774 dX7_order_33 ?_
        refine t_cvV cvX7_226_X7 dX7_order_36 (c_X7_isWord _ _ _ _ _ _ _ _) rfl ?_
        refine x_if_ne 52 dX7_order_39 (by decide) (fun c39 => ?_) (fun c39 => ?_)
        · refine x_iconst (v := 1) dX7_order_52 rfl ?_
          refine x_goto (tgt := 57) dX7_order_53 (by decide) ?_
          refine x_iconst (v := 1) dX7_order_57 rfl ?_
          refine t_cvN cvX7_201_X7 dX7_order_58 (c_X7_must _ _ _ _ _ _ _ _ _) rfl ?_
          rw [show orZ q = 1 from if_pos (Or.inr (Or.inr (Or.inr (Or.inl c39))))] at kk
          exact kk
        · refine x_aload_n dX7_order_42 rfl ?_
          refine x_ldc2 (v := 8902227) q3775 dX7_order_43 ?_
          refine t_cvV cvX7_226_X7 dX7_order_46 (c_X7_isWord _ _ _ _ _ _ _ _) rfl ?_
          refine x_if_eq 56 dX7_order_49 (by decide) (fun c49 => ?_) (fun c49 => ?_)
          · refine x_iconst (v := 0) dX7_order_56 rfl ?_
            refine x_iconst (v := 1) dX7_order_57 rfl ?_
            refine t_cvN cvX7_201_X7 dX7_order_58 (c_X7_must _ _ _ _ _ _ _ _ _) rfl ?_
            rw [show orZ q = 0 from if_neg (fun k => by rcases k with k | k | k | k | k <;> exact absurd (by assumption) k)] at kk
            exact kk
          · refine x_iconst (v := 1) dX7_order_52 rfl ?_
            refine x_goto (tgt := 57) dX7_order_53 (by decide) ?_
            refine x_iconst (v := 1) dX7_order_57 rfl ?_
            refine t_cvN cvX7_201_X7 dX7_order_58 (c_X7_must _ _ _ _ _ _ _ _ _) rfl ?_
            rw [show orZ q = 1 from if_pos (Or.inr (Or.inr (Or.inr (Or.inr (c49)))))] at kk
            exact kk
theorem gt_l {g : xG} {B : xA} {m : Nat} {Z : Nat → Nat → Int32} {Q : Outcome → xA → Prop} (dg : Int32) : ∀ (k : Nat) (x : tM), MI x → (∀ j, j < k → goM (itM (Z 11) j x)) → ¬ goM (itM (Z 11) k x) → xW g iX7_goesThrough 11 73 [some (.ref m), some (.int dg)] [] (tA B m (itM (Z 11) k x).1.1 (itM (Z 11) k x).1.2 (itM (Z 11) k x).2.1.1 (zM Z (itM (Z 11) k x))) Q → xW g iX7_goesThrough 11 29 [some (.ref m), some (.int dg)] [] (tA B m x.1.1 x.1.2 x.2.1.1 (zM Z x)) Q := by
  intro k
  induction k with
  | zero =>
    intro x hm _ hst kont
    change xW g iX7_goesThrough 11 73 _ _ (tA B m x.1.1 x.1.2 x.2.1.1 (zM Z x)) Q at kont
    change ¬ goM x at hst
    refine x_aload_n dX7_goesThrough_29 rfl ?_
    refine t_get fgX7_189_6 dX7_goesThrough_30 rfl ?_
    refine x_if_ne 73 dX7_goesThrough_33 (by decide) (fun c33 => ?_) (fun c33 => ?_)
    · exact kont
    · refine x_aload_n dX7_goesThrough_36 rfl ?_
      refine t_get fgX7_278_6 dX7_goesThrough_37 rfl ?_
      refine x_if_ne 73 dX7_goesThrough_40 (by decide) (fun c40 => ?_) (fun c40 => ?_)
      · exact kont
      · refine x_aload_n dX7_goesThrough_43 rfl ?_
        refine t_get fgX7_167_6 dX7_goesThrough_44 rfl ?_
        refine x_if_eq 73 dX7_goesThrough_47 (by decide) (fun c47 => ?_) (fun c47 => ?_)
        · exact kont
        · exact absurd ⟨by first | exact c33 | exact Decidable.not_not.mp c33, by first | exact c40 | exact Decidable.not_not.mp c40, c47⟩ hst
  | succ k ih =>
    intro x hm hgo hst kont
    obtain ⟨g1, g2, g3⟩ := hgo 0 (Nat.zero_lt_succ _)
    change x.1.1 18 = 0 at g1
    change x.1.1 24 = 0 at g2
    change ¬ x.1.1 16 = 0 at g3
    have hm2 := MI_sb (T := Z 11) hm
    have go2 : ∀ j, j < k → goM (itM (Z 11) j (sbX (Z 11) x)) := fun j hj => hgo (j + 1) (by omega)
    have kk := ih (sbX (Z 11) x) hm2 go2 hst kont
    clear kont hst hgo go2 ih
    obtain ⟨q, h, O, G⟩ := x
    have ht : TI q.1 := hm.1
    change xW g iX7_goesThrough 11 29 [some (.ref m), some (.int dg)] [] (tA B m q.1 q.2 h.1 (zM Z (q, h, O, G))) Q
    refine x_aload_n dX7_goesThrough_29 rfl ?_
    refine t_get fgX7_189_6 dX7_goesThrough_30 rfl ?_
    refine x_if_neF dX7_goesThrough_33 73 (by decide) g1 ?_
    refine x_aload_n dX7_goesThrough_36 rfl ?_
    refine t_get fgX7_278_6 dX7_goesThrough_37 rfl ?_
    refine x_if_neF dX7_goesThrough_40 73 (by decide) g2 ?_
    refine x_aload_n dX7_goesThrough_43 rfl ?_
    refine t_get fgX7_167_6 dX7_goesThrough_44 rfl ?_
    refine x_if_eqF dX7_goesThrough_47 73 (by decide) g3 ?_
    refine x_aload_n dX7_goesThrough_50 rfl ?_
    refine x_bipush (v := 41) dX7_goesThrough_51 (by decide) ?_
    refine t_cvV cvX7_198_X7 dX7_goesThrough_53 (c_X7_isSign _ _ _ _ _ _ _ _ (by apply_rules [TI.j, TI_sc, TI_mu, TI_go, TI_sg, TI_rdF, TI_rd, TI_cm0, TI_cm, TI_nt, TI_swF, TI_swT, TI_sx, TI_soT, TI_woT])) rfl ?_
    refine x_if_eq 66 dX7_goesThrough_56 (by decide) (fun c56 => ?_) (fun c56 => ?_)
    · rw [show sbX (Z 11) (q, h, O, G) = orX (Z 11) (q, h, O, G) from if_pos c56] at kk
      generalize hRR : orX (Z 11) (q, h, O, G) = R at kk
      refine x_aload_n dX7_goesThrough_66 rfl ?_
      refine t_cvN cvX7_374_X7 dX7_goesThrough_67 (c_X7_order _ _ _ _ q h O G R hRR.symm hm) rfl ?_
      refine x_goto (tgt := 29) dX7_goesThrough_70 (by decide) ?_
      exact kk
    · rw [show sbX (Z 11) (q, h, O, G) = clX (Z 11) (q, h, O, G) from if_neg c56] at kk
      generalize hRR : clX (Z 11) (q, h, O, G) = R at kk
      refine x_aload_n dX7_goesThrough_59 rfl ?_
      refine t_cvN cvX7_371_X7 dX7_goesThrough_60 (c_X7_closes _ _ _ _ q h O G R hRR.symm hm) rfl ?_
      refine x_goto (tgt := 29) dX7_goesThrough_63 (by decide) ?_
      exact kk
theorem c_X7_goesThrough (g : xG) (B : xA) (m : Nat) (Z : Nat → Nat → Int32) (dg : Int32) (hd : xfit FieldType.boolean (.int dg)) (q : tQ) (h : tH) (O G : Nat → Int32) (k : Nat) (R : tM) (h13 : ixl (q.1 13) 801) (hk : rOk h.1) (hgo : ∀ j, j < k → goM (itM (Z 11) j (gtS (Z 11) dg (q, h, O, G)))) (hst : ¬ goM (itM (Z 11) k (gtS (Z 11) dg (q, h, O, G)))) (hR : R = itM (Z 11) k (gtS (Z 11) dg (q, h, O, G))) : xC g iX7_goesThrough 11 [.ref m, .int dg] (tA B m q.1 q.2 h.1 (zM Z (q, h, O, G))) (xRet none (tA B m (muF R.1.1 (gtZ R.1.1) 1) R.1.2 R.2.1.1 (zM Z R))) := by
  show xW g iX7_goesThrough 11 0 [some (.ref m), some (.int dg)] [] (tA B m q.1 q.2 h.1 (zM Z (q, h, O, G))) (xRet none (tA B m (muF R.1.1 (gtZ R.1.1) 1) R.1.2 R.2.1.1 (zM Z R)))
  have hm := MI_gt (T := Z 11) (dg := dg) (x := (q, h, O, G)) h13 hk
  refine x_aload_n dX7_goesThrough_0 rfl ?_
  refine x_iload_n dX7_goesThrough_1 rfl ?_
  refine t_put fpX7_274_6 dX7_goesThrough_2 (by decide) hd ?_
  refine x_aload_n dX7_goesThrough_5 rfl ?_
  refine x_iconst (v := 0) dX7_goesThrough_6 rfl ?_
  refine t_put fpX7_278_6 dX7_goesThrough_7 (by decide) ⟨rfl, rfl⟩ ?_
  refine x_aload_n dX7_goesThrough_10 rfl ?_
  refine x_iconst (v := 0) dX7_goesThrough_11 rfl ?_
  refine t_put fpX7_358_6 dX7_goesThrough_12 (by decide) ⟨rfl, rfl⟩ ?_
  refine x_aload_n dX7_goesThrough_15 rfl ?_
  refine x_iconst (v := 0) dX7_goesThrough_16 rfl ?_
  refine t_put fpX7_348_6 dX7_goesThrough_17 (by decide) ⟨rfl, rfl⟩ ?_
  refine x_aload_n dX7_goesThrough_20 rfl ?_
  refine x_iconst (v := 0) dX7_goesThrough_21 rfl ?_
  refine t_put fpX7_281_6 dX7_goesThrough_22 (by decide) ⟨rfl, rfl⟩ ?_
  refine x_aload_n dX7_goesThrough_25 rfl ?_
  refine t_cvN cvX7_250_X7 dX7_goesThrough_26 (c_X7_starts _ _ _ _ _ _ _  h13) rfl ?_
  have kk := fun Q hQ => gt_l (g := g) (B := B) (m := m) (Z := Z) (Q := Q) dg k _ hm hgo hst hQ
  rw [← hR] at kk
  refine kk _ ?_
  clear kk hgo hst hR hm
  refine x_aload_n dX7_goesThrough_73 rfl ?_
  refine x_aload_n dX7_goesThrough_74 rfl ?_
  refine t_get fgX7_278_6 dX7_goesThrough_75 rfl ?_
  refine x_if_ne 88 dX7_goesThrough_78 (by decide) (fun c78 => ?_) (fun c78 => ?_)
  · have hz : gtZ R.1.1 = 1 := if_pos (Or.inl c78)
    refine x_iconst (v := 1) dX7_goesThrough_88 rfl ?_
    refine x_goto (tgt := 93) dX7_goesThrough_89 (by decide) ?_
    refine x_iconst (v := 1) dX7_goesThrough_93 rfl ?_
    refine t_cvN cvX7_201_X7 dX7_goesThrough_94 (c_X7_must _ _ _ _ _ _ _ _ _) rfl ?_
    exact x_return dX7_goesThrough_97 rfl ⟨rfl, by rw [hz]⟩
  · have h24 : R.1.1 24 = 0 := c78
    refine x_aload_n dX7_goesThrough_81 rfl ?_
    refine t_get fgX7_348_6 dX7_goesThrough_82 rfl ?_
    refine x_diaN (vt := 0) (vf := 1) (j := 93) (fun h k => x_if_neT (tgt := 92) dX7_goesThrough_85 (by decide) h k) (fun h k => x_if_neF dX7_goesThrough_85 92 (by decide) h k) (x_ic dX7_goesThrough_92 rfl (by decide)) (x_icg dX7_goesThrough_88 rfl dX7_goesThrough_89 (by decide)) ?_
    refine x_iconst (v := 1) dX7_goesThrough_93 rfl ?_
    refine t_cvN cvX7_201_X7 dX7_goesThrough_94 (c_X7_must _ _ _ _ _ _ _ _ _) rfl ?_
    exact x_return dX7_goesThrough_97 rfl ⟨rfl, by rw [show gtZ R.1.1 = (if R.1.1 26 = 0 then 1 else 0) by unfold gtZ flI; simp only [h24, not_true_eq_false, false_or]]⟩
theorem kp_l {g : xG} {B : xA} {m : Nat} {F : Nat → Int32} {W : Int64} {S : Nat → Int32} {Z : Nat → Nat → Int32} {Q : Outcome → xA → Prop} (p : Nat → Int32) (kont : xW g iX7_keepsPast 1 40 [some (.ref m), some (.int (nI 1960))] [] (tA B m F W S (zup Z 2 (shP p 1960))) Q) : ∀ f i, f + i = 1960 → xW g iX7_keepsPast 1 11 [some (.ref m), some (.int (nI i))] [] (tA B m F W S (zup Z 2 (shP p i))) Q := by
  intro f
  induction f with
  | zero =>
    intro i hi
    rw [show i = 1960 by omega]
    refine x_iload_n dX7_keepsPast_11 rfl ?_
    refine x_sipush (v := 1960) dX7_keepsPast_12 (by decide) ?_
    refine x_icmp_geT (tgt := 40) dX7_keepsPast_15 (by decide) (nI_le (Nat.le_refl _) (by omega)) ?_
    exact kont
  | succ f ih =>
    intro i hi
    refine x_iload_n dX7_keepsPast_11 rfl ?_
    refine x_sipush (v := 1960) dX7_keepsPast_12 (by decide) ?_
    refine x_icmp_geF dX7_keepsPast_15 40 (by decide) (nI_ge (a := i) (b := 1960) (by omega) (by omega)) ?_
    refine x_aload_n dX7_keepsPast_18 rfl ?_
    refine t_get fgX7_16_6 dX7_keepsPast_19 rfl ?_
    refine x_iload_n dX7_keepsPast_22 rfl ?_
    refine x_aload_n dX7_keepsPast_23 rfl ?_
    refine t_get fgX7_16_6 dX7_keepsPast_24 rfl ?_
    refine x_iload_n dX7_keepsPast_27 rfl ?_
    refine x_sipush (v := 280) dX7_keepsPast_28 (by decide) ?_
    refine x_iadd dX7_keepsPast_31 ?_
    refine x_top (y := nI (i + 280)) (nI_add i 280) ?_
    refine t_aldZ tz2 (i + 280) dX7_keepsPast_32 rfl (by omega) ?_
    refine t_astZ tz2 i dX7_keepsPast_33 rfl (by omega) ?_
    refine x_iinc (v := nI (i + 1)) dX7_keepsPast_34 rfl (nI_1 _) (by decide) rfl ?_
    refine x_goto (tgt := 11) dX7_keepsPast_37 (by decide) ?_
    rw [zuu, show zup Z 2 (shP p i) 2 (i + 280) = shP p i (i + 280) from rfl, shP_1 p i (by omega)]
    exact ih (i + 1) (by omega)
theorem kp_b {g : xG} {B : xA} {m : Nat} {F : Nat → Int32} {W : Int64} {S : Nat → Int32} {Z : Nat → Nat → Int32} (u : Nat) (L1 : Option Value) (hu : F 5 = nI u) (h8 : u ≤ 7) : xW g iX7_keepsPast 1 50 [some (.ref m), L1] [] (tA B m F W S Z) (xRet none (tA B m (upd F 5 (nI (u + 1))) W S (zup Z 2 (va_cpy S (Z 2) 0 (280 * u) 280)))) := by
  refine x_aload_n dX7_keepsPast_50 rfl ?_
  refine t_get fgX7_7_6 dX7_keepsPast_51 rfl ?_
  refine x_iconst (v := 0) dX7_keepsPast_54 rfl ?_
  refine x_aload_n dX7_keepsPast_55 rfl ?_
  refine t_get fgX7_16_6 dX7_keepsPast_56 rfl ?_
  refine x_sipush (v := 280) dX7_keepsPast_59 (by decide) ?_
  refine x_aload_n dX7_keepsPast_62 rfl ?_
  refine t_get fgX7_259_6 dX7_keepsPast_63 rfl ?_
  refine x_top hu ?_
  refine x_imul dX7_keepsPast_66 ?_
  refine x_top (y := nI (280 * u)) (pk_mul 280 u) ?_
  refine x_csN csX7_246 dX7_keepsPast_67 (c_cpySZ _ _ _ _ _ _ _ tz2 (280 * u) (by omega) (by decide)) rfl ?_
  refine x_aload_n dX7_keepsPast_70 rfl ?_
  refine x_dup dX7_keepsPast_71 rfl ?_
  refine t_get fgX7_259_6 dX7_keepsPast_72 rfl ?_
  refine x_top hu ?_
  refine x_iconst (v := 1) dX7_keepsPast_75 rfl ?_
  refine x_iadd dX7_keepsPast_76 ?_
  refine x_top (y := nI (u + 1)) (nI_add u 1) ?_
  refine t_put fpX7_259_6 dX7_keepsPast_77 (by decide) ⟨rfl, rfl⟩ ?_
  exact x_return dX7_keepsPast_80 rfl ⟨rfl, rfl⟩
theorem c_X7_keepsPast (g : xG) (B : xA) (m : Nat) (F : Nat → Int32) (W : Int64) (S : Nat → Int32) (Z : Nat → Nat → Int32) (u : Nat) (hu : F 5 = nI u) (h8 : u ≤ 8) : xC g iX7_keepsPast 1 [.ref m] (tA B m F W S Z) (xRet none (tA B m (upd F 5 (nI (kpU u + 1))) W S (zup Z 2 (kpP (Z 2) S u)))) := by
  show xW g iX7_keepsPast 1 0 [some (.ref m), none] [] (tA B m F W S Z) (xRet none (tA B m (upd F 5 (nI (kpU u + 1))) W S (zup Z 2 (kpP (Z 2) S u))))
  by_cases hc : u = 8
  · subst hc
    refine x_aload_n dX7_keepsPast_0 rfl ?_
    refine t_get fgX7_259_6 dX7_keepsPast_1 rfl ?_
    refine x_top hu ?_
    refine x_bipush (v := 8) dX7_keepsPast_4 (by decide) ?_
    refine x_icmp_neF dX7_keepsPast_6 50 (by decide) (by decide) ?_
    refine x_iconst (v := 0) dX7_keepsPast_9 rfl ?_
    refine x_istore_n dX7_keepsPast_10 (by decide) rfl ?_
    rw [show tA B m F W S Z = tA B m F W S (zup Z 2 (shP (Z 2) 0)) by rw [shP_0, zup_id]]
    refine kp_l (Z 2) ?_ 1960 0 (by omega)
    refine x_aload_n dX7_keepsPast_40 rfl ?_
    refine x_dup dX7_keepsPast_41 rfl ?_
    refine t_get fgX7_259_6 dX7_keepsPast_42 rfl ?_
    refine x_top hu ?_
    refine x_iconst (v := 1) dX7_keepsPast_45 rfl ?_
    refine x_isub dX7_keepsPast_46 ?_
    refine x_top (show nI 8 - nI 1 = nI 7 from rfl) ?_
    refine t_put fpX7_259_6 dX7_keepsPast_47 (by decide) ⟨rfl, rfl⟩ ?_
    have kk := kp_b (g := g) (B := B) (m := m) (F := upd F 5 (nI 7)) (W := W) (S := S) (Z := zup Z 2 (shP (Z 2) 1960)) 7 (some (.int (nI 1960))) rfl (by omega)
    rw [upd_upd, zup_zup, zup_self] at kk
    exact kk
  · have e1 : kpU u = u := if_neg hc
    have e2 : kpP (Z 2) S u = va_cpy S (Z 2) 0 (280 * u) 280 := by unfold kpP; rw [e1, if_neg hc]
    rw [e1, e2]
    refine x_aload_n dX7_keepsPast_0 rfl ?_
    refine t_get fgX7_259_6 dX7_keepsPast_1 rfl ?_
    refine x_top hu ?_
    refine x_bipush (v := 8) dX7_keepsPast_4 (by decide) ?_
    refine x_icmp_neT (tgt := 50) dX7_keepsPast_6 (by decide) (fun e => hc (nI_inj (by omega) (by omega) e)) ?_
    exact kp_b u none hu (by omega)
