set_option maxRecDepth 100000
theorem zM_28 {Z : Nat → Nat → Int32} {q : tQ} {h : tH} {O G f : Nat → Int32} : zup (zM Z (q, h, O, G)) 28 f = zM Z (q, h, f, G) := by
  funext j
  unfold zM zup
  split <;> (split <;> first | rfl | omega)
theorem zM_29 {Z : Nat → Nat → Int32} {q : tQ} {h : tH} {O G f : Nat → Int32} : zup (zM Z (q, h, O, G)) 29 f = zM Z (q, h, O, f) := by
  funext j
  unfold zM zup
  split <;> rfl
theorem zM_8 {Z : Nat → Nat → Int32} {q q' : tQ} {h h' : tH} {O G : Nat → Int32} : zup (zM Z (q, h, O, G)) 8 h'.2 = zM Z (q', h', O, G) := by
  funext j
  unfold zM zup
  by_cases c : j = 8
  · subst c; rfl
  · simp only [if_neg c]
theorem ag_b {g : xG} {B : xA} {m : Nat} {Z : Nat → Nat → Int32} (t : Int32) (q : tQ) (h : tH) (O G : Nat → Int32) (R : tM) (hR : R = agB t (goX (Z 11) q, h, O, G)) (ht : TI q.1) (h26 : ixl (q.1 26) 3) : xW g iX7_againOrder 5 46 [some (.ref m), some (.int t)] [] (tA B m q.1 q.2 h.1 (zM Z (q, h, O, G))) (xRet none (tA B m R.1.1 R.1.2 R.2.1.1 (zM Z R))) := by
  have hq : TI (goX (Z 11) q).1 := TI_go ht
  have e26 := (fr_go (T := Z 11) (q := q)) 26 (by omega)
  rw [show zM Z (q, h, O, G) = zM Z (goX (Z 11) q, h, O, G) from rfl]
  refine x_aload_n dX7_againOrder_46 rfl ?_
  refine t_cvN cvX7_205_X7 dX7_againOrder_47 (c_X7_goesOn _ _ _ _ _ _ _  (by apply_rules [TI.j, TI_sc, TI_mu, TI_go, TI_sg, TI_rdF, TI_rd, TI_cm0, TI_cm, TI_nt, TI_swF, TI_swT, TI_sx, TI_soT, TI_woT])) rfl ?_
  change xW g iX7_againOrder 5 50 _ _ (tA B m (goX (Z 11) q).1 (goX (Z 11) q).2 h.1 (zM Z (goX (Z 11) q, h, O, G))) _
  rw [← e26] at h26
  generalize goX (Z 11) q = s at hR hq h26 ⊢
  refine x_aload_n dX7_againOrder_50 rfl ?_
  refine t_get fgX7_189_6 dX7_againOrder_51 rfl ?_
  refine x_if_ne 94 dX7_againOrder_54 (by decide) (fun c54 => ?_) (fun c54 => ?_)
  · rw [show agB t (s, h, O, G) = (s, h, O, G) from if_neg c54] at hR
    exact x_return dX7_againOrder_94 rfl ⟨rfl, by rw [hR]⟩
  · rw [show agB t (s, h, O, G) = _ from if_pos c54] at hR
    have ei : s.1 26 + 1 - 1 = nI (opN s.1) := by rw [show s.1 26 = nI (opN s.1) from h26.1, nI_1]; exact pk_sub (b := 1) (Nat.le_add_left 1 _)
    refine x_aload_n dX7_againOrder_57 rfl ?_
    refine x_dup dX7_againOrder_58 rfl ?_
    refine t_get fgX7_348_6 dX7_againOrder_59 rfl ?_
    refine x_iconst (v := 1) dX7_againOrder_62 rfl ?_
    refine x_iadd dX7_againOrder_63 ?_
    refine t_put fpX7_348_6 dX7_againOrder_64 (by decide) ⟨rfl, rfl⟩ ?_
    refine x_aload_n dX7_againOrder_67 rfl ?_
    refine t_get fgX7_52_6 dX7_againOrder_68 rfl ?_
    refine x_aload_n dX7_againOrder_71 rfl ?_
    refine t_get fgX7_348_6 dX7_againOrder_72 rfl ?_
    refine x_iconst (v := 1) dX7_againOrder_75 rfl ?_
    refine x_isub dX7_againOrder_76 ?_
    refine x_top (show _ = nI (opN s.1) from ei) ?_
    refine x_aload_n dX7_againOrder_77 rfl ?_
    refine t_get fgX7_164_6 dX7_againOrder_78 rfl ?_
    refine t_astZ tz28 (opN s.1) dX7_againOrder_81 rfl (by have := h26.2; unfold opN; omega) ?_
    refine x_aload_n dX7_againOrder_82 rfl ?_
    refine t_get fgX7_55_6 dX7_againOrder_83 rfl ?_
    refine x_aload_n dX7_againOrder_86 rfl ?_
    refine t_get fgX7_348_6 dX7_againOrder_87 rfl ?_
    refine x_iconst (v := 1) dX7_againOrder_90 rfl ?_
    refine x_isub dX7_againOrder_91 ?_
    refine x_top (show _ = nI (opN s.1) from ei) ?_
    refine x_iload_n dX7_againOrder_92 rfl ?_
    rw [show zM Z (s, h, O, G) 28 = O from rfl, zM_28]
    refine t_astZ tz29 (opN s.1) dX7_againOrder_93 rfl (by have := h26.2; unfold opN; omega) ?_
    exact x_return dX7_againOrder_94 rfl ⟨rfl, by rw [zM_29, hR]; rfl⟩
theorem c_X7_againOrder (g : xG) (B : xA) (m : Nat) (Z : Nat → Nat → Int32) (q : tQ) (h : tH) (O G : Nat → Int32) (R : tM) (hR : R = agX (Z 11) (q, h, O, G)) (hm : MI (q, h, O, G)) : xC g iX7_againOrder 5 [.ref m] (tA B m q.1 q.2 h.1 (zM Z (q, h, O, G))) (xRet none (tA B m R.1.1 R.1.2 R.2.1.1 (zM Z R))) := by
  show xW g iX7_againOrder 5 0 [some (.ref m), none] [] (tA B m q.1 q.2 h.1 (zM Z (q, h, O, G))) (xRet none (tA B m R.1.1 R.1.2 R.2.1.1 (zM Z R)))
  have ht : TI q.1 := hm.1
  have h26 : ixl (q.1 26) 3 := hm.2.1
  have t := TI_rd (T := Z 11) (lo := 1) (hi := 20) ht
  have a := fr_rd (T := Z 11) (lo := 1) (hi := 20) (q := q)
  rw [show agX (Z 11) (q, h, O, G) = agB (rdI (Z 11) 1 20 q) (goX (Z 11) (agF (Z 11) (rdX (Z 11) 1 20 q), (rdX (Z 11) 1 20 q).2), h, O, G) from rfl] at hR
  refine x_aload_n dX7_againOrder_0 rfl ?_
  refine x_iconst (v := 1) dX7_againOrder_1 rfl ?_
  refine x_bipush (v := 20) dX7_againOrder_2 (by decide) ?_
  refine t_cvV cvX7_208_X7 dX7_againOrder_4 (c_X7_reads _ _ _ _ _ _ _ _ _ (by apply_rules [TI.j, TI_sc, TI_mu, TI_go, TI_sg, TI_rdF, TI_rd, TI_cm0, TI_cm, TI_nt, TI_swF, TI_swT, TI_sx, TI_soT, TI_woT])) rfl ?_
  change xW g iX7_againOrder 5 7 _ (.int (rdI (Z 11) 1 20 q) :: _) (tA B m (rdX (Z 11) 1 20 q).1 (rdX (Z 11) 1 20 q).2 h.1 (zM Z (rdX (Z 11) 1 20 q, h, O, G))) _
  rw [← a 26 (by omega)] at h26
  generalize rdX (Z 11) 1 20 q = s at hR t h26 ⊢
  generalize rdI (Z 11) 1 20 q = t9 at hR ⊢
  have hF : ∀ z, z = (if isI (Z 11) (muF s.1 (isI (Z 11) s.1 40) 1) 40 = 0 then 1 else if 2 ≤ muF s.1 (isI (Z 11) s.1 40) 1 26 then 0 else 1) → muF (muF s.1 (isI (Z 11) s.1 40) 1) z 4 = agF (Z 11) s := fun z hz => by rw [hz]; rfl
  have kk := ag_b (g := g) (B := B) (m := m) (Z := Z) t9 (agF (Z 11) s, s.2) h O G R hR (TI_agF t) (by have := fr_agF (T := Z 11) (q := s) 26 (by omega); show ixl (agF (Z 11) s 26) 3; rw [this]; exact h26)
  clear hR
  refine x_istore_n dX7_againOrder_7 (by decide) rfl ?_
  refine x_aload_n dX7_againOrder_8 rfl ?_
  refine x_aload_n dX7_againOrder_9 rfl ?_
  refine x_bipush (v := 40) dX7_againOrder_10 (by decide) ?_
  refine t_cvV cvX7_198_X7 dX7_againOrder_12 (c_X7_isSign _ _ _ _ _ _ _ _ (by apply_rules [TI.j, TI_sc, TI_mu, TI_go, TI_sg, TI_rdF, TI_rd, TI_cm0, TI_cm, TI_nt, TI_swF, TI_swT, TI_sx, TI_soT, TI_woT])) rfl ?_
  refine x_iconst (v := 1) dX7_againOrder_15 rfl ?_
  refine t_cvN cvX7_201_X7 dX7_againOrder_16 (c_X7_must _ _ _ _ _ _ _ _ _) rfl ?_
  refine x_aload_n dX7_againOrder_19 rfl ?_
  refine x_aload_n dX7_againOrder_20 rfl ?_
  refine x_bipush (v := 40) dX7_againOrder_21 (by decide) ?_
  refine t_cvV cvX7_198_X7 dX7_againOrder_23 (c_X7_isSign _ _ _ _ _ _ _ _ (by apply_rules [TI.j, TI_sc, TI_mu, TI_go, TI_sg, TI_rdF, TI_rd, TI_cm0, TI_cm, TI_nt, TI_swF, TI_swT, TI_sx, TI_soT, TI_woT])) rfl ?_
  refine x_if_eq 37 dX7_againOrder_26 (by decide) (fun c26 => ?_) (fun c26 => ?_)
  · have hz : isI (Z 11) (muF s.1 (isI (Z 11) s.1 40) 1) 40 = 0 := c26
    refine x_iconst (v := 1) dX7_againOrder_37 rfl ?_
    refine x_goto (tgt := 42) dX7_againOrder_38 (by decide) ?_
    refine x_iconst (v := 4) dX7_againOrder_42 rfl ?_
    refine t_cvN cvX7_201_X7 dX7_againOrder_43 (c_X7_must _ _ _ _ _ _ _ _ _) rfl ?_
    have e := hF 1 (by rw [if_pos hz])
    rw [← e] at kk
    exact kk
  · have hz : ¬ isI (Z 11) (muF s.1 (isI (Z 11) s.1 40) 1) 40 = 0 := c26
    refine x_aload_n dX7_againOrder_29 rfl ?_
    refine t_get fgX7_348_6 dX7_againOrder_30 rfl ?_
    refine x_iconst (v := 2) dX7_againOrder_33 rfl ?_
    refine x_dia (vt := 0) (vf := 1) (j := 42) (fun h k => x_icmp_geT (tgt := 41) dX7_againOrder_34 (by decide) h k) (fun h k => x_icmp_geF dX7_againOrder_34 41 (by decide) h k) (x_ic dX7_againOrder_41 rfl (by decide)) (x_icg dX7_againOrder_37 rfl dX7_againOrder_38 (by decide)) ?_
    refine x_iconst (v := 4) dX7_againOrder_42 rfl ?_
    refine t_cvN cvX7_201_X7 dX7_againOrder_43 (c_X7_must _ _ _ _ _ _ _ _ _) rfl ?_
    have e := hF _ (by rw [if_neg hz])
    rw [← e] at kk
    exact kk
theorem c_X7_closes (g : xG) (B : xA) (m : Nat) (Z : Nat → Nat → Int32) (q : tQ) (h : tH) (O G : Nat → Int32) (R : tM) (hR : R = clX (Z 11) (q, h, O, G)) (hm : MI (q, h, O, G)) : xC g iX7_closes 5 [.ref m] (tA B m q.1 q.2 h.1 (zM Z (q, h, O, G))) (xRet none (tA B m R.1.1 R.1.2 R.2.1.1 (zM Z R))) := by
  show xW g iX7_closes 5 0 [some (.ref m)] [] (tA B m q.1 q.2 h.1 (zM Z (q, h, O, G))) (xRet none (tA B m R.1.1 R.1.2 R.2.1.1 (zM Z R)))
  have ht : TI q.1 := hm.1
  have h26 : ixl (q.1 26) 3 := hm.2.1
  have hc := cl_op (F := q.1) h26
  have ho : ∀ i, i < opN q.1 → ixl (O i) (lmN q.1 + 1) := hm.2.2.1
  have tc : TI (muF q.1 (clZ q.1) 1) := TI_mu ht
  unfold clX at hR
  refine x_aload_n dX7_closes_0 rfl ?_
  refine x_aload_n dX7_closes_1 rfl ?_
  refine t_get fgX7_348_6 dX7_closes_2 rfl ?_
  refine x_dia (vt := 0) (vf := 1) (j := 13) (fun h k => x_if_leT (tgt := 12) dX7_closes_5 (by decide) h k) (fun h k => x_if_leF dX7_closes_5 12 (by decide) h k) (x_ic dX7_closes_12 rfl (by decide)) (x_icg dX7_closes_8 rfl dX7_closes_9 (by decide)) ?_
  refine x_iconst (v := 1) dX7_closes_13 rfl ?_
  refine t_cvN cvX7_201_X7 dX7_closes_14 (c_X7_must _ _ _ _ _ _ _ _ _) rfl ?_
  change xW g iX7_closes 5 17 _ _ (tA B m (muF q.1 (clZ q.1) 1) q.2 h.1 (zM Z (q, h, O, G))) _
  refine x_aload_n dX7_closes_17 rfl ?_
  refine t_get fgX7_189_6 dX7_closes_18 rfl ?_
  refine x_if_eq 25 dX7_closes_21 (by decide) (fun c21 => ?_) (fun c21 => ?_)
  · obtain ⟨hop, hb, e⟩ := hc c21
    rw [if_neg (fun k => k c21)] at hR
    rw [e]
    clear e tc hc
    have ei : q.1 26 - 1 = nI (opN q.1 - 1) := by rw [show q.1 26 = nI (opN q.1) from h26.1]; exact pk_sub (b := 1) hop
    refine x_aload_n dX7_closes_25 rfl ?_
    refine t_get fgX7_55_6 dX7_closes_26 rfl ?_
    refine x_aload_n dX7_closes_29 rfl ?_
    refine t_get fgX7_348_6 dX7_closes_30 rfl ?_
    refine x_iconst (v := 1) dX7_closes_33 rfl ?_
    refine x_isub dX7_closes_34 ?_
    refine x_top (show q.1 26 - 1 = nI (opN q.1 - 1) from ei) ?_
    refine x_dup2 dX7_closes_35 rfl rfl ?_
    refine t_aldZ tz29 (opN q.1 - 1) dX7_closes_36 rfl (by have := h26.2; have e : opN q.1 = (q.1 26).toNatClampNeg := rfl; omega) ?_
    refine x_iconst (v := 1) dX7_closes_37 rfl ?_
    refine x_isub dX7_closes_38 ?_
    rw [show zM Z (q, h, O, G) 29 = G from rfl]
    refine t_astZ tz29 (opN q.1 - 1) dX7_closes_39 rfl (by have := h26.2; have e : opN q.1 = (q.1 26).toNatClampNeg := rfl; omega) ?_
    rw [show zM Z (q, h, O, G) 29 = G from rfl, zM_29]
    have c9 : (zM Z (q, h, O, upd G (opN q.1 - 1) (G (opN q.1 - 1) - 1))) 29 (opN q.1 - 1) = G (opN q.1 - 1) - 1 := upd_self _ _ _
    refine x_aload_n dX7_closes_40 rfl ?_
    refine t_get fgX7_274_6 dX7_closes_41 rfl ?_
    refine x_if_eq 81 dX7_closes_44 (by decide) (fun c44 => ?_) (fun c44 => ?_)
    · rw [if_pos (Or.inl c44)] at hR
      refine x_aload_n dX7_closes_81 rfl ?_
      refine x_dup dX7_closes_82 rfl ?_
      refine t_get fgX7_348_6 dX7_closes_83 rfl ?_
      refine x_iconst (v := 1) dX7_closes_86 rfl ?_
      refine x_isub dX7_closes_87 ?_
      refine t_put fpX7_348_6 dX7_closes_88 (by decide) ⟨rfl, rfl⟩ ?_
      refine x_aload_n dX7_closes_91 rfl ?_
      have tu : TI (upd q.1 26 (q.1 26 - 1)) := TI_eq ht rfl rfl rfl rfl
      rw [show (((q, h, O, G) : tM).1.1 26 - 1) = q.1 26 - 1 from rfl] at hR
      change xW g iX7_closes 5 92 _ _ (tA B m (upd q.1 26 (q.1 26 - 1)) q.2 h.1 _) _
      generalize upd q.1 26 (q.1 26 - 1) = U at hR tu ⊢
      refine t_cvN cvX7_205_X7 dX7_closes_92 (c_X7_goesOn _ _ _ _ _ _ _  (by apply_rules [TI.j, TI_sc, TI_mu, TI_go, TI_sg, TI_rdF, TI_rd, TI_cm0, TI_cm, TI_nt, TI_swF, TI_swT, TI_sx, TI_soT, TI_woT])) rfl ?_
      change xW g iX7_closes 5 95 _ _ (tA B m (goX (Z 11) (U, q.2)).1 (goX (Z 11) (U, q.2)).2 h.1 _) _
      have tv : TI (goX (Z 11) (U, q.2)).1 := TI_go tu
      change R = (sgX (Z 11) 59 (goX (Z 11) (U, q.2)), _) at hR
      generalize goX (Z 11) (U, q.2) = s at hR tv ⊢
      refine x_aload_n dX7_closes_95 rfl ?_
      refine x_bipush (v := 59) dX7_closes_96 (by decide) ?_
      refine t_cvN cvX7_232_X7 dX7_closes_98 (c_X7_sign _ _ _ _ _ _ _ _ (by apply_rules [TI.j, TI_sc, TI_mu, TI_go, TI_sg, TI_rdF, TI_rd, TI_cm0, TI_cm, TI_nt, TI_swF, TI_swT, TI_sx, TI_soT, TI_woT])) rfl ?_
      exact x_return dX7_closes_101 rfl ⟨rfl, by rw [hR]; rfl⟩
    · have hd : ¬ q.1 23 = 0 := c44
      refine x_aload_n dX7_closes_47 rfl ?_
      refine t_get fgX7_55_6 dX7_closes_48 rfl ?_
      refine x_aload_n dX7_closes_51 rfl ?_
      refine t_get fgX7_348_6 dX7_closes_52 rfl ?_
      refine x_iconst (v := 1) dX7_closes_55 rfl ?_
      refine x_isub dX7_closes_56 ?_
      refine x_top (show q.1 26 - 1 = nI (opN q.1 - 1) from ei) ?_
      refine t_aldZ tz29 (opN q.1 - 1) dX7_closes_57 rfl (by have := h26.2; have e : opN q.1 = (q.1 26).toNatClampNeg := rfl; omega) ?_
      refine x_top c9 ?_
      refine x_if_le 81 dX7_closes_58 (by decide) (fun c58 => ?_) (fun c58 => ?_)
      · rw [if_pos (Or.inr c58)] at hR
        refine x_aload_n dX7_closes_81 rfl ?_
        refine x_dup dX7_closes_82 rfl ?_
        refine t_get fgX7_348_6 dX7_closes_83 rfl ?_
        refine x_iconst (v := 1) dX7_closes_86 rfl ?_
        refine x_isub dX7_closes_87 ?_
        refine t_put fpX7_348_6 dX7_closes_88 (by decide) ⟨rfl, rfl⟩ ?_
        refine x_aload_n dX7_closes_91 rfl ?_
        have tu : TI (upd q.1 26 (q.1 26 - 1)) := TI_eq ht rfl rfl rfl rfl
        rw [show (((q, h, O, G) : tM).1.1 26 - 1) = q.1 26 - 1 from rfl] at hR
        change xW g iX7_closes 5 92 _ _ (tA B m (upd q.1 26 (q.1 26 - 1)) q.2 h.1 _) _
        generalize upd q.1 26 (q.1 26 - 1) = U at hR tu ⊢
        refine t_cvN cvX7_205_X7 dX7_closes_92 (c_X7_goesOn _ _ _ _ _ _ _  (by apply_rules [TI.j, TI_sc, TI_mu, TI_go, TI_sg, TI_rdF, TI_rd, TI_cm0, TI_cm, TI_nt, TI_swF, TI_swT, TI_sx, TI_soT, TI_woT])) rfl ?_
        change xW g iX7_closes 5 95 _ _ (tA B m (goX (Z 11) (U, q.2)).1 (goX (Z 11) (U, q.2)).2 h.1 _) _
        have tv : TI (goX (Z 11) (U, q.2)).1 := TI_go tu
        change R = (sgX (Z 11) 59 (goX (Z 11) (U, q.2)), _) at hR
        generalize goX (Z 11) (U, q.2) = s at hR tv ⊢
        refine x_aload_n dX7_closes_95 rfl ?_
        refine x_bipush (v := 59) dX7_closes_96 (by decide) ?_
        refine t_cvN cvX7_232_X7 dX7_closes_98 (c_X7_sign _ _ _ _ _ _ _ _ (by apply_rules [TI.j, TI_sc, TI_mu, TI_go, TI_sg, TI_rdF, TI_rd, TI_cm0, TI_cm, TI_nt, TI_swF, TI_swT, TI_sx, TI_soT, TI_woT])) rfl ?_
        exact x_return dX7_closes_101 rfl ⟨rfl, by rw [hR]; rfl⟩
      · rw [if_neg (fun k => k.elim hd c58)] at hR
        refine x_aload_n dX7_closes_61 rfl ?_
        refine x_aload_n dX7_closes_62 rfl ?_
        refine t_get fgX7_52_6 dX7_closes_63 rfl ?_
        refine x_aload_n dX7_closes_66 rfl ?_
        refine t_get fgX7_348_6 dX7_closes_67 rfl ?_
        refine x_iconst (v := 1) dX7_closes_70 rfl ?_
        refine x_isub dX7_closes_71 ?_
        refine x_top (show q.1 26 - 1 = nI (opN q.1 - 1) from ei) ?_
        refine t_aldZ tz28 (opN q.1 - 1) dX7_closes_72 rfl (by have := h26.2; have e : opN q.1 = (q.1 26).toNatClampNeg := rfl; omega) ?_
        refine t_put fpX7_159_6 dX7_closes_73 (by decide) ⟨rfl, rfl⟩ ?_
        refine x_aload_n dX7_closes_76 rfl ?_
        refine t_cvN cvX7_195_X7 dX7_closes_77 (c_X7_scan _ _ _ _ _ _ _  ⟨ht.1.1, ho _ (by omega)⟩) rfl ?_
        exact x_return dX7_closes_80 rfl ⟨rfl, by rw [hR]; rfl⟩
  · rw [if_pos c21] at hR
    exact x_return dX7_closes_24 rfl ⟨rfl, by rw [hR]; rfl⟩
