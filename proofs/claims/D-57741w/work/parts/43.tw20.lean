set_option maxRecDepth 100000
theorem lk_l {g : xG} {B : xA} {m : Nat} {F : Nat → Int32} {W : Int64} {S : Nat → Int32} {Z : Nat → Nat → Int32} {y1 : Int32} (hl : lOk S) : ∀ fu r n, (r < 0 ∨ ixl r 10) → fu + n = 21 → 1 ≤ n → xW g iX7_links 2 9 [some (.ref m), some (.int y1), some (.int (nI n)), some (.int r)] [] (tA B m F W S Z) (xRet (some (.int (nI (lkK S fu r n)))) (tA B m F W S Z)) := by
  intro fu
  induction fu with
  | zero =>
    intro r n hr hn h1
    have e : lkK S 0 r n = n := rfl
    rw [e]
    refine x_iload_n dX7_links_9 rfl ?_
    refine x_if_lt 32 dX7_links_10 (by decide) (fun c10 => ?_) (fun c10 => ?_)
    · refine x_iload_n dX7_links_32 rfl ?_
      exact x_ireturn dX7_links_33 rfl (by first | rfl | exact ite_nar | exact itn_nar) ⟨rfl, rfl⟩
    · refine x_iload_n dX7_links_13 rfl ?_
      refine x_bipush (v := 20) dX7_links_14 (by decide) ?_
      refine x_icmp_geT (tgt := 32) dX7_links_16 (by decide) (nI_le (a := 20) (b := n) (by omega) (by omega)) ?_
      refine x_iload_n dX7_links_32 rfl ?_
      exact x_ireturn dX7_links_33 rfl (by first | rfl | exact ite_nar | exact itn_nar) ⟨rfl, rfl⟩
  | succ fu ih =>
    intro r n hr hn h1
    have e : lkK S (fu + 1) r n = if r < 0 ∨ 20 ≤ n then n else lkK S fu (hs S r.toNatClampNeg 3) (n + 1) := rfl
    rw [e]
    refine x_iload_n dX7_links_9 rfl ?_
    refine x_if_lt 32 dX7_links_10 (by decide) (fun c10 => ?_) (fun c10 => ?_)
    · rw [if_pos (Or.inl c10)]
      refine x_iload_n dX7_links_32 rfl ?_
      exact x_ireturn dX7_links_33 rfl (by first | rfl | exact ite_nar | exact itn_nar) ⟨rfl, rfl⟩
    · have h0 := c10
      have hx := hr.resolve_left h0
      refine x_iload_n dX7_links_13 rfl ?_
      refine x_bipush (v := 20) dX7_links_14 (by decide) ?_
      refine x_icmp_ge 32 dX7_links_16 (by decide) (fun c16 => ?_) (fun c16 => ?_)
      · have h20 : 20 ≤ n := by rw [show (20 : Int32) = nI 20 from rfl, nI_leI (by omega) (by omega)] at c16; exact c16
        rw [if_pos (Or.inr h20)]
        refine x_iload_n dX7_links_32 rfl ?_
        exact x_ireturn dX7_links_33 rfl (by first | rfl | exact ite_nar | exact itn_nar) ⟨rfl, rfl⟩
      · have h20 : ¬ 20 ≤ n := fun e => c16 (nI_le e (by omega))
        rw [if_neg (fun e => e.elim h0 h20)]
        refine x_iinc (v := nI (n + 1)) dX7_links_19 rfl (nI_1 _) (by decide) rfl ?_
        refine x_aload_n dX7_links_22 rfl ?_
        refine x_iload_n dX7_links_23 rfl ?_
        refine x_top hx.1 ?_
        refine x_iconst (v := 3) dX7_links_24 rfl ?_
        refine t_cvV cvX7_75_X7 dX7_links_25 (c_X7_has _ _ _ _ _ _ _ r.toNatClampNeg 3 hx.2 (by omega)) rfl ?_
        refine x_istore_n dX7_links_28 (by decide) rfl ?_
        refine x_goto (tgt := 9) dX7_links_29 (by decide) ?_
        exact ih _ (n + 1) (hl _ hx.2) (by omega) (by omega)
theorem c_X7_links (g : xG) (B : xA) (m : Nat) (F : Nat → Int32) (W : Int64) (S : Nat → Int32) (Z : Nat → Nat → Int32) (f : Nat) (hf : f < 10) (hl : lOk S) : xC g iX7_links 2 [.ref m, .int (nI f)] (tA B m F W S Z) (xRet (some (.int (nI (lkN S f)))) (tA B m F W S Z)) := by
  show xW g _ _ 0 [some (.ref m), some (.int (nI f)), none, none] [] _ _
  refine x_iconst (v := 1) dX7_links_0 rfl ?_
  refine x_istore_n dX7_links_1 (by decide) rfl ?_
  refine x_aload_n dX7_links_2 rfl ?_
  refine x_iload_n dX7_links_3 rfl ?_
  refine x_iconst (v := 3) dX7_links_4 rfl ?_
  refine t_cvV cvX7_75_X7 dX7_links_5 (c_X7_has _ _ _ _ _ _ _ f 3 hf (by omega)) rfl ?_
  refine x_istore_n dX7_links_8 (by decide) rfl ?_
  exact lk_l hl 20 _ 1 (hl f hf) (by omega) (by omega)
theorem wr_l {g : xG} {B : xA} {m : Nat} {F : Nat → Int32} {W : Int64} {S : Nat → Int32} {Z : Nat → Nat → Int32} {Q : Outcome → xA → Prop} (f k : Nat) (x : Int32) (hf : f < 10) (h4 : k < 4) (kont : xW g iX7_wrongOf 3 25 [some (.ref m), some (.int (nI f)), some (.int (wrK S f k x)), some (.int (nI (k + 1)))] [] (tA B m F W S Z) Q) : xW g iX7_wrongOf 3 25 [some (.ref m), some (.int (nI f)), some (.int x), some (.int (nI k))] [] (tA B m F W S Z) Q := by
  refine x_iload_n dX7_wrongOf_25 rfl ?_
  refine x_iconst (v := 4) dX7_wrongOf_26 rfl ?_
  refine x_icmp_geF dX7_wrongOf_27 69 (by decide) (nI_ge (a := k) (b := 4) h4 (by omega)) ?_
  refine x_iload_n dX7_wrongOf_30 rfl ?_
  refine x_aload_n dX7_wrongOf_31 rfl ?_
  refine x_iload_n dX7_wrongOf_32 rfl ?_
  refine x_iconst (v := 5) dX7_wrongOf_33 rfl ?_
  refine x_iload_n dX7_wrongOf_34 rfl ?_
  refine x_iadd dX7_wrongOf_35 ?_
  refine x_top (y := nI (5 + k)) (nI_add 5 k) ?_
  refine t_cvV cvX7_75_X7 dX7_wrongOf_36 (c_X7_has _ _ _ _ _ _ _ f (5 + k) hf (by omega)) rfl ?_
  refine x_csV csX7_93 dX7_wrongOf_39 (c_X7_bare _ _ _) rfl ?_
  refine x_iconst (v := 2) dX7_wrongOf_42 rfl ?_
  refine x_aload_n dX7_wrongOf_43 rfl ?_
  refine x_iload_n dX7_wrongOf_44 rfl ?_
  refine x_iconst (v := 4) dX7_wrongOf_45 rfl ?_
  refine t_cvV cvX7_75_X7 dX7_wrongOf_46 (c_X7_has _ _ _ _ _ _ _ f 4 hf (by omega)) rfl ?_
  refine x_imul dX7_wrongOf_49 ?_
  refine x_icmp_le 57 dX7_wrongOf_50 (by decide) (fun c50 => ?_) (fun c50 => ?_)
  · rw [show wrK S f k x = x + 0 by unfold wrK; rw [if_neg (Int32.not_lt.mpr c50)]] at kont
    refine x_iconst (v := 0) dX7_wrongOf_57 rfl ?_
    refine x_csV csX7_110 dX7_wrongOf_58 (c_X7_flag _ _ _) rfl ?_
    refine x_iadd dX7_wrongOf_61 ?_
    refine x_istore_n dX7_wrongOf_62 (by decide) rfl ?_
    refine x_iinc (v := nI (k + 1)) dX7_wrongOf_63 rfl (nI_1 _) (by decide) rfl ?_
    refine x_goto (tgt := 25) dX7_wrongOf_66 (by decide) ?_
    exact kont
  · rw [show wrK S f k x = x + 1 by unfold wrK; rw [if_pos (Int32.not_le.mp c50)]] at kont
    refine x_iconst (v := 1) dX7_wrongOf_53 rfl ?_
    refine x_goto (tgt := 58) dX7_wrongOf_54 (by decide) ?_
    refine x_csV csX7_110 dX7_wrongOf_58 (c_X7_flag _ _ _) rfl ?_
    refine x_iadd dX7_wrongOf_61 ?_
    refine x_istore_n dX7_wrongOf_62 (by decide) rfl ?_
    refine x_iinc (v := nI (k + 1)) dX7_wrongOf_63 rfl (nI_1 _) (by decide) rfl ?_
    refine x_goto (tgt := 25) dX7_wrongOf_66 (by decide) ?_
    exact kont
theorem c_X7_wrongOf (g : xG) (B : xA) (m : Nat) (F : Nat → Int32) (W : Int64) (S : Nat → Int32) (Z : Nat → Nat → Int32) (f : Nat) (hf : f < 10) (hl : lOk S) : xC g iX7_wrongOf 3 [.ref m, .int (nI f)] (tA B m F W S Z) (xRet (some (.int (wrI S f))) (tA B m F W S Z)) := by
  show xW g _ _ 0 [some (.ref m), some (.int (nI f)), none, none] [] _ _
  refine x_aload_n dX7_wrongOf_0 rfl ?_
  refine x_iload_n dX7_wrongOf_1 rfl ?_
  refine t_cvV cvX7_418_X7 dX7_wrongOf_2 (c_X7_links _ _ _ _ _ _ _ f hf hl) rfl ?_
  refine x_aload_n dX7_wrongOf_5 rfl ?_
  refine x_iload_n dX7_wrongOf_6 rfl ?_
  refine x_iconst (v := 4) dX7_wrongOf_7 rfl ?_
  refine t_cvV cvX7_75_X7 dX7_wrongOf_8 (c_X7_has _ _ _ _ _ _ _ f 4 hf (by omega)) rfl ?_
  refine x_icmp_eq 18 dX7_wrongOf_11 (by decide) (fun c11 => ?_) (fun c11 => ?_)
  · have e0 : (if nI (lkN S f) = hs S f 4 then (0 : Int32) else 1) = 0 := if_pos c11
    refine x_iconst (v := 0) dX7_wrongOf_18 rfl ?_
    refine x_csV csX7_110 dX7_wrongOf_19 (c_X7_flag _ _ _) rfl ?_
    refine x_istore_n dX7_wrongOf_22 (by decide) rfl ?_
    refine x_iconst (v := 0) dX7_wrongOf_23 rfl ?_
    refine x_istore_n dX7_wrongOf_24 (by decide) rfl ?_
    rw [show wrI S f = wrK S f 3 (wrK S f 2 (wrK S f 1 (wrK S f 0 (if nI (lkN S f) = hs S f 4 then 0 else 1)))) from rfl, e0]
    refine wr_l f 0 _ hf (by omega) ?_
    refine wr_l f 1 _ hf (by omega) ?_
    refine wr_l f 2 _ hf (by omega) ?_
    refine wr_l f 3 _ hf (by omega) ?_
    refine x_iload_n dX7_wrongOf_25 rfl ?_
    refine x_iconst (v := 4) dX7_wrongOf_26 rfl ?_
    refine x_icmp_geT (tgt := 69) dX7_wrongOf_27 (by decide) (nI_le (a := 4) (b := 4) (by omega) (by omega)) ?_
    refine x_iload_n dX7_wrongOf_69 rfl ?_
    exact x_ireturn dX7_wrongOf_70 rfl (by first | rfl | exact ite_nar | exact itn_nar) ⟨rfl, rfl⟩
  · have e0 : (if nI (lkN S f) = hs S f 4 then (0 : Int32) else 1) = 1 := if_neg c11
    refine x_iconst (v := 1) dX7_wrongOf_14 rfl ?_
    refine x_goto (tgt := 19) dX7_wrongOf_15 (by decide) ?_
    refine x_csV csX7_110 dX7_wrongOf_19 (c_X7_flag _ _ _) rfl ?_
    refine x_istore_n dX7_wrongOf_22 (by decide) rfl ?_
    refine x_iconst (v := 0) dX7_wrongOf_23 rfl ?_
    refine x_istore_n dX7_wrongOf_24 (by decide) rfl ?_
    rw [show wrI S f = wrK S f 3 (wrK S f 2 (wrK S f 1 (wrK S f 0 (if nI (lkN S f) = hs S f 4 then 0 else 1)))) from rfl, e0]
    refine wr_l f 0 _ hf (by omega) ?_
    refine wr_l f 1 _ hf (by omega) ?_
    refine wr_l f 2 _ hf (by omega) ?_
    refine wr_l f 3 _ hf (by omega) ?_
    refine x_iload_n dX7_wrongOf_25 rfl ?_
    refine x_iconst (v := 4) dX7_wrongOf_26 rfl ?_
    refine x_icmp_geT (tgt := 69) dX7_wrongOf_27 (by decide) (nI_le (a := 4) (b := 4) (by omega) (by omega)) ?_
    refine x_iload_n dX7_wrongOf_69 rfl ?_
    exact x_ireturn dX7_wrongOf_70 rfl (by first | rfl | exact ite_nar | exact itn_nar) ⟨rfl, rfl⟩
theorem co_l {g : xG} {B : xA} {m : Nat} {F : Nat → Int32} {W : Int64} {S : Nat → Int32} {Z : Nat → Nat → Int32} {Q : Outcome → xA → Prop} (hk : tOk S) (hl : lOk S) (kont : xW g iX7_contradictions 4 97 [some (.ref m), some (.int (coS S (manyS S))), some (.int (nI (manyS S)))] [] (tA B m F W S Z) Q) : ∀ f p, f + p = manyS S → xW g iX7_contradictions 4 58 [some (.ref m), some (.int (coS S p)), some (.int (nI p))] [] (tA B m F W S Z) Q := by
  have hm := hk.1.2
  intro f
  induction f with
  | zero =>
    intro p hp
    have e : p = manyS S := by omega
    subst e
    refine x_iload_n dX7_contradictions_58 rfl ?_
    refine x_aload_n dX7_contradictions_59 rfl ?_
    refine t_get fgX7_7_6 dX7_contradictions_60 rfl ?_
    refine x_bipush (v := 13) dX7_contradictions_63 (by decide) ?_
    refine t_aldS 13 dX7_contradictions_65 rfl (by decide) ?_
    refine x_top hk.1.1 ?_
    refine x_icmp_geT (tgt := 97) dX7_contradictions_66 (by decide) (nI_le (Nat.le_refl _) (by omega)) ?_
    exact kont
  | succ f ih =>
    intro p hp
    have kk := ih (p + 1) (by omega)
    rw [show coS S (p + 1) = coK S p (coS S p) from rfl] at kk
    refine x_iload_n dX7_contradictions_58 rfl ?_
    refine x_aload_n dX7_contradictions_59 rfl ?_
    refine t_get fgX7_7_6 dX7_contradictions_60 rfl ?_
    refine x_bipush (v := 13) dX7_contradictions_63 (by decide) ?_
    refine t_aldS 13 dX7_contradictions_65 rfl (by decide) ?_
    refine x_top hk.1.1 ?_
    refine x_icmp_geF dX7_contradictions_66 97 (by decide) (nI_ge (by omega) (by omega)) ?_
    refine x_iload_n dX7_contradictions_69 rfl ?_
    refine x_aload_n dX7_contradictions_70 rfl ?_
    refine x_iload_n dX7_contradictions_71 rfl ?_
    refine x_iconst (v := 2) dX7_contradictions_72 rfl ?_
    refine t_cvV cvX7_75_X7 dX7_contradictions_73 (c_X7_has _ _ _ _ _ _ _ p 2 (by omega) (by omega)) rfl ?_
    refine x_iconst (v := 1) dX7_contradictions_76 rfl ?_
    refine x_icmp_ne 88 dX7_contradictions_77 (by decide) (fun c77 => ?_) (fun c77 => ?_)
    · rw [show coK S p (coS S p) = coS S p + 0 by unfold coK; rw [if_neg c77]] at kk
      refine x_iconst (v := 0) dX7_contradictions_88 rfl ?_
      refine x_iadd dX7_contradictions_89 ?_
      refine x_istore_n dX7_contradictions_90 (by decide) rfl ?_
      refine x_iinc (v := nI (p + 1)) dX7_contradictions_91 rfl (nI_1 _) (by decide) rfl ?_
      refine x_goto (tgt := 58) dX7_contradictions_94 (by decide) ?_
      exact kk
    · rw [show coK S p (coS S p) = coS S p + wrI S p by unfold coK; rw [if_pos c77]] at kk
      refine x_aload_n dX7_contradictions_80 rfl ?_
      refine x_iload_n dX7_contradictions_81 rfl ?_
      refine t_cvV cvX7_421_X7 dX7_contradictions_82 (c_X7_wrongOf _ _ _ _ _ _ _ p (by omega) hl) rfl ?_
      refine x_goto (tgt := 89) dX7_contradictions_85 (by decide) ?_
      refine x_iadd dX7_contradictions_89 ?_
      refine x_istore_n dX7_contradictions_90 (by decide) rfl ?_
      refine x_iinc (v := nI (p + 1)) dX7_contradictions_91 rfl (nI_1 _) (by decide) rfl ?_
      refine x_goto (tgt := 58) dX7_contradictions_94 (by decide) ?_
      exact kk
theorem c_X7_contradictions (g : xG) (B : xA) (m : Nat) (F : Nat → Int32) (W : Int64) (S : Nat → Int32) (Z : Nat → Nat → Int32) (hk : tOk S) (hl : lOk S) : xC g iX7_contradictions 4 [.ref m] (tA B m F W S Z) (xRet (some (.int (coS S (manyS S)))) (tA B m (upd F 6 0) W S Z)) := by
  show xW g _ _ 0 [some (.ref m), none, none] [] _ _
  refine x_aload_n dX7_contradictions_0 rfl ?_
  refine x_iconst (v := 0) dX7_contradictions_1 rfl ?_
  refine t_put fpX7_72_6 dX7_contradictions_2 (by decide) ⟨rfl, rfl⟩ ?_
  refine x_aload_n dX7_contradictions_5 rfl ?_
  refine t_get fgX7_7_6 dX7_contradictions_6 rfl ?_
  refine x_iconst (v := 5) dX7_contradictions_9 rfl ?_
  refine t_aldS 5 dX7_contradictions_10 rfl (by decide) ?_
  refine x_aload_n dX7_contradictions_11 rfl ?_
  refine t_get fgX7_7_6 dX7_contradictions_12 rfl ?_
  refine x_iconst (v := 3) dX7_contradictions_15 rfl ?_
  refine t_aldS 3 dX7_contradictions_16 rfl (by decide) ?_
  refine x_isub dX7_contradictions_17 ?_
  refine x_aload_n dX7_contradictions_18 rfl ?_
  refine t_get fgX7_7_6 dX7_contradictions_19 rfl ?_
  refine x_bipush (v := 7) dX7_contradictions_22 (by decide) ?_
  refine t_aldS 7 dX7_contradictions_24 rfl (by decide) ?_
  refine x_isub dX7_contradictions_25 ?_
  refine x_csV csX7_93 dX7_contradictions_26 (c_X7_bare _ _ _) rfl ?_
  refine x_aload_n dX7_contradictions_29 rfl ?_
  refine t_get fgX7_7_6 dX7_contradictions_30 rfl ?_
  refine x_bipush (v := 6) dX7_contradictions_33 (by decide) ?_
  refine t_aldS 6 dX7_contradictions_35 rfl (by decide) ?_
  refine x_aload_n dX7_contradictions_36 rfl ?_
  refine t_get fgX7_7_6 dX7_contradictions_37 rfl ?_
  refine x_iconst (v := 4) dX7_contradictions_40 rfl ?_
  refine t_aldS 4 dX7_contradictions_41 rfl (by decide) ?_
  refine x_isub dX7_contradictions_42 ?_
  refine x_aload_n dX7_contradictions_43 rfl ?_
  refine t_get fgX7_7_6 dX7_contradictions_44 rfl ?_
  refine x_bipush (v := 8) dX7_contradictions_47 (by decide) ?_
  refine t_aldS 8 dX7_contradictions_49 rfl (by decide) ?_
  refine x_isub dX7_contradictions_50 ?_
  refine x_csV csX7_93 dX7_contradictions_51 (c_X7_bare _ _ _) rfl ?_
  refine x_iadd dX7_contradictions_54 ?_
  refine x_istore_n dX7_contradictions_55 (by decide) rfl ?_
  refine x_iconst (v := 0) dX7_contradictions_56 rfl ?_
  refine x_istore_n dX7_contradictions_57 (by decide) rfl ?_
  refine co_l hk hl ?_ (manyS S) 0 (Nat.add_zero _)
  refine x_iload_n dX7_contradictions_97 rfl ?_
  exact x_ireturn dX7_contradictions_98 rfl (by first | rfl | exact ite_nar | exact itn_nar) ⟨rfl, rfl⟩
theorem md_l {g : xG} {B : xA} {m : Nat} {F : Nat → Int32} {W : Int64} {S : Nat → Int32} {Z : Nat → Nat → Int32} {Q : Outcome → xA → Prop} (hk : tOk S) (kont : xW g iX7_meanDeviation 4 65 [some (.ref m), some (.int (nI (mdS S (4 * manyS S)).1)), some (.int (mdS S (4 * manyS S)).2), some (.int (nI (4 * manyS S)))] [] (tA B m F W S Z) Q) : ∀ f p, f + p = 4 * manyS S → xW g iX7_meanDeviation 4 11 [some (.ref m), some (.int (nI (mdS S p).1)), some (.int (mdS S p).2), some (.int (nI p))] [] (tA B m F W S Z) Q := by
  have hm := hk.1.2
  intro f
  induction f with
  | zero =>
    intro p hp
    have e : p = 4 * manyS S := by omega
    subst e
    refine x_iload_n dX7_meanDeviation_11 rfl ?_
    refine x_iconst (v := 4) dX7_meanDeviation_12 rfl ?_
    refine x_aload_n dX7_meanDeviation_13 rfl ?_
    refine t_get fgX7_7_6 dX7_meanDeviation_14 rfl ?_
    refine x_bipush (v := 13) dX7_meanDeviation_17 (by decide) ?_
    refine t_aldS 13 dX7_meanDeviation_19 rfl (by decide) ?_
    refine x_top hk.1.1 ?_
    refine x_imul dX7_meanDeviation_20 ?_
    refine x_top (y := nI (4 * (manyS S))) (pk_mul 4 (manyS S)) ?_
    refine x_icmp_geT (tgt := 65) dX7_meanDeviation_21 (by decide) (nI_le (Nat.le_refl _) (by omega)) ?_
    exact kont
  | succ f ih =>
    intro p hp
    have kk := ih (p + 1) (by omega)
    rw [show mdS S (p + 1) = mdK S p (mdS S p) from rfl] at kk
    generalize mdS S p = w at kk ⊢
    refine x_iload_n dX7_meanDeviation_11 rfl ?_
    refine x_iconst (v := 4) dX7_meanDeviation_12 rfl ?_
    refine x_aload_n dX7_meanDeviation_13 rfl ?_
    refine t_get fgX7_7_6 dX7_meanDeviation_14 rfl ?_
    refine x_bipush (v := 13) dX7_meanDeviation_17 (by decide) ?_
    refine t_aldS 13 dX7_meanDeviation_19 rfl (by decide) ?_
    refine x_top hk.1.1 ?_
    refine x_imul dX7_meanDeviation_20 ?_
    refine x_top (y := nI (4 * (manyS S))) (pk_mul 4 (manyS S)) ?_
    refine x_icmp_geF dX7_meanDeviation_21 65 (by decide) (nI_ge (by omega) (by omega)) ?_
    refine x_aload_n dX7_meanDeviation_24 rfl ?_
    refine x_iload_n dX7_meanDeviation_25 rfl ?_
    refine x_iconst (v := 4) dX7_meanDeviation_26 rfl ?_
    refine x_idiv dX7_meanDeviation_27 (by decide) ?_
    refine x_top (y := nI (p / 4)) (div4 p (by omega)) ?_
    refine x_iload_n dX7_meanDeviation_28 rfl ?_
    refine x_iconst (v := 4) dX7_meanDeviation_29 rfl ?_
    refine x_irem dX7_meanDeviation_30 (by decide) ?_
    refine x_top (y := nI (p % 4)) (rem4 p (by omega)) ?_
    refine t_cvV cvX7_85_X7 dX7_meanDeviation_31 (c_X7_isOff _ _ _ _ _ _ _ (p / 4) (p % 4) (by omega) (by omega)) rfl ?_
    refine x_if_ne 59 dX7_meanDeviation_34 (by decide) (fun c34 => ?_) (fun c34 => ?_)
    · rw [show mdK S p w = w from if_pos (flI_n.mp c34)] at kk
      refine x_iinc (v := nI (p + 1)) dX7_meanDeviation_59 rfl (nI_1 _) (by decide) rfl ?_
      refine x_goto (tgt := 11) dX7_meanDeviation_62 (by decide) ?_
      exact kk
    · rw [show mdK S p w = _ from if_neg (flI_0.mp c34)] at kk
      refine x_iinc (v := nI (w.1 + 1)) dX7_meanDeviation_37 rfl (nI_1 _) (by decide) rfl ?_
      refine x_iload_n dX7_meanDeviation_40 rfl ?_
      refine x_aload_n dX7_meanDeviation_41 rfl ?_
      refine x_iload_n dX7_meanDeviation_42 rfl ?_
      refine x_iconst (v := 4) dX7_meanDeviation_43 rfl ?_
      refine x_idiv dX7_meanDeviation_44 (by decide) ?_
      refine x_top (y := nI (p / 4)) (div4 p (by omega)) ?_
      refine x_bipush (v := 9) dX7_meanDeviation_45 (by decide) ?_
      refine x_iload_n dX7_meanDeviation_47 rfl ?_
      refine x_iconst (v := 4) dX7_meanDeviation_48 rfl ?_
      refine x_irem dX7_meanDeviation_49 (by decide) ?_
      refine x_top (y := nI (p % 4)) (rem4 p (by omega)) ?_
      refine x_iadd dX7_meanDeviation_50 ?_
      refine x_top (y := nI (9 + p % 4)) (nI_add 9 (p % 4)) ?_
      refine t_cvV cvX7_75_X7 dX7_meanDeviation_51 (c_X7_has _ _ _ _ _ _ _ (p / 4) (9 + p % 4) (by omega) (by omega)) rfl ?_
      refine x_csV csX7_93 dX7_meanDeviation_54 (c_X7_bare _ _ _) rfl ?_
      refine x_iadd dX7_meanDeviation_57 ?_
      refine x_istore_n dX7_meanDeviation_58 (by decide) rfl ?_
      refine x_iinc (v := nI (p + 1)) dX7_meanDeviation_59 rfl (nI_1 _) (by decide) rfl ?_
      refine x_goto (tgt := 11) dX7_meanDeviation_62 (by decide) ?_
      exact kk
theorem c_X7_meanDeviation_0 (g : xG) (B : xA) (m : Nat) (F : Nat → Int32) (W : Int64) (S : Nat → Int32) (Z : Nat → Nat → Int32) (hk : tOk S) (hn : (mdS S (4 * manyS S)).1 = 0) : xC g iX7_meanDeviation 4 [.ref m] (tA B m F W S Z) (xRet (some (.double FP.dconst0)) (tA B m (upd F 6 0) W S Z)) := by
  show xW g _ _ 0 [some (.ref m), none, none, none] [] _ _
  refine x_aload_n dX7_meanDeviation_0 rfl ?_
  refine x_iconst (v := 0) dX7_meanDeviation_1 rfl ?_
  refine t_put fpX7_72_6 dX7_meanDeviation_2 (by decide) ⟨rfl, rfl⟩ ?_
  refine x_iconst (v := 0) dX7_meanDeviation_5 rfl ?_
  refine x_istore_n dX7_meanDeviation_6 (by decide) rfl ?_
  refine x_iconst (v := 0) dX7_meanDeviation_7 rfl ?_
  refine x_istore_n dX7_meanDeviation_8 (by decide) rfl ?_
  refine x_iconst (v := 0) dX7_meanDeviation_9 rfl ?_
  refine x_istore_n dX7_meanDeviation_10 (by decide) rfl ?_
  refine md_l hk ?_ (4 * manyS S) 0 (Nat.add_zero _)
  refine x_iload_n dX7_meanDeviation_65 rfl ?_
  refine x_if_neF dX7_meanDeviation_66 73 (by decide) (by rw [hn]; rfl) ?_
  refine x_dconst0 dX7_meanDeviation_69 ?_
  refine x_goto (tgt := 78) dX7_meanDeviation_70 (by decide) ?_
  exact x_dreturn dX7_meanDeviation_78 rfl ⟨rfl, rfl⟩
