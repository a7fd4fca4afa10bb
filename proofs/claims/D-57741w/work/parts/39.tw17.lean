set_option maxRecDepth 100000
theorem bn_l {g : xG} {B : xA} {m : Nat} {F : Nat → Int32} {W : Int64} {S : Nat → Int32} {Z : Nat → Nat → Int32} {Q : Outcome → xA → Prop} (v s s2 : Int32) (a : Nat) (hs : ¬ s < 0) (h2 : s + Int32.ofInt (-8) = s2) (kont : xW g iX7_bytesIn 0 5 [some (.ref m), some (.int v), some (.int (nI (a + nzN v s))), some (.int s2)] [] (tA B m F W S Z) Q) : xW g iX7_bytesIn 0 5 [some (.ref m), some (.int v), some (.int (nI a)), some (.int s)] [] (tA B m F W S Z) Q := by
  refine x_iload_n dX7_bytesIn_5 rfl ?_
  refine x_if_ltF dX7_bytesIn_6 33 (by decide) hs ?_
  refine x_iload_n dX7_bytesIn_9 rfl ?_
  refine x_iload_n dX7_bytesIn_10 rfl ?_
  refine x_iload_n dX7_bytesIn_11 rfl ?_
  refine x_ishr dX7_bytesIn_12 ?_
  refine x_sipush (v := 255) dX7_bytesIn_13 (by decide) ?_
  refine x_iand dX7_bytesIn_16 ?_
  refine x_dia (vt := 0) (vf := 1) (j := 25) (fun h k => x_if_eqT (tgt := 24) dX7_bytesIn_17 (by decide) h k) (fun h k => x_if_eqF dX7_bytesIn_17 24 (by decide) h k) (x_ic dX7_bytesIn_24 rfl (by decide)) (x_icg dX7_bytesIn_20 rfl dX7_bytesIn_21 (by decide)) ?_
  refine x_top (show _ = nI (nzN v s) from nzN_I v s) ?_
  refine x_iadd dX7_bytesIn_25 ?_
  refine x_top (y := nI (a + nzN v s)) (nI_add a (nzN v s)) ?_
  refine x_istore_n dX7_bytesIn_26 (by decide) rfl ?_
  refine x_iinc (v := s2) dX7_bytesIn_27 rfl h2 (by decide) rfl ?_
  refine x_goto (tgt := 5) dX7_bytesIn_30 (by decide) ?_
  exact kont
theorem c_X7_bytesIn (g : xG) (B : xA) (m : Nat) (F : Nat → Int32) (W : Int64) (S : Nat → Int32) (Z : Nat → Nat → Int32) (v : Int32) : xC g iX7_bytesIn 0 [.ref m, .int v] (tA B m F W S Z) (xRet (some (.int (nI (bnN v)))) (tA B m F W S Z)) := by
  show xW g _ _ 0 [some (.ref m), some (.int v), none, none] [] _ _
  refine x_iconst (v := 0) dX7_bytesIn_0 rfl ?_
  refine x_istore_n dX7_bytesIn_1 (by decide) rfl ?_
  refine x_bipush (v := 24) dX7_bytesIn_2 (by decide) ?_
  refine x_istore_n dX7_bytesIn_4 (by decide) rfl ?_
  refine bn_l v 24 16 0 (by decide) (by decide) ?_
  refine bn_l v 16 8 _ (by decide) (by decide) ?_
  refine bn_l v 8 0 _ (by decide) (by decide) ?_
  refine bn_l v 0 (-8) _ (by decide) (by decide) ?_
  refine x_iload_n dX7_bytesIn_5 rfl ?_
  refine x_if_ltT (tgt := 33) dX7_bytesIn_6 (by decide) (by decide) ?_
  refine x_iload_n dX7_bytesIn_33 rfl ?_
  exact x_ireturn dX7_bytesIn_34 rfl (by first | rfl | exact ite_nar | exact itn_nar) ⟨by rw [Nat.zero_add]; rfl, rfl⟩
theorem fo_l {g : xG} {B : xA} {m : Nat} {F : Nat → Int32} {W : Int64} {S : Nat → Int32} {Z : Nat → Nat → Int32} {Q : Outcome → xA → Prop} (v s s2 : Int32) (q : Nat × (Nat → Int32)) (hs : ¬ s < 0) (h2 : s + Int32.ofInt (-8) = s2) (hb : q.1 + nzN v s ≤ 800) (kont : xW g iX7_four 0 3 [some (.ref m), some (.int v), some (.int s2)] [] (tA B m (upd F 12 (nI (foS v s q).1)) W S (zup Z 10 (foS v s q).2)) Q) : xW g iX7_four 0 3 [some (.ref m), some (.int v), some (.int s)] [] (tA B m (upd F 12 (nI (q).1)) W S (zup Z 10 (q).2)) Q := by
  refine x_iload_n dX7_four_3 rfl ?_
  refine x_if_ltF dX7_four_4 49 (by decide) hs ?_
  refine x_iload_n dX7_four_7 rfl ?_
  refine x_iload_n dX7_four_8 rfl ?_
  refine x_ishr dX7_four_9 ?_
  refine x_sipush (v := 255) dX7_four_10 (by decide) ?_
  refine x_iand dX7_four_13 ?_
  refine x_if_eq 43 dX7_four_14 (by decide) (fun c14 => ?_) (fun c14 => ?_)
  · rw [show foS v s q = q from if_pos c14] at kont
    refine x_iinc (v := s2) dX7_four_43 rfl h2 (by decide) rfl ?_
    refine x_goto (tgt := 3) dX7_four_46 (by decide) ?_
    exact kont
  · have hz : byI v s ≠ 0 := c14
    have hlt : q.1 < 800 := by have e : nzN v s = 1 := if_neg hz; omega
    rw [show foS v s q = (q.1 + 1, upd q.2 q.1 (byI v s)) from if_neg hz] at kont
    refine x_aload_n dX7_four_17 rfl ?_
    refine t_get fgX7_42_6 dX7_four_18 rfl ?_
    refine x_aload_n dX7_four_21 rfl ?_
    refine t_get fgX7_130_6 dX7_four_22 rfl ?_
    refine x_top (show _ = nI q.1 from rfl) ?_
    refine x_iload_n dX7_four_25 rfl ?_
    refine x_iload_n dX7_four_26 rfl ?_
    refine x_ishr dX7_four_27 ?_
    refine x_sipush (v := 255) dX7_four_28 (by decide) ?_
    refine x_iand dX7_four_31 ?_
    refine t_astZ tz10 q.1 dX7_four_32 rfl hlt ?_
    refine x_aload_n dX7_four_33 rfl ?_
    refine x_dup dX7_four_34 rfl ?_
    refine t_get fgX7_130_6 dX7_four_35 rfl ?_
    refine x_top (show _ = nI q.1 from rfl) ?_
    refine x_iconst (v := 1) dX7_four_38 rfl ?_
    refine x_iadd dX7_four_39 ?_
    refine x_top (y := nI (q.1 + 1)) (nI_add q.1 1) ?_
    refine t_put fpX7_130_6 dX7_four_40 (by decide) ⟨rfl, rfl⟩ ?_
    refine x_iinc (v := s2) dX7_four_43 rfl h2 (by decide) rfl ?_
    refine x_goto (tgt := 3) dX7_four_46 (by decide) ?_
    rw [upd_upd, zuu]
    exact kont
theorem c_X7_four (g : xG) (B : xA) (m : Nat) (F : Nat → Int32) (W : Int64) (S : Nat → Int32) (Z : Nat → Nat → Int32) (v : Int32) (b : Nat) (hb : F 12 = nI b) (h8 : b + bnN v ≤ 800) : xC g iX7_four 0 [.ref m, .int v] (tA B m F W S Z) (xRet none (tA B m (upd F 12 (nI (foV v (b, Z 10)).1)) W S (zup Z 10 (foV v (b, Z 10)).2))) := by
  show xW g iX7_four 0 0 [some (.ref m), some (.int v), none] [] _ _
  rw [show tA B m F W S Z = (tA B m (upd F 12 (nI ((b, Z 10)).1)) W S (zup Z 10 ((b, Z 10)).2)) by rw [show (b, Z 10).1 = b from rfl, ← hb, upd_id, zup_id]]
  have e1 := foS_1 v 24 (b, Z 10)
  have e2 := foS_1 v 16 (foS v 24 (b, Z 10))
  have e3 := foS_1 v 8 (foS v 16 (foS v 24 (b, Z 10)))
  unfold bnN at h8
  have e0 : (b, Z 10).1 = b := rfl
  refine x_bipush (v := 24) dX7_four_0 (by decide) ?_
  refine x_istore_n dX7_four_2 (by decide) rfl ?_
  refine fo_l v 24 16 _ (by decide) (by decide) (by omega) ?_
  refine fo_l v 16 8 _ (by decide) (by decide) (by omega) ?_
  refine fo_l v 8 0 _ (by decide) (by decide) (by omega) ?_
  refine fo_l v 0 (-8) _ (by decide) (by decide) (by omega) ?_
  refine x_iload_n dX7_four_3 rfl ?_
  refine x_if_ltT (tgt := 49) dX7_four_4 (by decide) (by decide) ?_
  exact x_return dX7_four_49 rfl ⟨rfl, rfl⟩
theorem bnN_le (v : Int32) : bnN v ≤ 4 := by
  have a := nzN_le v 24
  have b := nzN_le v 16
  have c := nzN_le v 8
  have d := nzN_le v 0
  unfold bnN
  omega
theorem c_X7_append_1 (g : xG) (B : xA) (m : Nat) (F : Nat → Int32) (W : Int64) (S : Nat → Int32) (Z : Nat → Nat → Int32) (a1 a2 a3 a4 a5 : Int32) (b : Nat) (hb : F 12 = nI b) (h0 : b ≤ 800) (hs : 800 < b + bnN a1 + bnN a2 + bnN a3 + bnN a4 + bnN a5) : xC g iX7_append 3 [.ref m, .int a1, .int a2, .int a3, .int a4, .int a5] (tA B m F W S Z) (xRet (some (.int 0)) (tA B m (upd F 6 1) W S Z)) := by
  have l1 := bnN_le a1
  have l2 := bnN_le a2
  have l3 := bnN_le a3
  have l4 := bnN_le a4
  have l5 := bnN_le a5
  show xW g _ _ 0 [some (.ref m), some (.int a1), some (.int a2), some (.int a3), some (.int a4), some (.int a5)] [] _ _
  refine x_aload_n dX7_append_0 rfl ?_
  refine x_iconst (v := 0) dX7_append_1 rfl ?_
  refine t_put fpX7_72_6 dX7_append_2 (by decide) ⟨rfl, rfl⟩ ?_
  refine x_aload_n dX7_append_5 rfl ?_
  refine x_aload_n dX7_append_6 rfl ?_
  refine t_get fgX7_130_6 dX7_append_7 rfl ?_
  refine x_top hb ?_
  refine x_aload_n dX7_append_10 rfl ?_
  refine x_iload_n dX7_append_11 rfl ?_
  refine t_cvV cvX7_133_X7 dX7_append_12 (c_X7_bytesIn _ _ _ _ _ _ _ a1) rfl ?_
  refine x_iadd dX7_append_15 ?_
  refine x_top (y := nI (b + bnN a1)) (nI_add b (bnN a1)) ?_
  refine x_aload_n dX7_append_16 rfl ?_
  refine x_iload_n dX7_append_17 rfl ?_
  refine t_cvV cvX7_133_X7 dX7_append_18 (c_X7_bytesIn _ _ _ _ _ _ _ a2) rfl ?_
  refine x_iadd dX7_append_21 ?_
  refine x_top (y := nI (b + bnN a1 + bnN a2)) (nI_add (b + bnN a1) (bnN a2)) ?_
  refine x_aload_n dX7_append_22 rfl ?_
  refine x_iload_n dX7_append_23 rfl ?_
  refine t_cvV cvX7_133_X7 dX7_append_24 (c_X7_bytesIn _ _ _ _ _ _ _ a3) rfl ?_
  refine x_iadd dX7_append_27 ?_
  refine x_top (y := nI (b + bnN a1 + bnN a2 + bnN a3)) (nI_add (b + bnN a1 + bnN a2) (bnN a3)) ?_
  refine x_aload_n dX7_append_28 rfl ?_
  refine x_iload dX7_append_29 rfl ?_
  refine t_cvV cvX7_133_X7 dX7_append_31 (c_X7_bytesIn _ _ _ _ _ _ _ a4) rfl ?_
  refine x_iadd dX7_append_34 ?_
  refine x_top (y := nI (b + bnN a1 + bnN a2 + bnN a3 + bnN a4)) (nI_add (b + bnN a1 + bnN a2 + bnN a3) (bnN a4)) ?_
  refine x_aload_n dX7_append_35 rfl ?_
  refine x_iload dX7_append_36 rfl ?_
  refine t_cvV cvX7_133_X7 dX7_append_38 (c_X7_bytesIn _ _ _ _ _ _ _ a5) rfl ?_
  refine x_iadd dX7_append_41 ?_
  refine x_top (y := nI (b + bnN a1 + bnN a2 + bnN a3 + bnN a4 + bnN a5)) (nI_add (b + bnN a1 + bnN a2 + bnN a3 + bnN a4) (bnN a5)) ?_
  refine x_sipush (v := 800) dX7_append_42 (by decide) ?_
  refine x_icmp_leF dX7_append_45 52 (by decide) (nI_ge hs (by omega)) ?_
  refine x_iconst (v := 1) dX7_append_48 rfl ?_
  refine x_goto (tgt := 53) dX7_append_49 (by decide) ?_
  refine x_iconst (v := 1) dX7_append_53 rfl ?_
  refine t_cvV cvX7_136_X7 dX7_append_54 (st_1 _ _ _ _ _ _ _ _ (by decide) rfl) rfl ?_
  refine x_if_eqF dX7_append_57 62 (by decide) (by decide) ?_
  refine x_iconst (v := 0) dX7_append_60 rfl ?_
  exact x_ireturn dX7_append_61 rfl (by first | rfl | exact ite_nar | exact itn_nar) ⟨rfl, by rw [upd_upd]⟩
theorem ap_b {g : xG} {B : xA} {m : Nat} {F : Nat → Int32} {W : Int64} {S : Nat → Int32} {Z : Nat → Nat → Int32} (v : Int32) (q : Nat × (Nat → Int32)) (R : Nat × (Nat → Int32)) (hR : R = foV v q) (h : q.1 + bnN v ≤ 800) : xC g iX7_four 0 [.ref m, .int v] (tA B m (upd F 12 (nI (q).1)) W S (zup Z 10 (q).2)) (xRet none (tA B m (upd F 12 (nI (R).1)) W S (zup Z 10 (R).2))) := by
  have k := c_X7_four g B m (upd F 12 (nI q.1)) W S (zup Z 10 q.2) v q.1 rfl h
  rw [upd_upd, zup_zup, zup_self, ← hR] at k
  exact k
theorem c_X7_append_ok (g : xG) (B : xA) (m : Nat) (F : Nat → Int32) (W : Int64) (S : Nat → Int32) (Z : Nat → Nat → Int32) (a1 a2 a3 a4 a5 : Int32) (b : Nat) (hb : F 12 = nI b) (h0 : b ≤ 800) (hs : b + bnN a1 + bnN a2 + bnN a3 + bnN a4 + bnN a5 ≤ 800) (p1 : Nat × (Nat → Int32)) (h1 : p1 = foV a1 (b, Z 10)) (p2 : Nat × (Nat → Int32)) (h2 : p2 = foV a2 p1) (p3 : Nat × (Nat → Int32)) (h3 : p3 = foV a3 p2) (p4 : Nat × (Nat → Int32)) (h4 : p4 = foV a4 p3) (p5 : Nat × (Nat → Int32)) (h5 : p5 = foV a5 p4) : xC g iX7_append 3 [.ref m, .int a1, .int a2, .int a3, .int a4, .int a5] (tA B m F W S Z) (xRet (some (.int (nI p5.1))) (tA B m (upd (upd F 6 0) 12 (nI p5.1)) W S (zup Z 10 p5.2))) := by
  have l1 := bnN_le a1
  have l2 := bnN_le a2
  have l3 := bnN_le a3
  have l4 := bnN_le a4
  have l5 := bnN_le a5
  have e1 : p1.1 = b + bnN a1 := by rw [h1, foV_1]
  have e2 : p2.1 = p1.1 + bnN a2 := by rw [h2, foV_1]
  have e3 : p3.1 = p2.1 + bnN a3 := by rw [h3, foV_1]
  have e4 : p4.1 = p3.1 + bnN a4 := by rw [h4, foV_1]
  have e5 : p5.1 = p4.1 + bnN a5 := by rw [h5, foV_1]
  show xW g _ _ 0 [some (.ref m), some (.int a1), some (.int a2), some (.int a3), some (.int a4), some (.int a5)] [] _ _
  refine x_aload_n dX7_append_0 rfl ?_
  refine x_iconst (v := 0) dX7_append_1 rfl ?_
  refine t_put fpX7_72_6 dX7_append_2 (by decide) ⟨rfl, rfl⟩ ?_
  refine x_aload_n dX7_append_5 rfl ?_
  refine x_aload_n dX7_append_6 rfl ?_
  refine t_get fgX7_130_6 dX7_append_7 rfl ?_
  refine x_top hb ?_
  refine x_aload_n dX7_append_10 rfl ?_
  refine x_iload_n dX7_append_11 rfl ?_
  refine t_cvV cvX7_133_X7 dX7_append_12 (c_X7_bytesIn _ _ _ _ _ _ _ a1) rfl ?_
  refine x_iadd dX7_append_15 ?_
  refine x_top (y := nI (b + bnN a1)) (nI_add b (bnN a1)) ?_
  refine x_aload_n dX7_append_16 rfl ?_
  refine x_iload_n dX7_append_17 rfl ?_
  refine t_cvV cvX7_133_X7 dX7_append_18 (c_X7_bytesIn _ _ _ _ _ _ _ a2) rfl ?_
  refine x_iadd dX7_append_21 ?_
  refine x_top (y := nI (b + bnN a1 + bnN a2)) (nI_add (b + bnN a1) (bnN a2)) ?_
  refine x_aload_n dX7_append_22 rfl ?_
  refine x_iload_n dX7_append_23 rfl ?_
  refine t_cvV cvX7_133_X7 dX7_append_24 (c_X7_bytesIn _ _ _ _ _ _ _ a3) rfl ?_
  refine x_iadd dX7_append_27 ?_
  refine x_top (y := nI (b + bnN a1 + bnN a2 + bnN a3)) (nI_add (b + bnN a1 + bnN a2) (bnN a3)) ?_
  refine x_aload_n dX7_append_28 rfl ?_
  refine x_iload dX7_append_29 rfl ?_
  refine t_cvV cvX7_133_X7 dX7_append_31 (c_X7_bytesIn _ _ _ _ _ _ _ a4) rfl ?_
  refine x_iadd dX7_append_34 ?_
  refine x_top (y := nI (b + bnN a1 + bnN a2 + bnN a3 + bnN a4)) (nI_add (b + bnN a1 + bnN a2 + bnN a3) (bnN a4)) ?_
  refine x_aload_n dX7_append_35 rfl ?_
  refine x_iload dX7_append_36 rfl ?_
  refine t_cvV cvX7_133_X7 dX7_append_38 (c_X7_bytesIn _ _ _ _ _ _ _ a5) rfl ?_
  refine x_iadd dX7_append_41 ?_
  refine x_top (y := nI (b + bnN a1 + bnN a2 + bnN a3 + bnN a4 + bnN a5)) (nI_add (b + bnN a1 + bnN a2 + bnN a3 + bnN a4) (bnN a5)) ?_
  refine x_sipush (v := 800) dX7_append_42 (by decide) ?_
  refine x_icmp_leT (tgt := 52) dX7_append_45 (by decide) (nI_le (b := 800) hs (by decide)) ?_
  refine x_iconst (v := 0) dX7_append_52 rfl ?_
  refine x_iconst (v := 1) dX7_append_53 rfl ?_
  refine t_cvV cvX7_136_X7 dX7_append_54 (st_0 _ _ _ _ _ _ _ _ (by decide) rfl) rfl ?_
  refine x_if_eqT (tgt := 62) dX7_append_57 (by decide) (by decide) ?_
  rw [show tA B m (upd F 6 0) W S Z = tA B m (upd (upd F 6 0) 12 (nI ((b, Z 10) : Nat × (Nat → Int32)).1)) W S (zup Z 10 ((b, Z 10) : Nat × (Nat → Int32)).2) by rw [show nI ((b, Z 10) : Nat × (Nat → Int32)).1 = (upd F 6 0) 12 from hb.symm, upd_id, zup_id]]
  refine x_aload_n dX7_append_62 rfl ?_
  refine x_iload_n dX7_append_63 rfl ?_
  refine t_cvN cvX7_140_X7 dX7_append_64 (ap_b (F := upd F 6 0) a1 (b, Z 10) p1 h1 (by show b + _ ≤ 800; omega)) rfl ?_
  refine x_aload_n dX7_append_67 rfl ?_
  refine x_iload_n dX7_append_68 rfl ?_
  refine t_cvN cvX7_140_X7 dX7_append_69 (ap_b (F := upd F 6 0) a2 p1 p2 h2 (by omega)) rfl ?_
  refine x_aload_n dX7_append_72 rfl ?_
  refine x_iload_n dX7_append_73 rfl ?_
  refine t_cvN cvX7_140_X7 dX7_append_74 (ap_b (F := upd F 6 0) a3 p2 p3 h3 (by omega)) rfl ?_
  refine x_aload_n dX7_append_77 rfl ?_
  refine x_iload dX7_append_78 rfl ?_
  refine t_cvN cvX7_140_X7 dX7_append_80 (ap_b (F := upd F 6 0) a4 p3 p4 h4 (by omega)) rfl ?_
  refine x_aload_n dX7_append_83 rfl ?_
  refine x_iload dX7_append_84 rfl ?_
  refine t_cvN cvX7_140_X7 dX7_append_86 (ap_b (F := upd F 6 0) a5 p4 p5 h5 (by omega)) rfl ?_
  refine x_aload_n dX7_append_89 rfl ?_
  refine t_get fgX7_130_6 dX7_append_90 rfl ?_
  exact x_ireturn dX7_append_93 rfl (by first | rfl | exact ite_nar | exact itn_nar) ⟨rfl, rfl⟩
