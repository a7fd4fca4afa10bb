set_option maxRecDepth 100000
theorem ld_l {g : xG} {B : xA} {m : Nat} {F : Nat → Int32} {W : Int64} {S : Nat → Int32} {Z : Nat → Nat → Int32} {Q : Outcome → xA → Prop} (kont : xW g iX7_load 9 44 [some (.ref m), some (.int (nI 280))] [] (tA B m F W (zrS S 280) Z) Q) : ∀ f i, f + i = 280 → xW g iX7_load 9 24 [some (.ref m), some (.int (nI i))] [] (tA B m F W (zrS S i) Z) Q := by
  intro f
  induction f with
  | zero =>
    intro i hi
    rw [show i = 280 by omega]
    refine x_iload_n dX7_load_24 rfl ?_
    refine x_sipush (v := 280) dX7_load_25 (by decide) ?_
    refine x_icmp_geT (tgt := 44) dX7_load_28 (by decide) (nI_le (Nat.le_refl _) (by omega)) ?_
    exact kont
  | succ f ih =>
    intro i hi
    refine x_iload_n dX7_load_24 rfl ?_
    refine x_sipush (v := 280) dX7_load_25 (by decide) ?_
    refine x_icmp_geF dX7_load_28 44 (by decide) (nI_ge (a := i) (b := 280) (by omega) (by omega)) ?_
    refine x_aload_n dX7_load_31 rfl ?_
    refine t_get fgX7_7_6 dX7_load_32 rfl ?_
    refine x_iload_n dX7_load_35 rfl ?_
    refine x_iconst (v := 0) dX7_load_36 rfl ?_
    refine t_astS i dX7_load_37 rfl (by omega) ?_
    refine x_iinc (v := nI (i + 1)) dX7_load_38 rfl (nI_1 _) (by decide) rfl ?_
    refine x_goto (tgt := 24) dX7_load_41 (by decide) ?_
    rw [zrS_1]
    exact ih (i + 1) (by omega)
theorem c_X7_load_bad (g : xG) (B : xA) (m : Nat) (F : Nat → Int32) (W : Int64) (S : Nat → Int32) (Z : Nat → Nat → Int32) (n : Nat) (Z1 : Nat → Nat → Int32) (R : tR) (hb : F 12 = nI n) (hn : n ≤ 800) (hZ : Z1 = (zup (zup Z 11 (txV n (Z 10) (Z 11))) 1 (va_cpy S (Z 1) 0 0 280))) (hR : R = seX (Z1 11) (stX (Z1 11) (tkF (upd F 6 0), W), zrS S 280)) (hbad : ¬ R.1.1 18 = 0) : xC g iX7_load 9 [.ref m] (tA B m F W S Z) (xRet (some (.int (R.1.1 18))) (tA B m (teF R.1.1) R.1.2 (va_cpy (Z1 1) R.2 0 0 280) Z1)) := by
  show xW g iX7_load 9 0 [some (.ref m), none] [] _ _
  refine x_aload_n dX7_load_0 rfl ?_
  refine x_iconst (v := 0) dX7_load_1 rfl ?_
  refine t_put fpX7_72_6 dX7_load_2 (by decide) ⟨rfl, rfl⟩ ?_
  refine x_aload_n dX7_load_5 rfl ?_
  refine t_cvN cvX7_243_X7 dX7_load_6 (c_X7_takesText _ _ _ _ _ _ _  n hb hn) rfl ?_
  refine x_aload_n dX7_load_9 rfl ?_
  refine t_get fgX7_7_6 dX7_load_10 rfl ?_
  refine x_iconst (v := 0) dX7_load_13 rfl ?_
  refine x_aload_n dX7_load_14 rfl ?_
  refine t_get fgX7_13_6 dX7_load_15 rfl ?_
  refine x_iconst (v := 0) dX7_load_18 rfl ?_
  refine x_csN csX7_246 dX7_load_19 (c_cpySZ _ _ _ _ _ _ _ tz1 0 (by decide) (by decide)) rfl ?_
  rw [show zup (zup Z 11 (txV n (Z 10) (Z 11))) 1 (va_cpy S (zup Z 11 (txV n (Z 10) (Z 11)) 1) 0 0 280) = Z1 from hZ.symm]
  clear hZ
  refine x_iconst (v := 0) dX7_load_22 rfl ?_
  refine x_istore_n dX7_load_23 (by decide) rfl ?_
  have h13 : tkF (upd F 6 0) 13 = nI n := hb
  rw [show tA B m (tkF (upd F 6 0)) W S Z1 = tA B m (tkF (upd F 6 0)) W (zrS S 0) Z1 by rw [zrS_0]]
  refine ld_l ?_ 280 0 (by omega)
  have i13 : ixl (tkF (upd F 6 0) 13) 801 := by rw [h13]; exact ixl_nI (by omega) (by omega)
  refine x_aload_n dX7_load_44 rfl ?_
  refine t_cvN cvX7_250_X7 dX7_load_45 (c_X7_starts _ _ _ _ _ _ _  i13) rfl ?_
  have hT : TI (stX (Z1 11) (tkF (upd F 6 0), W)).1 := TI_sc ⟨i13, ixl_nI (Nat.succ_pos _) (by have := i13.2; show (tkF (upd F 6 0) 13).toNatClampNeg + 1 ≤ _; omega)⟩
  have hS := zr_ok (S := S) hT
  generalize stX (Z1 11) (tkF (upd F 6 0), W) = q at hS hR hT ⊢
  refine x_aload_n dX7_load_48 rfl ?_
  refine t_cvN cvX7_253_X7 dX7_load_49 (c_X7_setup _ _ _ _ _ _ _  hS) rfl ?_
  rw [show seX (Z1 11) ((q.1, q.2), zrS S 280) = R from hR.symm]
  clear hR hS
  refine x_aload_n dX7_load_52 rfl ?_
  refine t_cvN cvX7_256_X7 dX7_load_53 (c_X7_tellsError _ _ _ _ _ _ _ ) rfl ?_
  refine x_aload_n dX7_load_56 rfl ?_
  refine t_get fgX7_189_6 dX7_load_57 rfl ?_
  refine x_if_eqF dX7_load_60 81 (by decide) hbad ?_
  refine x_aload_n dX7_load_63 rfl ?_
  refine t_get fgX7_13_6 dX7_load_64 rfl ?_
  refine x_iconst (v := 0) dX7_load_67 rfl ?_
  refine x_aload_n dX7_load_68 rfl ?_
  refine t_get fgX7_7_6 dX7_load_69 rfl ?_
  refine x_iconst (v := 0) dX7_load_72 rfl ?_
  refine x_csN csX7_246 dX7_load_73 (c_cpyZS _ _ _ _ _ _ _ tz1 0 (by decide) (by decide)) rfl ?_
  refine x_aload_n dX7_load_76 rfl ?_
  refine t_get fgX7_189_6 dX7_load_77 rfl ?_
  exact x_ireturn dX7_load_80 rfl (by first | rfl | exact ite_nar | exact itn_nar) ⟨rfl, rfl⟩
theorem c_X7_load_ok (g : xG) (B : xA) (m : Nat) (F : Nat → Int32) (W : Int64) (S : Nat → Int32) (Z : Nat → Nat → Int32) (n : Nat) (Z1 : Nat → Nat → Int32) (R : tR) (hb : F 12 = nI n) (hn : n ≤ 800) (hZ : Z1 = (zup (zup Z 11 (txV n (Z 10) (Z 11))) 1 (va_cpy S (Z 1) 0 0 280))) (hR : R = seX (Z1 11) (stX (Z1 11) (tkF (upd F 6 0), W), zrS S 280)) (hbad : R.1.1 18 = 0) : xC g iX7_load 9 [.ref m] (tA B m F W S Z) (xRet (some (.int 0)) (tA B m (upd (teF R.1.1) 5 0) R.1.2 (storesS R.2) (zup Z1 4 (upd (upd (Z1 4) 0 0) 1 0)))) := by
  show xW g iX7_load 9 0 [some (.ref m), none] [] _ _
  refine x_aload_n dX7_load_0 rfl ?_
  refine x_iconst (v := 0) dX7_load_1 rfl ?_
  refine t_put fpX7_72_6 dX7_load_2 (by decide) ⟨rfl, rfl⟩ ?_
  refine x_aload_n dX7_load_5 rfl ?_
  refine t_cvN cvX7_243_X7 dX7_load_6 (c_X7_takesText _ _ _ _ _ _ _  n hb hn) rfl ?_
  refine x_aload_n dX7_load_9 rfl ?_
  refine t_get fgX7_7_6 dX7_load_10 rfl ?_
  refine x_iconst (v := 0) dX7_load_13 rfl ?_
  refine x_aload_n dX7_load_14 rfl ?_
  refine t_get fgX7_13_6 dX7_load_15 rfl ?_
  refine x_iconst (v := 0) dX7_load_18 rfl ?_
  refine x_csN csX7_246 dX7_load_19 (c_cpySZ _ _ _ _ _ _ _ tz1 0 (by decide) (by decide)) rfl ?_
  rw [show zup (zup Z 11 (txV n (Z 10) (Z 11))) 1 (va_cpy S (zup Z 11 (txV n (Z 10) (Z 11)) 1) 0 0 280) = Z1 from hZ.symm]
  clear hZ
  refine x_iconst (v := 0) dX7_load_22 rfl ?_
  refine x_istore_n dX7_load_23 (by decide) rfl ?_
  have h13 : tkF (upd F 6 0) 13 = nI n := hb
  rw [show tA B m (tkF (upd F 6 0)) W S Z1 = tA B m (tkF (upd F 6 0)) W (zrS S 0) Z1 by rw [zrS_0]]
  refine ld_l ?_ 280 0 (by omega)
  have i13 : ixl (tkF (upd F 6 0) 13) 801 := by rw [h13]; exact ixl_nI (by omega) (by omega)
  refine x_aload_n dX7_load_44 rfl ?_
  refine t_cvN cvX7_250_X7 dX7_load_45 (c_X7_starts _ _ _ _ _ _ _  i13) rfl ?_
  have hT : TI (stX (Z1 11) (tkF (upd F 6 0), W)).1 := TI_sc ⟨i13, ixl_nI (Nat.succ_pos _) (by have := i13.2; show (tkF (upd F 6 0) 13).toNatClampNeg + 1 ≤ _; omega)⟩
  have hS := zr_ok (S := S) hT
  generalize stX (Z1 11) (tkF (upd F 6 0), W) = q at hS hR hT ⊢
  refine x_aload_n dX7_load_48 rfl ?_
  refine t_cvN cvX7_253_X7 dX7_load_49 (c_X7_setup _ _ _ _ _ _ _  hS) rfl ?_
  rw [show seX (Z1 11) ((q.1, q.2), zrS S 280) = R from hR.symm]
  clear hR hS
  refine x_aload_n dX7_load_52 rfl ?_
  refine t_cvN cvX7_256_X7 dX7_load_53 (c_X7_tellsError _ _ _ _ _ _ _ ) rfl ?_
  refine x_aload_n dX7_load_56 rfl ?_
  refine t_get fgX7_189_6 dX7_load_57 rfl ?_
  refine x_if_eqT (tgt := 81) dX7_load_60 (by decide) hbad ?_
  refine x_aload_n dX7_load_81 rfl ?_
  refine t_cvN cvX7_69_X7 dX7_load_82 (c_X7_stores _ _ _ _ _ _ _ ) rfl ?_
  refine x_aload_n dX7_load_85 rfl ?_
  refine x_iconst (v := 0) dX7_load_86 rfl ?_
  refine t_put fpX7_259_6 dX7_load_87 (by decide) ⟨rfl, rfl⟩ ?_
  refine x_aload_n dX7_load_90 rfl ?_
  refine t_get fgX7_22_6 dX7_load_91 rfl ?_
  refine x_iconst (v := 0) dX7_load_94 rfl ?_
  refine x_iconst (v := 0) dX7_load_95 rfl ?_
  refine t_astK 0 dX7_load_96 rfl (by decide) rfl ?_
  refine x_aload_n dX7_load_97 rfl ?_
  refine t_get fgX7_22_6 dX7_load_98 rfl ?_
  refine x_iconst (v := 1) dX7_load_101 rfl ?_
  refine x_iconst (v := 0) dX7_load_102 rfl ?_
  refine t_astK 1 dX7_load_103 rfl (by decide) rfl ?_
  refine x_iconst (v := 0) dX7_load_104 rfl ?_
  exact x_ireturn dX7_load_105 rfl (by first | rfl | exact ite_nar | exact itn_nar) ⟨rfl, by rw [zup_zup, zup_self]⟩
