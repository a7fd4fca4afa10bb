set_option maxRecDepth 100000
theorem zM_id {Z : Nat → Nat → Int32} {q : tQ} {S : Nat → Int32} : zM Z (q, (S, Z 8), Z 28, Z 29) = Z := by
  funext j
  unfold zM zup
  split
  · rename_i h; rw [h]
  · split
    · rename_i h; rw [h]
    · split
      · rename_i h; rw [h]
      · rfl
theorem c_X7_runScript_bad (g : xG) (B : xA) (m : Nat) (F : Nat → Int32) (W : Int64) (S : Nat → Int32) (Z : Nat → Nat → Int32) (n u k1 : Nat) (Z1 : Nat → Nat → Int32) (R1 : tM) (hb : F 12 = nI n) (hn : n ≤ 800) (hk : rOk S) (hZ : Z1 = zup Z 11 (txV n (Z 10) (Z 11))) (hgo : ∀ j, j < k1 → goM (itM (Z1 11) j (gtS (Z1 11) 0 ((tkF (upd F 6 0), W), (S, Z1 8), Z1 28, Z1 29)))) (hst : ¬ goM (itM (Z1 11) k1 (gtS (Z1 11) 0 ((tkF (upd F 6 0), W), (S, Z1 8), Z1 28, Z1 29)))) (hR : R1 = itM (Z1 11) k1 (gtS (Z1 11) 0 ((tkF (upd F 6 0), W), (S, Z1 8), Z1 28, Z1 29))) (hbad : ¬ (teF (muF R1.1.1 (gtZ R1.1.1) 1)) 18 = 0) : xC g iX7_runScript 12 [.ref m] (tA B m F W S Z) (xRet (some (.int (-1))) (tA B m (teF (muF R1.1.1 (gtZ R1.1.1) 1)) R1.1.2 R1.2.1.1 (zM Z1 R1))) := by
  show xW g iX7_runScript 12 0 [some (.ref m)] [] _ _
  have i13 : ixl (tkF (upd F 6 0) 13) 801 := by rw [show tkF (upd F 6 0) 13 = nI n from hb]; exact ixl_nI (by omega) (by omega)
  refine x_aload_n dX7_runScript_0 rfl ?_
  refine x_iconst (v := 0) dX7_runScript_1 rfl ?_
  refine t_put fpX7_72_6 dX7_runScript_2 (by decide) ⟨rfl, rfl⟩ ?_
  refine x_aload_n dX7_runScript_5 rfl ?_
  refine t_cvN cvX7_243_X7 dX7_runScript_6 (c_X7_takesText _ _ _ _ _ _ _  n hb hn) rfl ?_
  rw [show zup Z 11 (txV n (Z 10) (Z 11)) = Z1 from hZ.symm]
  clear hZ
  rw [show tA B m (tkF (upd F 6 0)) W S Z1 = tA B m (tkF (upd F 6 0)) W S (zM Z1 ((tkF (upd F 6 0), W), (S, Z1 8), Z1 28, Z1 29)) by rw [zM_id]]
  refine x_aload_n dX7_runScript_9 rfl ?_
  refine x_iconst (v := 0) dX7_runScript_10 rfl ?_
  refine t_cvN cvX7_377_X7 dX7_runScript_11 (c_X7_goesThrough _ _ _ Z1 0 ⟨rfl, rfl⟩ (tkF (upd F 6 0), W) (S, Z1 8) (Z1 28) (Z1 29) k1 R1 i13 hk hgo hst hR) rfl ?_
  clear hR hst hgo
  refine x_aload_n dX7_runScript_14 rfl ?_
  refine t_cvN cvX7_256_X7 dX7_runScript_15 (c_X7_tellsError _ _ _ _ _ _ _ ) rfl ?_
  skip
  refine x_aload_n dX7_runScript_18 rfl ?_
  refine t_get fgX7_189_6 dX7_runScript_19 rfl ?_
  refine x_if_eqF dX7_runScript_22 27 (by decide) hbad ?_
  refine x_iconst (v := (-1)) dX7_runScript_25 rfl ?_
  exact x_ireturn dX7_runScript_26 rfl (by first | rfl | exact ite_nar | exact itn_nar) ⟨rfl, rfl⟩
theorem c_X7_runScript_ok (g : xG) (B : xA) (m : Nat) (F : Nat → Int32) (W : Int64) (S : Nat → Int32) (Z : Nat → Nat → Int32) (n u k1 : Nat) (Z1 : Nat → Nat → Int32) (R1 : tM) (hb : F 12 = nI n) (hn : n ≤ 800) (hk : rOk S) (hZ : Z1 = zup Z 11 (txV n (Z 10) (Z 11))) (hgo : ∀ j, j < k1 → goM (itM (Z1 11) j (gtS (Z1 11) 0 ((tkF (upd F 6 0), W), (S, Z1 8), Z1 28, Z1 29)))) (hst : ¬ goM (itM (Z1 11) k1 (gtS (Z1 11) 0 ((tkF (upd F 6 0), W), (S, Z1 8), Z1 28, Z1 29)))) (hR : R1 = itM (Z1 11) k1 (gtS (Z1 11) 0 ((tkF (upd F 6 0), W), (S, Z1 8), Z1 28, Z1 29))) (k2 : Nat) (F2 : Nat → Int32) (Z2 : Nat → Nat → Int32) (R2 : tM) (hF2 : F2 = (teF (muF R1.1.1 (gtZ R1.1.1) 1))) (hZ2 : Z2 = (zup (zM Z1 R1) 2 (kpP ((zM Z1 R1) 2) R1.2.1.1 u))) (hu : F2 5 = nI u) (h8 : u ≤ 8) (h13 : ixl (F2 13) 801) (hk1 : rOk R1.2.1.1) (hgo2 : ∀ j, j < k2 → goM (itM (Z2 11) j (gtS (Z2 11) 1 ((upd F2 5 (nI (kpU u + 1)), R1.1.2), (R1.2.1.1, Z2 8), Z2 28, Z2 29)))) (hst2 : ¬ goM (itM (Z2 11) k2 (gtS (Z2 11) 1 ((upd F2 5 (nI (kpU u + 1)), R1.1.2), (R1.2.1.1, Z2 8), Z2 28, Z2 29)))) (hR2 : R2 = itM (Z2 11) k2 (gtS (Z2 11) 1 ((upd F2 5 (nI (kpU u + 1)), R1.1.2), (R1.2.1.1, Z2 8), Z2 28, Z2 29))) (hbad : F2 18 = 0) : xC g iX7_runScript 12 [.ref m] (tA B m F W S Z) (xRet (some (.int (muF R2.1.1 (gtZ R2.1.1) 1 27))) (tA B m (muF R2.1.1 (gtZ R2.1.1) 1) R2.1.2 R2.2.1.1 (zM Z2 R2))) := by
  show xW g iX7_runScript 12 0 [some (.ref m)] [] _ _
  have i13 : ixl (tkF (upd F 6 0) 13) 801 := by rw [show tkF (upd F 6 0) 13 = nI n from hb]; exact ixl_nI (by omega) (by omega)
  refine x_aload_n dX7_runScript_0 rfl ?_
  refine x_iconst (v := 0) dX7_runScript_1 rfl ?_
  refine t_put fpX7_72_6 dX7_runScript_2 (by decide) ⟨rfl, rfl⟩ ?_
  refine x_aload_n dX7_runScript_5 rfl ?_
  refine t_cvN cvX7_243_X7 dX7_runScript_6 (c_X7_takesText _ _ _ _ _ _ _  n hb hn) rfl ?_
  rw [show zup Z 11 (txV n (Z 10) (Z 11)) = Z1 from hZ.symm]
  clear hZ
  rw [show tA B m (tkF (upd F 6 0)) W S Z1 = tA B m (tkF (upd F 6 0)) W S (zM Z1 ((tkF (upd F 6 0), W), (S, Z1 8), Z1 28, Z1 29)) by rw [zM_id]]
  refine x_aload_n dX7_runScript_9 rfl ?_
  refine x_iconst (v := 0) dX7_runScript_10 rfl ?_
  refine t_cvN cvX7_377_X7 dX7_runScript_11 (c_X7_goesThrough _ _ _ Z1 0 ⟨rfl, rfl⟩ (tkF (upd F 6 0), W) (S, Z1 8) (Z1 28) (Z1 29) k1 R1 i13 hk hgo hst hR) rfl ?_
  clear hR hst hgo
  refine x_aload_n dX7_runScript_14 rfl ?_
  refine t_cvN cvX7_256_X7 dX7_runScript_15 (c_X7_tellsError _ _ _ _ _ _ _ ) rfl ?_
  rw [← hF2]
  refine x_aload_n dX7_runScript_18 rfl ?_
  refine t_get fgX7_189_6 dX7_runScript_19 rfl ?_
  refine x_if_eqT (tgt := 27) dX7_runScript_22 (by decide) hbad ?_
  refine x_aload_n dX7_runScript_27 rfl ?_
  refine t_cvN cvX7_380_X7 dX7_runScript_28 (c_X7_keepsPast _ _ _ _ _ _ _  u hu h8) rfl ?_
  rw [← hZ2]
  clear hZ2
  rw [show tA B m (upd F2 5 (nI (kpU u + 1))) R1.1.2 R1.2.1.1 Z2 = tA B m (upd F2 5 (nI (kpU u + 1))) R1.1.2 R1.2.1.1 (zM Z2 ((upd F2 5 (nI (kpU u + 1)), R1.1.2), (R1.2.1.1, Z2 8), Z2 28, Z2 29)) by rw [zM_id]]
  refine x_aload_n dX7_runScript_31 rfl ?_
  refine x_iconst (v := 1) dX7_runScript_32 rfl ?_
  refine t_cvN cvX7_377_X7 dX7_runScript_33 (c_X7_goesThrough _ _ _ Z2 1 ⟨rfl, rfl⟩ (upd F2 5 (nI (kpU u + 1)), R1.1.2) (R1.2.1.1, Z2 8) (Z2 28) (Z2 29) k2 R2 h13 hk1 hgo2 hst2 hR2) rfl ?_
  refine x_aload_n dX7_runScript_36 rfl ?_
  refine t_get fgX7_281_6 dX7_runScript_37 rfl ?_
  exact x_ireturn dX7_runScript_40 rfl (by first | rfl | exact ite_nar | exact itn_nar) ⟨rfl, rfl⟩
