set_option maxRecDepth 100000
/-! A HALL CHANGES: tuneRow -/
theorem fgS_w {S : Nat → Int32} {f w : Nat} (hw : w = 2 ∨ w = 4) : ∀ {n}, f < n → hs (fgS n S) f w = 0
  | 0, h => absurd h (Nat.not_lt_zero _)
  | n + 1, h => by
    show hs (fgK n (fgS n S)) f w = 0
    by_cases e : f = n
    · subst e
      rcases hw with rfl | rfl
      · exact (upd_ne _ _ (by omega)).trans ((upd_ne _ _ (by omega)).trans (upd_self _ _ _))
      · exact upd_self _ _ _
    · exact ((upd_ne _ _ (by omega)).trans ((upd_ne _ _ (by omega)).trans (upd_ne _ _ (by omega)))).trans (fgS_w hw (n := n) (by omega))
theorem c_X3_tuneRow (g : xG) (A : xA) (E τ : Nat → Nat) (σ : Nat → Nat → Nat) (tf : Nat → Nat → Int32) (S Y : Nat → Int32) (hB : HB g E τ σ tf S Y A) (hg : gW g E) : xC g iX3_tuneRow 14 [.ref (σ 0 0)] A (xRs fun u A' => u = some (.int (roundI S Y)) ∧ ∃ τ' N H K V tf', HB g E τ' (sg7 σ N H K V) tf' (roundS S Y).1 (roundS S Y).2 A' ∧ hst τ A τ' A' 160 3520) := by
  generalize hS1 : upd S 15 (S 15 + 1) = Sa
  have hB1 : HB g E τ σ tf Sa Y (xup A (σ 0 0) (xHl Sa (σ 0 1) (σ 0 2) (σ 0 3) (σ 0 4) (σ 0 5))) := hB.uh (fun i hi => by rw [← hS1]; exact upd_ne _ _ (by omega))
  have s1 : hst τ A τ (xup A (σ 0 0) (xHl Sa (σ 0 1) (σ 0 2) (σ 0 3) (σ 0 4) (σ 0 5))) 0 0 := hst_up (h_t hB)
  obtain ⟨es, ks, vs, hM, v1, v2, v3⟩ := hB1.fm
  show xW g _ _ 0 [some (.ref (σ 0 0)), none, none, none, none] [] _ _
  refine x_aload_n dX3_tuneRow_0 rfl ?_
  refine x_dup dX3_tuneRow_1 rfl ?_
  refine x_get fgX3_61_2 dX3_tuneRow_2 (Or.inl hB.h) rfl ?_
  refine x_iconst (v := 1) dX3_tuneRow_5 rfl ?_
  refine x_iadd dX3_tuneRow_6 ?_
  refine x_put fpX3_61_2 dX3_tuneRow_7 hB.h ⟨rfl, rfl⟩ (by exact Nat.le_of_ble_eq_true rfl) ?_
  refine xW.eqA (show _ = xup A (σ 0 0) (xHl Sa (σ 0 1) (σ 0 2) (σ 0 3) (σ 0 4) (σ 0 5)) by rw [← hS1]; rfl) ?_
  refine x_aload_n dX3_tuneRow_10 rfl ?_
  refine x_get fgX3_35_2 dX3_tuneRow_11 (Or.inl hB1.h) rfl ?_
  refine v_cvE (q := (RJ8, TJ8, 1)) cvX3_188_J8 dX3_tuneRow_14 (Or.inl hB1.fs.2.2) rfl (c_J7_clear g _ _ (σ 0 5) (σ 0 6) (fgN Sa) (σ 7) (σ 8) (σ 9) (σ 10) es ks vs hB1.fs.2.2 hM) rfl (fun u A2 hP => ?_)
  obtain ⟨rfl, q1, q2, q3⟩ := hP
  generalize hS2 : upd Sa 19 0 = Sb
  have e0 : fgN Sb = 0 := by rw [← hS2]; unfold fgN; rw [upd_self]; rfl
  have hx : (xup A (σ 0 0) (xHl Sa (σ 0 1) (σ 0 2) (σ 0 3) (σ 0 4) (σ 0 5))).2.1 ≤ A2.2.1 := by rw [q3]; exact Nat.le_refl _
  have f7 : ∀ r, τ r ≠ 7 → A2.1 r = _ := fun r hr => q2 r hr
  have hMp : hMp τ 7 A2 (σ 0 6) (fgN Sb) (σ 7) (σ 8) (σ 9) (σ 10) := by
    rw [e0]
    exact ⟨es, ks, vs, q1, fun w hw => (v1 w hw).fr hx (fun _ _ => rfl) (fun r _ h0 => f7 r (by rw [h0]; decide)), fun w hw => (v2 w hw).fr hx (fun _ _ => rfl) (fun r _ h0 => f7 r (by rw [h0]; decide)), fun w hw => (v3 w hw).fr hx (fun _ _ => rfl) (fun r _ h0 => f7 r (by rw [h0]; decide))⟩
  have hB2 := hB1.u7 (S' := Sb) hx (fun _ _ => rfl) (fun r _ hr => f7 r hr) (fun i hi => by rw [← hS2]; exact upd_ne _ _ (by omega)) hMp (fun j hj => by rw [e0] at hj; exact absurd hj (Nat.not_lt_zero _)) (by rw [e0, ← hS2]; exact upd_self _ _ _) (by rw [e0]; exact Nat.zero_le _)
  rw [sg7_id] at hB2
  have s2 := s1.tr (hst_0 (τ := τ) (t := 7) (by decide) f7 q3)
  refine x_iconst (v := 0) dX3_tuneRow_17 rfl ?_
  refine x_istore_n dX3_tuneRow_18 (by decide) rfl ?_
  have er0 : ro0 S Y = (fgS (manyS Sb) Sb, fgY (manyS Sb) Y) := by rw [← hS2, ← hS1]; rfl
  have ers : roundS S Y = ((roS (rowS (fgS (manyS Sb) Sb)) (fgS (manyS Sb) Sb, fgY (manyS Sb) Y, none)).1, (roS (rowS (fgS (manyS Sb) Sb)) (fgS (manyS Sb) Sb, fgY (manyS Sb) Y, none)).2.1) := by
    unfold roundS
    rw [er0]
  have eri : roundI S Y = itS (manyS (roS (rowS (fgS (manyS Sb) Sb)) (fgS (manyS Sb) Sb, fgY (manyS Sb) Y, none)).1) (roS (rowS (fgS (manyS Sb) Sb)) (fgS (manyS Sb) Sb, fgY (manyS Sb) Y, none)).1 := by
    unfold roundI
    rw [ers]
  refine tfo_l g E τ σ tf Sb Y _ τ A (fun A3 hB3 s3 => ?_) (manyS Sb) 0 A2 (by omega) hB2 (s2.le (by omega) (by omega))
  have hm0 : manyS (fgS (manyS Sb) Sb) = manyS Sb := (hdE_fg (manyS Sb) Sb).many
  refine x_null dX3_tuneRow_50 ?_
  refine x_astore_nN dX3_tuneRow_51 (by decide) rfl ?_
  refine x_iconst (v := 0) dX3_tuneRow_52 rfl ?_
  refine x_istore_n dX3_tuneRow_53 (by decide) rfl ?_
  refine x_iconst (v := 0) dX3_tuneRow_54 rfl ?_
  refine x_istore_n dX3_tuneRow_55 (by decide) rfl ?_
  have e19 : fgN (fgS (manyS Sb) Sb) = 0 := (fgN_eq (fgS_lo (manyS Sb) Sb (i := 19) (by omega))).trans e0
  have hr10 := hB3.le.2
  have hI : rnI (fgS (manyS Sb) Sb) 0 (fgS (manyS Sb) Sb) none tf 0 := ⟨fun _ _ => rfl, by rw [e19]; exact Nat.zero_le _, fun j hj => by rw [e19] at hj; exact absurd hj (Nat.not_lt_zero _), fun p' _ hp' => fgS_w (Or.inr rfl) (by have := hB3.ok.2.1 p' hp'; rw [hm0] at this; exact this), (fun u hu => by cases hu), by rw [hm0]; exact itS_0 _ (fun i hi => fgS_w (Or.inl rfl) hi), Nat.le_refl _⟩
  refine xW.imp (ro_l g E σ (fgS (manyS Sb) Sb) (fgY (manyS Sb) Y) τ A hg hB3.ok (rowS (fgS (manyS Sb) Sb)) 0 τ A3 (σ 7) (σ 8) (σ 9) (σ 10) tf _ _ none 0 none (by omega) rfl (by rw [sg7_id]; exact hB3) hI (s3.le (by omega) (by omega))) (fun o A' hP => ?_)
  obtain ⟨u, e1, e2, τ', N, H, K, V, tf', k1, k2⟩ := hP
  have hdr : manyS (roS (rowS (fgS (manyS Sb) Sb)) (fgS (manyS Sb) Sb, fgY (manyS Sb) Y, none)).1 = manyS (fgS (manyS Sb) Sb) := (hdE_ro (rowS (fgS (manyS Sb) Sb)) (fgS (manyS Sb) Sb, fgY (manyS Sb) Y, none)).many
  refine ⟨u, e1, by rw [e2, eri, hdr], τ', N, H, K, V, tf', ?_, k2.le (by omega) (by omega)⟩
  rw [ers]
  exact k1
