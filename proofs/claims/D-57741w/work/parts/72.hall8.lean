set_option maxRecDepth 100000
/-! A HALL CHANGES: a string is tuned -/
theorem sg7_id (σ : Nat → Nat → Nat) : sg7 σ (σ 7) (σ 8) (σ 9) (σ 10) = σ := by
  funext a
  unfold sg7
  split <;> rfl
theorem sg7_7 {σ : Nat → Nat → Nat} {N H K V N' H' K' V' : Nat → Nat} : sg7 (sg7 σ N H K V) N' H' K' V' = sg7 σ N' H' K' V' := by
  funext a
  unfold sg7
  split <;> first | rfl | (split <;> first | rfl | simp_all)
theorem tfU_id (tf : Nat → Nat → Int32) (f : Nat) : tfU tf f (tf f) = tf := by
  funext i
  unfold tfU
  by_cases h : i = f
  · rw [if_pos h, h]
  · rw [if_neg h]
theorem tfU_tfU {tf : Nat → Nat → Int32} {f : Nat} {v w : Nat → Int32} : tfU (tfU tf f v) f w = tfU tf f w := by
  funext i
  unfold tfU
  by_cases h : i = f
  · rw [if_pos h, if_pos h]
  · rw [if_neg h, if_neg h, if_neg h]
def rtS (S : Nat → Int32) (q : Nat) (r : Option Nat) : Int32 := match r with
  | none => 0
  | some u => hs S u (9 + q)
theorem dif_rt (S : Nat → Int32) (f q : Nat) (r : Option Nat) : difS S f q r = hs S f (9 + q) - rtS S q r := by cases r <;> rfl
theorem tn_o {S : Nat → Int32} {f q : Nat} {c : Int32} {i : Nat} (h : ¬ (i = 16 ∨ i = 18 ∨ i = 70 + 21 * f + (9 + q) ∨ i = 70 + 21 * f + (13 + q) ∨ i = 70 + 21 * f + (17 + q))) : turnsS S f q c i = S i := by
  rw [turns_tu]
  split
  · exact (upd_ne _ _ (by omega)).trans ((tuS_o (by omega)).trans (upd_ne _ _ (by omega)))
  · exact (tuS_o (by omega)).trans (upd_ne _ _ (by omega))
theorem tn_13 {S : Nat → Int32} {f q : Nat} {c : Int32} : hs (turnsS S f q c) f (13 + q) = if 150 < c then 1 else hs S f (13 + q) := by
  have e : hs (upd S 16 (S 16 + 1)) f (13 + q) = hs S f (13 + q) := upd_ne _ _ (by omega)
  rw [turns_tu]
  by_cases hc : 150 < c
  · rw [if_pos hc, show hs (upd (tuS (upd S 16 (S 16 + 1)) f q c) 18 _) f (13 + q) = hs (tuS (upd S 16 (S 16 + 1)) f q c) f (13 + q) from upd_ne _ _ (by omega), tuS_13, if_pos hc, if_pos hc]
  · rw [if_neg hc, tuS_13, if_neg hc, if_neg hc, e]
theorem tn_9 {S : Nat → Int32} {f q : Nat} {c : Int32} (hc : 150 < c) : hs (turnsS S f q c) f (9 + q) = hs S f (9 + q) := by
  rw [turns_tu, if_pos hc, show hs (upd (tuS (upd S 16 (S 16 + 1)) f q c) 18 _) f (9 + q) = hs (tuS (upd S 16 (S 16 + 1)) f q c) f (9 + q) from upd_ne _ _ (by omega)]
  unfold tuS
  rw [hs_su (by omega), if_pos hc]
  exact (hs_su (by omega)).trans (upd_ne _ _ (by omega))
theorem rt_tn {S : Nat → Int32} {f q : Nat} {c : Int32} {r : Option Nat} (hr : ∀ u, r = some u → u ≠ f) (hq : q < 4) : rtS (turnsS S f q c) q r = rtS S q r := by
  cases r with
  | none => rfl
  | some u =>
    have := hr u rfl
    exact tn_o (by omega)
theorem c_X3_tuneString (g : xG) (A : xA) (E τ : Nat → Nat) (σ : Nat → Nat → Nat) (tf : Nat → Nat → Int32) (S Y : Nat → Int32) (hB : HB g E τ σ tf S Y A) (hg : gW g E) (f q : Nat) (r : Option Nat) (left pt : Int32) (hf : f < manyS S) (hq : q < 4) (hru : ∀ u, r = some u → u ≠ f) (hch : ¬ 0 < hs S f 4) (hpt : pt = if left ≤ 0 then 0 else 1) (hne : ∀ j, j < fgN S → S (30 + j) ≠ nI (4 * f + q)) (h4 : fgN S < 40) : xC g iX3_tuneString 10 [.ref (σ 0 0), .ref (σ 1 f), .int (nI q), .int (rtS S q r), .int pt] A (xRs fun w' A' => w' = some (.int (tunesS S f q r left).1) ∧ ∃ τ' N H K V w, HB g E τ' (sg7 σ N H K V) (tfU tf f w) (tunesS S f q r left).2 Y A' ∧ (∀ i, i ≠ q → w i = tf f i) ∧ (hs S f (13 + q) = 0 → w q = hs (tunesS S f q r left).2 f (9 + q)) ∧ hst τ A τ' A' 4 88) := by
  obtain ⟨hm10, hr10⟩ := hB.le
  have hB1 : HB g E (tgU τ A.2.1 0) σ tf S Y (xal A (.inr (4, [.int (nI f), .int (nI q)])) 2) := hB.al
  have s1 : hst τ A (tgU τ A.2.1 0) (xal A (.inr (4, [.int (nI f), .int (nI q)])) 2) 1 2 := hst_al
  have hkey : xT (tgU τ A.2.1 0) 0 (xal A (.inr (4, [.int (nI f), .int (nI q)])) 2) A.2.1 (.inr (4, [.int (nI f), .int (nI q)])) := ⟨tgU_n (Nat.le_refl _), Nat.lt_succ_self _, xal_self⟩
  generalize hA1 : xal A (.inr (4, [.int (nI f), .int (nI q)])) 2 = A1 at hB1 s1 hkey
  show xW g _ _ 0 [some (.ref (σ 0 0)), some (.ref (σ 1 f)), some (.int (nI q)), some (.int (rtS S q r)), some (.int pt), none, none, none] [] _ _
  have hL0 : ovL A.2.1 [] := fun b hb => by simp at hb
  have hD0 : ovD [] := trivial
  refine xW.eqA (show A = ov A [] from rfl) ?_
  refine v_new nwX3_127 dX3_tuneString_0 ?_
  have hD1_1 := ovD_cons hL0 hD0
  have hL1_1 := ovL_cons hL0
  refine x_dup dX3_tuneString_3 rfl ?_
  refine x_aload_n dX3_tuneString_4 rfl ?_
  refine x_get fgX3_108_3 dX3_tuneString_5 (Or.inl ((show (xup (xbp A 2) A.2.1 _).1 (σ 1 f) = A.1 (σ 1 f) from xup_ne (Nat.ne_of_lt (hB.fd hf).1.2.1)).trans (hB.fd hf).1.2.2)) rfl ?_
  refine x_iload_n dX3_tuneString_8 rfl ?_
  refine x_ciN ciX3_158 dX3_tuneString_9 (c_X5_init _ _ _ _ _ _ _ (by exact ov_at hD1_1 (i := 0) rfl)) rfl ?_
  refine xW.eqA (ov_up hD1_1 (i := 0) rfl) ?_
  refine xW.eqA (show _ = A1 by rw [← hA1]; rfl) ?_
  refine x_astore dX3_tuneString_12 (by decide) rfl ?_
  refine x_aload_n dX3_tuneString_14 rfl ?_
  refine x_get fgX3_28_2 dX3_tuneString_15 (Or.inl hB1.h) rfl ?_
  obtain ⟨fs2, hpm⟩ := hB1.pmc
  refine x_aload dX3_tuneString_18 rfl ?_
  refine x_cvV (q := (RJ5, TJ5, 12)) cvX3_161_J5 dX3_tuneString_20 (Or.inl hpm) rfl (hB1.get hf hq hkey.2.2) rfl ?_
  have hpA := hB1.pA hf hq
  refine x_castY dX3_tuneString_23 q1330 (Or.inl hpA) (q := (RX6, TX6, 3)) rfl (Or.inl rfl) ?_
  refine x_astore dX3_tuneString_26 (by decide) rfl ?_
  refine x_aload dX3_tuneString_28 rfl ?_
  refine x_get fgX3_168_5 dX3_tuneString_30 (Or.inl hpA) rfl ?_
  have hbr := (hB1.pB hf hq).1
  refine x_if_eq 38 dX3_tuneString_33 (by decide) (fun c33 => ?_) (fun c33 => ?_)
  · have n13 : ¬ hs S f (13 + q) = 1 := by rw [c33]; decide
    have eD := dif_rt S f q r
    refine x_aload dX3_tuneString_38 rfl ?_
    refine x_get fgX3_220_5 dX3_tuneString_40 (Or.inl hpA) rfl ?_
    refine x_iload_n dX3_tuneString_43 rfl ?_
    refine x_isub dX3_tuneString_44 ?_
    refine x_top (y := difS S f q r) eD.symm ?_
    refine x_istore dX3_tuneString_45 (by decide) rfl ?_
    refine x_aload_n dX3_tuneString_47 rfl ?_
    refine x_get fgX3_207_3 dX3_tuneString_48 (Or.inl (hB1.fd hf).1.2.2) rfl ?_
    refine x_iload_n dX3_tuneString_51 rfl ?_
    refine x_aload dX3_tuneString_52 rfl ?_
    refine x_get fgX3_220_5 dX3_tuneString_54 (Or.inl hpA) rfl ?_
    refine x_iast dX3_tuneString_57 (hB1.fd hf).2.1.2.2 (vp_in_nI (n := q) hq (by omega)) ?_
    rw [show (nI q).toNatClampNeg = q from nI_clamp (by omega)]
    have hB2 := hB1.ut hf hch (upd (tf f) q (hs S f (9 + q)))
    have s2 := s1.tr (hst_up (e := xI4 (upd (tf f) q (hs S f (9 + q)))) (τ := tgU τ A.2.1 0) (A := A1) (by rw [(hB1.fd hf).2.1.1]; omega))
    have hk2 : xT (tgU τ A.2.1 0) 0 (xup A1 (σ 2 f) (xI4 (upd (tf f) q (hs S f (9 + q))))) A.2.1 (.inr (4, [.int (nI f), .int (nI q)])) := ⟨hkey.1, hkey.2.1, (xup_ne (xdf hkey.2.2 (hB1.fd hf).2.1.2.2 xne_a)).trans hkey.2.2⟩
    generalize hA2 : xup A1 (σ 2 f) (xI4 (upd (tf f) q (hs S f (9 + q)))) = A2 at hB2 s2 hk2 ⊢
    have w1 : ∀ i, i ≠ q → (upd (tf f) q (hs S f (9 + q))) i = tf f i := fun i hi => upd_ne _ _ hi
    refine x_iload dX3_tuneString_58 rfl ?_
    refine x_csV csX3_223 dX3_tuneString_60 (c_J18_abs _ _ _) rfl ?_
    refine x_iconst (v := 2) dX3_tuneString_63 rfl ?_
    refine x_icmp_gt 80 dX3_tuneString_64 (by decide) (fun c64 => ?_) (fun c64 => ?_)
    · have n64 : ¬ bI (difS S f q r) ≤ 2 := fun h => nle_lt c64 h
      refine x_iload dX3_tuneString_80 rfl ?_
      by_cases hl0 : left ≤ 0
      · have et : tunesS S f q r left = (3, S) := by unfold tunesS; rw [if_neg n13, if_neg n64, if_pos hl0]
        rw [et]
        refine x_top (y := 0) (by rw [hpt, if_pos hl0]) ?_
        refine x_if_neF dX3_tuneString_82 87 (by decide) rfl ?_
        refine x_iconst (v := 3) dX3_tuneString_85 rfl ?_
        refine x_ireturn dX3_tuneString_86 rfl rfl ⟨_, rfl, rfl, _, σ 7, σ 8, σ 9, σ 10, upd (tf f) q (hs S f (9 + q)), ?_, w1, fun _ => upd_self _ _ _, s2.le (by omega) (by omega)⟩
        rw [sg7_id]
        exact hB2
      · have et : tunesS S f q r left = (behS (turnsS S f q (-difS S f q r)) f q r, turnsS S f q (-difS S f q r)) := by unfold tunesS; rw [if_neg n13, if_neg n64, if_neg hl0]
        rw [et]
        refine x_top (y := 1) (by rw [hpt, if_neg hl0]) ?_
        refine x_if_neT (tgt := 87) dX3_tuneString_82 (by decide) (by decide) ?_
        refine x_aload_n dX3_tuneString_87 rfl ?_
        refine x_aload dX3_tuneString_88 rfl ?_
        refine x_iload dX3_tuneString_90 rfl ?_
        refine x_ineg dX3_tuneString_92 ?_
        refine v_cvE (q := (RX3, TX3, 18)) cvX3_233_X3 dX3_tuneString_93 (Or.inl hB2.h) rfl (c_X3_turn g A2 E _ σ _ S Y hB2 f q (-difS S f q r) hf hq c33) rfl (fun w' A3 hP => ?_)
        obtain ⟨rfl, hB3, s3⟩ := hP
        have hf3 : f < manyS (turnsS S f q (-difS S f q r)) := by rw [(hdE_turns f q _).many]; exact hf
        by_cases hc : 150 < -difS S f q r
        · have eb : behS (turnsS S f q (-difS S f q r)) f q r = 4 := by unfold behS; rw [if_pos (by rw [tn_13, if_pos hc])]
          rw [eb]
          refine x_top (y := 1) (flI_y hc) ?_
          refine x_if_eqF dX3_tuneString_96 101 (by decide) (by decide) ?_
          refine x_iconst (v := 4) dX3_tuneString_99 rfl ?_
          refine x_ireturn dX3_tuneString_100 rfl rfl ⟨_, rfl, rfl, _, σ 7, σ 8, σ 9, σ 10, upd (tf f) q (hs S f (9 + q)), ?_, w1, fun _ => (upd_self _ _ _).trans (tn_9 hc).symm, (s2.tr s3).le (by omega) (by omega)⟩
          rw [sg7_id]
          exact hB3
        · refine x_top (y := 0) (flI_no hc) ?_
          refine x_if_eqT (tgt := 101) dX3_tuneString_96 (by decide) (by decide) ?_
          have hpA3 := hB3.pA hf3 hq
          have hch3 : ¬ 0 < hs (turnsS S f q (-difS S f q r)) f 4 := by rw [show hs (turnsS S f q (-difS S f q r)) f 4 = hs S f 4 from tn_o (by omega)]; exact hch
          refine x_aload_n dX3_tuneString_101 rfl ?_
          refine x_get fgX3_207_3 dX3_tuneString_102 (Or.inl (hB3.fd hf3).1.2.2) rfl ?_
          refine x_iload_n dX3_tuneString_105 rfl ?_
          refine x_aload dX3_tuneString_106 rfl ?_
          refine x_get fgX3_220_5 dX3_tuneString_108 (Or.inl hpA3) rfl ?_
          have hta := (hB3.fd hf3).2.1.2.2
          rw [tfU_s] at hta
          refine x_iast dX3_tuneString_111 hta (vp_in_nI (n := q) hq (by omega)) ?_
          rw [show (nI q).toNatClampNeg = q from nI_clamp (by omega)]
          have hB4 := hB3.ut hf3 hch3 (upd (upd (tf f) q (hs S f (9 + q))) q (hs (turnsS S f q (-difS S f q r)) f (9 + q)))
          rw [tfU_tfU] at hB4
          have s4 := (s2.tr s3).tr (hst_up (e := xI4 (upd (upd (tf f) q (hs S f (9 + q))) q (hs (turnsS S f q (-difS S f q r)) f (9 + q)))) (τ := tgU τ A.2.1 0) (A := A3) (by rw [(hB3.fd hf3).2.1.1]; omega))
          have hpA4 := hB4.pA hf3 hq
          refine x_aload dX3_tuneString_112 rfl ?_
          refine x_get fgX3_220_5 dX3_tuneString_114 (Or.inl hpA4) rfl ?_
          refine x_iload_n dX3_tuneString_117 rfl ?_
          refine x_isub dX3_tuneString_118 ?_
          refine x_top (y := difS (turnsS S f q (-difS S f q r)) f q r) (by rw [dif_rt (turnsS S f q (-difS S f q r)), rt_tn hru hq]) ?_
          refine x_csV csX3_223 dX3_tuneString_119 (c_J18_abs _ _ _) rfl ?_
          refine x_iconst (v := 2) dX3_tuneString_122 rfl ?_
          have n4 : ¬ hs (turnsS S f q (-difS S f q r)) f (13 + q) = 1 := by rw [tn_13, if_neg hc]; exact n13
          have hend : ∀ z, z = behS (turnsS S f q (-difS S f q r)) f q r → (xRs fun w' A' => w' = some (.int (behS (turnsS S f q (-difS S f q r)) f q r)) ∧ ∃ τ' N H K V w, HB g E τ' (sg7 σ N H K V) (tfU tf f w) (turnsS S f q (-difS S f q r)) Y A' ∧ (∀ i, i ≠ q → w i = tf f i) ∧ (hs S f (13 + q) = 0 → w q = hs (turnsS S f q (-difS S f q r)) f (9 + q)) ∧ hst τ A τ' A' 4 88) (.returned (some (.int z))) (xup A3 (σ 2 f) (xI4 (upd (upd (tf f) q (hs S f (9 + q))) q (hs (turnsS S f q (-difS S f q r)) f (9 + q))))) := by
            intro z hz
            refine ⟨_, rfl, by rw [hz], _, σ 7, σ 8, σ 9, σ 10, _, ?_, fun i hi => (upd_ne _ _ hi).trans (w1 i hi), fun _ => upd_self _ _ _, s4.le (by omega) (by omega)⟩
            rw [sg7_id]
            exact hB4
          refine x_icmp_gt 130 dX3_tuneString_123 (by decide) (fun c123 => ?_) (fun c123 => ?_)
          · refine x_iconst (v := 5) dX3_tuneString_130 rfl ?_
            exact x_ireturn dX3_tuneString_131 rfl rfl (hend 5 (by unfold behS; rw [if_neg n4, if_pos c123]))
          · refine x_iconst (v := 0) dX3_tuneString_126 rfl ?_
            refine x_goto (tgt := 131) dX3_tuneString_127 (by decide) ?_
            exact x_ireturn dX3_tuneString_131 rfl rfl (hend 0 (by unfold behS; rw [if_neg n4, if_neg c123]))
    · have y64 : bI (difS S f q r) ≤ 2 := le_nlt c64
      refine x_iload dX3_tuneString_67 rfl ?_
      refine x_if_eq 78 dX3_tuneString_69 (by decide) (fun c69 => ?_) (fun c69 => ?_)
      · have et : tunesS S f q r left = (0, S) := by unfold tunesS; rw [if_neg n13, if_pos y64, if_pos c69]
        rw [et]
        refine x_iconst (v := 0) dX3_tuneString_78 rfl ?_
        refine x_ireturn dX3_tuneString_79 rfl rfl ⟨_, rfl, rfl, _, σ 7, σ 8, σ 9, σ 10, upd (tf f) q (hs S f (9 + q)), ?_, w1, fun _ => upd_self _ _ _, s2.le (by omega) (by omega)⟩
        rw [sg7_id]
        exact hB2
      · have et : tunesS S f q r left = (0, forgivesS S f q) := by unfold tunesS; rw [if_neg n13, if_pos y64, if_neg c69]
        rw [et]
        refine x_aload_n dX3_tuneString_72 rfl ?_
        refine x_aload dX3_tuneString_73 rfl ?_
        refine v_cvE (q := (RX3, TX3, 18)) cvX3_229_X3 dX3_tuneString_75 (Or.inl hB2.h) rfl (c_X3_forgive g A2 E _ σ _ S Y hB2 hg f q A.2.1 hf hq hk2 hne h4) rfl (fun w' A3 hP => ?_)
        obtain ⟨rfl, τ3, N, H, K, V, hB3, s3⟩ := hP
        refine x_iconst (v := 0) dX3_tuneString_78 rfl ?_
        exact x_ireturn dX3_tuneString_79 rfl rfl ⟨_, rfl, rfl, τ3, N, H, K, V, upd (tf f) q (hs S f (9 + q)), hB3, w1, fun _ => (upd_self _ _ _).trans (show hs S f (9 + q) = hs (forgivesS S f q) f (9 + q) by rw [forg_1 hB.f19.1 h4]; exact ((upd_ne _ _ (by omega)).trans (fg1_o (by omega) h4)).symm), (s2.tr s3).le (by omega) (by omega)⟩
  · have y13 : hs S f (13 + q) = 1 := hbr.resolve_left c33
    have et : tunesS S f q r left = (2, S) := by unfold tunesS; rw [if_pos y13]
    rw [et]
    refine x_iconst (v := 2) dX3_tuneString_36 rfl ?_
    refine x_ireturn dX3_tuneString_37 rfl rfl ⟨_, rfl, rfl, _, σ 7, σ 8, σ 9, σ 10, tf f, ?_, fun i _ => rfl, fun h => absurd h c33, s1.le (by omega) (by omega)⟩
    rw [sg7_id, tfU_id]
    exact hB1
