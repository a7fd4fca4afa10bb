set_option maxRecDepth 100000
/-! MAPS: cleared, made, looked up -/
theorem c_J5_clear_n (g : xG) (A : xA) (m T n c : Nat) (es ks vs hd tl : Option Nat) (mc th : Int32) (tf : Nat → Option Nat) (hm : A.1 m = some (xLg (.ref T) es c mc th ks vs hd tl)) (hT : A.1 T = some (xQa 6 n tf)) (hc : 0 < c) (hc2 : c < 2 ^ 31) (hn : n < 2 ^ 31) : xC g iJ5_clear 1 [.ref m] A (xRet none (ov A [(m, xLg (.ref T) es 0 (mc + 1) th ks vs none none), (T, xQa 6 n (clF n tf))])) := by
  show xW g _ _ 0 [some (.ref m)] [] _ _
  have hD : ovD [m, T] := ovD_2 (xdf hT hm xne_a')
  refine x_aload_n dJ5_clear_0 rfl ?_
  refine x_cuN (q := (RJ5, TJ5, 12)) cuJ5_110 dJ5_clear_1 (Or.inl hm) rfl (c_J4_clear_n _ _ m T n c es ks vs hd tl mc th tf hm hT hc hc2 hn) rfl ?_
  refine x_aload_n dJ5_clear_4 rfl ?_
  refine x_aload_n dJ5_clear_5 rfl ?_
  refine x_null dJ5_clear_6 ?_
  refine x_dup_x1 dJ5_clear_7 rfl rfl ?_
  refine v_put hD (i := 0) rfl fpJ5_11_12 dJ5_clear_8 ⟨rfl, rfl⟩ (by exact Nat.le_of_ble_eq_true rfl) ?_
  refine v_put hD (i := 0) rfl fpJ5_7_12 dJ5_clear_11 ⟨rfl, rfl⟩ (by exact Nat.le_of_ble_eq_true rfl) ?_
  exact x_return dJ5_clear_14 rfl ⟨rfl, rfl⟩
theorem c_J5_clear_0 (g : xG) (A : xA) (m T : Nat) (es ks vs hd tl : Option Nat) (mc th : Int32) (hm : A.1 m = some (xLg (.ref T) es 0 mc th ks vs hd tl)) : xC g iJ5_clear 1 [.ref m] A (xRet none (xup A m (xLg (.ref T) es 0 (mc + 1) th ks vs none none))) := by
  show xW g _ _ 0 [some (.ref m)] [] _ _
  have hD : ovD [m] := ovD_1
  refine x_aload_n dJ5_clear_0 rfl ?_
  refine x_cuN (q := (RJ5, TJ5, 12)) cuJ5_110 dJ5_clear_1 (Or.inl hm) rfl (c_J4_clear_0 _ _ m T es ks vs hd tl mc th hm) rfl ?_
  refine xW.eqA (show xup A m (xLg (.ref T) es 0 (mc + 1) th ks vs hd tl) = ov A [(m, (xLg (.ref T) es 0 (mc + 1) th ks vs hd tl))] from rfl) ?_
  refine x_aload_n dJ5_clear_4 rfl ?_
  refine x_aload_n dJ5_clear_5 rfl ?_
  refine x_null dJ5_clear_6 ?_
  refine x_dup_x1 dJ5_clear_7 rfl rfl ?_
  refine v_put hD (i := 0) rfl fpJ5_11_12 dJ5_clear_8 ⟨rfl, rfl⟩ (by exact Nat.le_of_ble_eq_true rfl) ?_
  refine v_put hD (i := 0) rfl fpJ5_7_12 dJ5_clear_11 ⟨rfl, rfl⟩ (by exact Nat.le_of_ble_eq_true rfl) ?_
  exact x_return dJ5_clear_14 rfl ⟨rfl, rfl⟩
theorem c_J5_clear_x (g : xG) (A : xA) (m : Nat) (es ks vs hd tl : Option Nat) (mc th : Int32) (hm : A.1 m = some (xLg .null es 0 mc th ks vs hd tl)) : xC g iJ5_clear 1 [.ref m] A (xRet none (xup A m (xLg .null es 0 (mc + 1) th ks vs none none))) := by
  show xW g _ _ 0 [some (.ref m)] [] _ _
  have hD : ovD [m] := ovD_1
  refine x_aload_n dJ5_clear_0 rfl ?_
  refine x_cuN (q := (RJ5, TJ5, 12)) cuJ5_110 dJ5_clear_1 (Or.inl hm) rfl (c_J4_clear_x _ _ m es ks vs hd tl mc th hm) rfl ?_
  refine xW.eqA (show xup A m (xLg .null es 0 (mc + 1) th ks vs hd tl) = ov A [(m, (xLg .null es 0 (mc + 1) th ks vs hd tl))] from rfl) ?_
  refine x_aload_n dJ5_clear_4 rfl ?_
  refine x_aload_n dJ5_clear_5 rfl ?_
  refine x_null dJ5_clear_6 ?_
  refine x_dup_x1 dJ5_clear_7 rfl rfl ?_
  refine v_put hD (i := 0) rfl fpJ5_11_12 dJ5_clear_8 ⟨rfl, rfl⟩ (by exact Nat.le_of_ble_eq_true rfl) ?_
  refine v_put hD (i := 0) rfl fpJ5_7_12 dJ5_clear_11 ⟨rfl, rfl⟩ (by exact Nat.le_of_ble_eq_true rfl) ?_
  exact x_return dJ5_clear_14 rfl ⟨rfl, rfl⟩
theorem clF_n {f : Nat → Option Nat} {n i : Nat} (h : i < n) : clF n f i = none := if_pos h
theorem bkF_0 {H N : Nat → Nat} {n i : Nat} : bkF H N n 0 i = none := rfl
theorem c_mclear (g : xG) (A : xA) (Fp : Nat → Prop) (m c : Nat) (N H K V : Nat → Nat) (es ks vs : Option Nat) (hM : MP Fp A m c N H K V es ks vs) : xC g iJ5_clear 1 [.ref m] A (xRs fun w A' => w = none ∧ MP Fp A' m 0 N H K V es ks vs ∧ (∀ r, ¬ Fp r → A'.1 r = A.1 r) ∧ A'.2 = A.2) := by
  obtain ⟨t1, t2, ⟨rfl, mc, th, t3, t4⟩ | ⟨T, n, mc, t3, t4, t5⟩⟩ := hM
  · refine xW.imp (c_J5_clear_x g A m es ks vs none none mc (nI th) t4) (fun o A' h => ?_)
    obtain ⟨rfl, rfl⟩ := h
    exact ⟨_, rfl, rfl, ⟨t1, t2, Or.inl ⟨rfl, mc + 1, th, t3, xup_self⟩⟩, fun r hr => xup_ne (fun e => hr (by rw [e]; exact t1)), rfl⟩
  · obtain ⟨h1, h2, h3, h4, ⟨tf, h5, h6⟩, h7, h8, h9⟩ := t5
    have hD0 : mD A.2.1 m T N 0 := ⟨h3.1, fun j hj => absurd hj (Nat.not_lt_zero _), fun i k _ hk => absurd hk (Nat.not_lt_zero _), h3.2.2.2⟩
    cases c with
    | zero =>
      refine xW.imp (c_J5_clear_0 g A m T es ks vs none none mc (nI (n / 4 * 3)) h4) (fun o A' h => ?_)
      obtain ⟨rfl, rfl⟩ := h
      refine ⟨_, rfl, rfl, ⟨t1, t2, Or.inr ⟨T, n, mc + 1, t3, (fun j hj => absurd hj (Nat.not_lt_zero _)), h1, Nat.zero_le _, hD0, xup_self, ⟨tf, (xup_ne (Ne.symm h3.1)).trans h5, h6⟩, (fun j hj => absurd hj (Nat.not_lt_zero _)), (fun j hj => absurd hj (Nat.not_lt_zero _)), fun i k _ hk => absurd hk (Nat.not_lt_zero _)⟩⟩, fun r hr => xup_ne (fun e => hr (by rw [e]; exact t1)), rfl⟩
    | succ c =>
      refine xW.imp (c_J5_clear_n g A m T n (c + 1) es ks vs (hdF N (c + 1)) (tlF N (c + 1)) mc (nI (n / 4 * 3)) tf h4 h5 (by omega) (by omega) (by omega)) (fun o A' h => ?_)
      obtain ⟨rfl, rfl⟩ := h
      refine ⟨_, rfl, rfl, ⟨t1, t2, Or.inr ⟨T, n, mc + 1, t3, (fun j hj => absurd hj (Nat.not_lt_zero _)), h1, Nat.zero_le _, hD0, xup_self, ⟨clF n tf, (xup_ne (Ne.symm h3.1)).trans xup_self, fun i hi => (clF_n hi).trans bkF_0.symm⟩, (fun j hj => absurd hj (Nat.not_lt_zero _)), (fun j hj => absurd hj (Nat.not_lt_zero _)), fun i k _ hk => absurd hk (Nat.not_lt_zero _)⟩⟩, fun r hr => ?_, rfl⟩
      exact ov_out (fun a ha => by
        simp at ha
        rcases ha with rfl | rfl
        · exact fun e => hr (by rw [e]; exact t1)
        · exact fun e => hr (by rw [e]; exact t3))
theorem c_J7_clear (g : xG) (A : xA) (Fp : Nat → Prop) (q m c : Nat) (N H K V : Nat → Nat) (es ks vs : Option Nat) (hq : A.1 q = some (.inr (13, [.ref m]))) (hM : MP Fp A m c N H K V es ks vs) : xC g iJ7_clear 2 [.ref q] A (xRs fun w A' => w = none ∧ MP Fp A' m 0 N H K V es ks vs ∧ (∀ r, ¬ Fp r → A'.1 r = A.1 r) ∧ A'.2 = A.2) := by
  obtain ⟨t0, mc, th, tl, hm⟩ := hM.m
  show xW g _ _ 0 [some (.ref q)] [] _ _
  refine x_aload_n dJ7_clear_0 rfl ?_
  refine x_get fgJ7_10_13 dJ7_clear_1 (Or.inl hq) rfl ?_
  refine v_cvE (q := (RJ5, TJ5, 12)) cvJ7_76_J5 dJ7_clear_4 (Or.inl hm) rfl (c_mclear g A Fp m c N H K V es ks vs hM) rfl (fun w A1 hP => ?_)
  obtain ⟨rfl, hP⟩ := hP
  exact x_return dJ7_clear_7 rfl ⟨_, rfl, rfl, hP⟩
theorem bk_perfect {H N : Nat → Nat} {n c h : Nat} (hH : ∀ j, j < c → H j = j) (hc : c ≤ n) (hh : h < c) : bkF H N n c (h % n) = some (N h) := by
  unfold bkF
  rw [fst9_is (j := h) (by omega) (by omega) (by rw [hH h hh]) (fun k _ k2 => by rw [hH k (by omega), Nat.mod_eq_of_lt (by omega : k < n), Nat.mod_eq_of_lt (by omega : h < n)]; omega)]
  rfl
theorem c_X5_equals (g : xG) (A : xA) (p q : Nat) (f s : Nat) (hp : A.1 p = some (.inr (4, [.int (nI f), .int (nI s)]))) (hq : A.1 q = some (.inr (4, [.int (nI f), .int (nI s)]))) : xC g iX5_equals 0 [.ref p, .ref q] A (xRet (some (.int 1)) A) := by
  show xW g _ _ 0 [some (.ref p), some (.ref q), none] [] _ _
  refine x_aload_n dX5_equals_0 rfl ?_
  refine x_instY dX5_equals_1 q1810 (Or.inl hq) (q := (RX5, TX5, 2)) rfl (Or.inl rfl) ?_
  refine x_if_eqF dX5_equals_4 38 (by decide) (by decide) ?_
  refine x_aload_n dX5_equals_7 rfl ?_
  refine x_castY dX5_equals_8 q1810 (Or.inl hq) (q := (RX5, TX5, 2)) rfl (Or.inl rfl) ?_
  refine x_astore_n dX5_equals_11 (by decide) rfl ?_
  refine x_aload_n dX5_equals_12 rfl ?_
  refine x_get fgX5_9_4 dX5_equals_13 (Or.inl hq) rfl ?_
  refine x_aload_n dX5_equals_16 rfl ?_
  refine x_get fgX5_9_4 dX5_equals_17 (Or.inl hp) rfl ?_
  refine x_icmp_neF dX5_equals_20 38 (by decide) rfl ?_
  refine x_aload_n dX5_equals_23 rfl ?_
  refine x_get fgX5_15_4 dX5_equals_24 (Or.inl hq) rfl ?_
  refine x_aload_n dX5_equals_27 rfl ?_
  refine x_get fgX5_15_4 dX5_equals_28 (Or.inl hp) rfl ?_
  refine x_icmp_neF dX5_equals_31 38 (by decide) rfl ?_
  refine x_iconst (v := 1) dX5_equals_34 rfl ?_
  refine x_goto (tgt := 39) dX5_equals_35 (by decide) ?_
  exact x_ireturn dX5_equals_39 rfl rfl ⟨rfl, rfl⟩
theorem c_J4_getNode (g : xG) (A : xA) (m T n c k f s : Nat) (N H K V : Nat → Nat) (mc : Int32) (es ks vs : Option Nat) (hM : LM A m T n c N H K V mc es ks vs) (hH : ∀ j, j < c → H j = j) (hh : 4 * f + s < c) (hk : A.1 k = some (.inr (4, [.int (nI f), .int (nI s)]))) (hK : A.1 (K (4 * f + s)) = some (.inr (4, [.int (nI f), .int (nI s)]))) : xC g iJ4_getNode 3 [.ref m, .ref k] A (xRet (some (.ref (N (4 * f + s)))) A) := by
  obtain ⟨h1, h2, h3, h4, ⟨tf, h5, h6⟩, h7, h8, h9⟩ := hM
  have hi : (4 * f + s) % n < n := Nat.mod_lt _ (by omega)
  have h40 := h8 _ hh
  rw [hH _ hh] at h40
  have hx := h7 _ hh
  rw [hH _ hh] at hx
  have ei : tf ((4 * f + s) % n) = some (N (4 * f + s)) := (h6 _ hi).trans (bk_perfect hH (by omega) hh)
  show xW g _ _ 0 [some (.ref m), some (.ref k), none, none, none, none, none, none] [] _ _
  refine x_aload_n dJ4_getNode_0 rfl ?_
  refine x_get fgJ4_105_12 dJ4_getNode_1 (Or.inl h4) rfl ?_
  refine x_dup dJ4_getNode_4 rfl ?_
  refine x_astore_n dJ4_getNode_5 (by decide) rfl ?_
  refine x_n_F dJ4_getNode_6 ?_
  refine x_aload_n dJ4_getNode_9 rfl ?_
  refine x_alen dJ4_getNode_10 (Or.inl h5) (t := 6) rfl (v := nI n) rfl ?_
  refine x_dup dJ4_getNode_11 rfl ?_
  refine x_istore dJ4_getNode_12 (by decide) rfl ?_
  refine x_if_leF dJ4_getNode_14 148 (by decide) (nI_nle (by omega) (by omega)) ?_
  refine x_aload_n dJ4_getNode_17 rfl ?_
  refine x_iload dJ4_getNode_18 rfl ?_
  refine x_iconst (v := 1) dJ4_getNode_20 rfl ?_
  refine x_isub dJ4_getNode_21 ?_
  refine x_aload_n dJ4_getNode_22 rfl ?_
  refine x_csV csJ4_149 dJ4_getNode_23 (c_J4_hash g A k f s hk (by omega)) rfl ?_
  refine x_dup dJ4_getNode_26 rfl ?_
  refine x_istore dJ4_getNode_27 (by decide) rfl ?_
  refine x_iand dJ4_getNode_29 ?_
  refine x_top (y := nI ((4 * f + s) % n)) (and_n h1 (by omega)) ?_
  refine x_ald dJ4_getNode_30 (t := 6) rfl (Or.inl h5) (vp_in_nI (n := ((4 * f + s) % n)) (by omega) (by omega)) ?_
  refine x_topv (show va_rf (tf (nI ((4 * f + s) % n)).toNatClampNeg) = .ref (N (4 * f + s)) by rw [nI_clamp (by omega), ei]; rfl) ?_
  refine x_dup dJ4_getNode_31 rfl ?_
  refine x_astore_n dJ4_getNode_32 (by decide) rfl ?_
  refine x_n_F dJ4_getNode_33 ?_
  refine x_aload_n dJ4_getNode_36 rfl ?_
  refine x_get fgJ4_168_17 dJ4_getNode_37 (Or.inl hx) rfl ?_
  refine x_iload dJ4_getNode_40 rfl ?_
  refine x_icmp_neF dJ4_getNode_42 71 (by decide) rfl ?_
  refine x_aload_n dJ4_getNode_45 rfl ?_
  refine x_get fgJ4_170_17 dJ4_getNode_46 (Or.inl hx) rfl ?_
  refine x_dup dJ4_getNode_49 rfl ?_
  refine x_astore dJ4_getNode_50 (by decide) rfl ?_
  refine x_aload_n dJ4_getNode_52 rfl ?_
  by_cases ek : K (4 * f + s) = k
  · refine x_acmp_eqT (rx := some (K (4 * f + s))) (ry := some k) dJ4_getNode_53 (tgt := 69) (by decide) (by rw [ek]) ?_
    refine x_aload_n dJ4_getNode_69 rfl ?_
    exact x_areturn dJ4_getNode_70 rfl (Or.inl ⟨_, rfl⟩) (Or.inr ⟨_, rfl⟩) ⟨rfl, rfl⟩
  refine x_acmp_eqF (rx := some (K (4 * f + s))) (ry := some k) dJ4_getNode_53 69 (by decide) (fun e => ek (Option.some.inj e)) ?_
  refine x_aload_n dJ4_getNode_56 rfl ?_
  refine x_n_F dJ4_getNode_57 ?_
  refine x_aload_n dJ4_getNode_60 rfl ?_
  refine x_aload dJ4_getNode_61 rfl ?_
  refine x_cvV (q := (RX5, TX5, 2)) cvJ4_173_X5 dJ4_getNode_63 (Or.inl hk) rfl (c_X5_equals _ _ k _ f s hk hK) rfl ?_
  refine x_if_eqF dJ4_getNode_66 71 (by decide) (by decide) ?_
  refine x_aload_n dJ4_getNode_69 rfl ?_
  exact x_areturn dJ4_getNode_70 rfl (Or.inl ⟨_, rfl⟩) (Or.inr ⟨_, rfl⟩) ⟨rfl, rfl⟩
theorem c_J5_get (g : xG) (A : xA) (Fp : Nat → Prop) (m c k f s : Nat) (N H K V : Nat → Nat) (es ks vs : Option Nat) (hM : MP Fp A m c N H K V es ks vs) (hH : ∀ j, j < c → H j = j) (hh : 4 * f + s < c) (hk : A.1 k = some (.inr (4, [.int (nI f), .int (nI s)]))) (hK : A.1 (K (4 * f + s)) = some (.inr (4, [.int (nI f), .int (nI s)]))) : xC g iJ5_get 4 [.ref m, .ref k] A (xRet (some (.ref (V (4 * f + s)))) A) := by
  obtain ⟨t1, t2, ⟨rfl, -⟩ | ⟨T, n, mc, t3, t4, t5⟩⟩ := hM
  · exact absurd hh (Nat.not_lt_zero _)
  have h4 := t5.2.2.2.1
  have hx := t5.2.2.2.2.2.1 _ hh
  show xW g _ _ 0 [some (.ref m), some (.ref k), none] [] _ _
  refine x_aload_n dJ5_get_0 rfl ?_
  refine x_aload_n dJ5_get_1 rfl ?_
  refine x_cvV (q := (RJ5, TJ5, 12)) cvJ5_99_J5 dJ5_get_2 (Or.inl h4) rfl (c_J4_getNode g A m T n c k f s N H K V mc es ks vs t5 hH hh hk hK) rfl ?_
  refine x_dup dJ5_get_5 rfl ?_
  refine x_astore_n dJ5_get_6 (by decide) rfl ?_
  refine x_nn_T (tgt := 12) dJ5_get_7 (by decide) ?_
  refine x_aload_n dJ5_get_12 rfl ?_
  refine x_get fgJ5_64_12 dJ5_get_13 (Or.inl h4) rfl ?_
  refine x_if_eqT (tgt := 24) dJ5_get_16 (by decide) (by decide) ?_
  refine x_aload_n dJ5_get_24 rfl ?_
  refine x_get fgJ5_107_17 dJ5_get_25 (Or.inl hx) rfl ?_
  exact x_areturn dJ5_get_28 rfl (Or.inl ⟨_, rfl⟩) (Or.inr ⟨_, rfl⟩) ⟨rfl, rfl⟩
