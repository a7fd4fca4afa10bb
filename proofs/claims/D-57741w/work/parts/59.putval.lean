set_option maxRecDepth 100000
theorem c_J5_removeEldest (g : xG) (A : xA) (p q : Nat) : xC g iJ5_removeEldestEntry 0 [.ref p, .ref q] A (xRet (some (.int 0)) A) := by
  show xW g _ _ 0 [some (.ref p), some (.ref q)] [] _ _
  refine x_iconst (v := 0) dJ5_removeEldestEntry_0 rfl ?_
  exact x_ireturn dJ5_removeEldestEntry_1 rfl rfl ⟨rfl, rfl⟩
theorem c_J5_afterNodeInsertion (g : xG) (B : xA) (m T n c : Nat) (cc th : Nat) (mc : Int32) (es ks vs : Option Nat) (tf : Nat → Option Nat) (N H K V : Nat → Nat) (NX BF AF : Nat → Option Nat) (hd tl : Option Nat) (q : Nat) (hD : mD B.2.1 m T N c) : xC g iJ5_afterNodeInsertion 1 [.ref m, .int 1] (mS B m T n (xLm (some T) es cc mc th ks vs (some q) tl) tf N H K V NX BF AF c) (xRet none (mS B m T n (xLm (some T) es cc mc th ks vs (some q) tl) tf N H K V NX BF AF c)) := by
  show xW g _ _ 0 [some (.ref m), some (.int 1), none, none] [] _ _
  refine x_iload_n dJ5_afterNodeInsertion_0 rfl ?_
  refine x_if_eqF dJ5_afterNodeInsertion_1 39 (by decide) (by decide) ?_
  refine x_aload_n dJ5_afterNodeInsertion_4 rfl ?_
  refine x_get fgJ5_7_12 dJ5_afterNodeInsertion_5 (Or.inl (mS_m hD)) rfl ?_
  refine x_dup dJ5_afterNodeInsertion_8 rfl ?_
  refine x_astore_n dJ5_afterNodeInsertion_9 (by decide) rfl ?_
  refine x_n_F dJ5_afterNodeInsertion_10 ?_
  refine x_aload_n dJ5_afterNodeInsertion_13 rfl ?_
  refine x_aload_n dJ5_afterNodeInsertion_14 rfl ?_
  refine x_cvV (q := (RJ5, TJ5, 12)) cvJ5_53_J5 dJ5_afterNodeInsertion_15 (Or.inl (mS_m hD)) rfl (c_J5_removeEldest _ _ m q) rfl ?_
  refine x_if_eqT (tgt := 39) dJ5_afterNodeInsertion_18 (by decide) (by decide) ?_
  exact x_return dJ5_afterNodeInsertion_39 rfl ⟨rfl, rfl⟩
theorem pv_end (g : xG) (B : xA) (m T n c q : Nat) (mc : Int32) (es ks vs : Option Nat) (tf : Nat → Option Nat) (N H K V : Nat → Nat) (NX BF AF : Nat → Option Nat) (hn : n = 16 ∨ n = 32 ∨ n = 64) (hq : c = q + 1) (hc : q ≤ n / 4 * 3) (h40 : c ≤ 40) (hD : mD B.2.1 m T N c) (h1 : ∀ i, i < n → tf i = bkF H N n c i) (h2 : ∀ j, j < c → NX j = nxF H N n c j) (h5 : ∀ j, j < c → H j < 40) (h6 : ∀ i k, i < k → k < c → H i ≠ H k) (h3 : ∀ j, j < c → BF j = bfF N j) (h4 : ∀ j, j < c → AF j = afF N c j) : xW g iJ4_putVal 4 259 [some (.ref m), none, none, none, none, some (.int 1), none, none, none, none, none, none, none] [] (mS B m T n (xLm (some T) es q mc (n / 4 * 3) ks vs (hdF N c) (tlF N c)) tf N H K V NX BF AF c) (xRs fun w A' => w = some .null ∧ ∃ T' n' mc', LM A' m T' n' c N H K V mc' es ks vs ∧ (T' = T ∨ B.2.1 ≤ T') ∧ (∀ r, r ≠ m → r ≠ T → (∀ j, j < c → r ≠ N j) → r < B.2.1 → A'.1 r = B.1 r) ∧ xBd B A' 1 64) := by
  refine x_aload_n dJ4_putVal_259 rfl ?_
  refine x_dup dJ4_putVal_260 rfl ?_
  refine x_get fgJ4_202_12 dJ4_putVal_261 (Or.inl (mS_m hD)) rfl ?_
  refine x_iconst (v := 1) dJ4_putVal_264 rfl ?_
  refine x_iadd dJ4_putVal_265 ?_
  refine x_put fpJ4_202_12 dJ4_putVal_266 (mS_m hD) ⟨rfl, rfl⟩ (by exact Nat.le_of_ble_eq_true rfl) ?_
  refine xW.eqA (mS_wm hD) ?_
  refine x_aload_n dJ4_putVal_269 rfl ?_
  refine x_dup dJ4_putVal_270 rfl ?_
  refine x_get fgJ4_156_12 dJ4_putVal_271 (Or.inl (mS_m hD)) rfl ?_
  refine x_iconst (v := 1) dJ4_putVal_274 rfl ?_
  refine x_iadd dJ4_putVal_275 ?_
  refine x_top (y := nI (q + 1)) (nI_1 q) ?_
  refine x_dup_x1 dJ4_putVal_276 rfl rfl ?_
  refine x_put fpJ4_156_12 dJ4_putVal_277 (mS_m hD) ⟨rfl, rfl⟩ (by exact Nat.le_of_ble_eq_true rfl) ?_
  refine xW.eqA (mS_wm hD) ?_
  rw [← hq]
  refine x_aload_n dJ4_putVal_280 rfl ?_
  refine x_get fgJ4_88_12 dJ4_putVal_281 (Or.inl (mS_m hD)) rfl ?_
  refine x_icmp_le 292 dJ4_putVal_284 (by decide) (fun c284 => ?_) (fun c284 => ?_)
  · have c285 : c ≤ n / 4 * 3 := by rw [nI_leI (by omega) (by omega)] at c284; exact c284
    refine x_aload_n dJ4_putVal_292 rfl ?_
    refine x_iload dJ4_putVal_293 rfl ?_
    subst hq
    rw [hdF_1]
    refine x_cvN (q := (RJ5, TJ5, 12)) cvJ4_205_J5 dJ4_putVal_295 (Or.inl (mS_m hD)) rfl (c_J5_afterNodeInsertion g B m T n (q + 1) (q + 1) (n / 4 * 3) _ es ks vs tf N H K V NX BF AF none _ (N 0) hD) rfl ?_
    refine x_null dJ4_putVal_298 ?_
    refine x_areturn dJ4_putVal_299 rfl (Or.inl ⟨_, rfl⟩) (Or.inl rfl) ⟨_, rfl, rfl, T, n, mc + 1, ?_, Or.inl rfl, fun r r1 r2 r3 r4 => mS_o hD r1 r2 r3, ?_⟩
    · rw [← hdF_1 (c := q)]
      exact LM_mS hn c285 hD h1 h2 h3 h4 h5 h6
    · unfold xBd
      rw [mS_2]
      omega
  · have c285 : ¬ c ≤ n / 4 * 3 := by rw [nI_leI (by omega) (by omega)] at c284; exact c284
    have hn2 : n = 16 ∨ n = 32 := by omega
    refine x_aload_n dJ4_putVal_287 rfl ?_
    refine v_cvE (q := (RJ5, TJ5, 12)) cvJ4_117_J5 dJ4_putVal_288 (Or.inl (mS_m hD)) rfl (c_J4_resize g B m T n c _ es ks vs tf N H K V NX BF AF hn2 hD h1 h2 h5 h6) rfl (fun w A1 hP => ?_)
    obtain ⟨rfl, NX', tf', TOx, rfl, k1, k2⟩ := hP
    have hD2 : mD (xup (xbp B (2 * n)) T (xQa 6 n TOx)).2.1 m B.2.1 N c := ⟨Nat.ne_of_lt hD.2.2.2.1, fun j hj => ⟨(hD.2.1 j hj).1, Nat.ne_of_lt (hD.2.1 j hj).2.2, Nat.lt_succ_of_lt (hD.2.1 j hj).2.2⟩, hD.2.2.1, Nat.lt_succ_of_lt hD.2.2.2.1, Nat.lt_succ_self _⟩
    refine x_pop dJ4_putVal_291 rfl ?_
    refine x_aload_n dJ4_putVal_292 rfl ?_
    refine x_iload dJ4_putVal_293 rfl ?_
    subst hq
    rw [hdF_1]
    refine x_cvN (q := (RJ5, TJ5, 12)) cvJ4_205_J5 dJ4_putVal_295 (Or.inl (mS_m hD2)) rfl (c_J5_afterNodeInsertion g _ m B.2.1 (2 * n) (q + 1) (q + 1) (2 * n / 4 * 3) _ es ks vs tf' N H K V NX' BF AF none _ (N 0) hD2) rfl ?_
    refine x_null dJ4_putVal_298 ?_
    refine x_areturn dJ4_putVal_299 rfl (Or.inl ⟨_, rfl⟩) (Or.inl rfl) ⟨_, rfl, rfl, B.2.1, 2 * n, mc + 1, ?_, Or.inr (Nat.le_refl _), fun r r1 r2 r3 r4 => (mS_o hD2 r1 (Nat.ne_of_lt r4) r3).trans (xup_ne r2), ?_⟩
    · rw [← hdF_1 (c := q)]
      exact LM_mS (by omega) (by omega) hD2 k1 k2 h3 h4 h5 h6
    · unfold xBd
      rw [mS_2]
      show B.2.1 ≤ B.2.1 + 1 ∧ B.2.1 + 1 ≤ B.2.1 + 1 ∧ B.2.2 + 2 * n ≤ B.2.2 + 64
      omega
theorem pv_fin {A A' : xA} {m T c h k v : Nat} {N H K V : Nat → Nat} {es ks vs : Option Nat} (hD : mD A.2.1 m T N c) {w : Option Value} (hw : w = some .null) (hP : ∃ T' n' mc', LM A' m T' n' (c + 1) (nup N c A.2.1) (nup H c h) (nup K c k) (nup V c v) mc' es ks vs ∧ (T' = T ∨ (xbp A 6).2.1 ≤ T') ∧ (∀ r, r ≠ m → r ≠ T → (∀ j, j < c + 1 → r ≠ nup N c A.2.1 j) → r < (xbp A 6).2.1 → A'.1 r = (xbp A 6).1 r) ∧ xBd (xbp A 6) A' 1 64) : w = some .null ∧ ∃ T' n' mc' N', LM A' m T' n' (c + 1) N' (nup H c h) (nup K c k) (nup V c v) mc' es ks vs ∧ (∀ j, j < c → N' j = N j) ∧ A.2.1 ≤ N' c ∧ (T' = T ∨ A.2.1 ≤ T') ∧ (∀ r, r < A.2.1 → ¬ lmF m T N c r → A'.1 r = A.1 r) ∧ xBd A A' 2 70 := by
  obtain ⟨T', n', mc', p1, p2, p3, p4, p5, p6⟩ := hP
  have e1 : (xbp A 6).2.1 = A.2.1 + 1 := rfl
  have e2 : (xbp A 6).2.2 = A.2.2 + 6 := rfl
  rw [e1] at p2 p3 p4 p5
  rw [e2] at p6
  refine ⟨hw, T', n', mc', nup N c A.2.1, p1, fun j hj => nup_n (by omega), by rw [nup_s]; exact Nat.le_refl _, p2.imp_right (fun q => by omega), fun r r1 r2 => ?_, by omega, by omega, by omega⟩
  refine p3 r (fun e => r2 (Or.inl e)) (fun e => r2 (Or.inr (Or.inl e))) (fun j hj e => ?_) (by omega)
  by_cases hj2 : j = c
  · rw [hj2, nup_s] at e
    omega
  · rw [nup_n hj2] at e
    exact r2 (Or.inr (Or.inr ⟨j, by omega, e⟩))
theorem pv_29 (g : xG) (A : xA) (m T n c h k v : Nat) (N H K V : Nat → Nat) (mc : Int32) (es ks vs : Option Nat) (tf : Nat → Option Nat) (NX BF AF : Nat → Option Nat) (X7 : Option Value) (hn : n = 16 ∨ n = 32 ∨ n = 64) (hc3 : c ≤ n / 4 * 3) (hD : mD A.2.1 m T N c) (h1 : ∀ i, i < n → tf i = bkF H N n c i) (h2 : ∀ j, j < c → NX j = nxF H N n c j) (h3 : ∀ j, j < c → BF j = bfF N j) (h4 : ∀ j, j < c → AF j = afF N c j) (h5 : ∀ j, j < c → H j < 40) (h6 : ∀ i k, i < k → k < c → H i ≠ H k) (hh : h < 40) (hc : c < 40) (hne : ∀ j, j < c → H j ≠ h) : xW g iJ4_putVal 4 29 [some (.ref m), some (.int (nI h)), some (.ref k), some (.ref v), some (.int 0), some (.int 1), some (.ref T), X7, some (.int (nI n)), none, none, none, none] [] (mS A m T n (xLm (some T) es c mc (n / 4 * 3) ks vs (hdF N c) (tlF N c)) tf N H K V NX BF AF c) (xRs fun w A' => w = some .null ∧ ∃ T' n' mc' N', LM A' m T' n' (c + 1) N' (nup H c h) (nup K c k) (nup V c v) mc' es ks vs ∧ (∀ j, j < c → N' j = N j) ∧ A.2.1 ≤ N' c ∧ (T' = T ∨ A.2.1 ≤ T') ∧ (∀ r, r < A.2.1 → ¬ lmF m T N c r → A'.1 r = A.1 r) ∧ xBd A A' 2 70) := by
  have hi : h % n < n := Nat.mod_lt _ (by omega)
  have g5 : ∀ j, j < c + 1 → nup H c h j < 40 := fun j hj => by
    by_cases e : j = c
    · rw [e, nup_s]; exact hh
    · rw [nup_n e]; exact h5 j (by omega)
  have g6 : ∀ i k, i < k → k < c + 1 → nup H c h i ≠ nup H c h k := fun i k hi hk => by
    by_cases e : k = c
    · rw [e, nup_s, nup_n (by omega)]; exact hne i (by omega)
    · rw [nup_n e, nup_n (by omega)]; exact h6 i k hi (by omega)
  have hD9 := mD_al hD
  refine x_aload dJ4_putVal_29 rfl ?_
  refine x_iload dJ4_putVal_31 rfl ?_
  refine x_iconst (v := 1) dJ4_putVal_33 rfl ?_
  refine x_isub dJ4_putVal_34 ?_
  refine x_top (y := nI n - 1) rfl ?_
  refine x_iload_n dJ4_putVal_35 rfl ?_
  refine x_iand dJ4_putVal_36 ?_
  refine x_top (y := nI (h % n)) (and_n hn (by omega)) ?_
  refine x_dup dJ4_putVal_37 rfl ?_
  refine x_istore dJ4_putVal_38 (by decide) rfl ?_
  refine x_ald dJ4_putVal_40 (t := 6) rfl (Or.inl (mS_T hD)) (vp_in_nI (n := (h % n)) (by omega) (by omega)) ?_
  refine x_topv (show va_rf (tf (nI (h % n)).toNatClampNeg) = va_rf (bkF H N n c (h % n)) by rw [nI_clamp (by omega), h1 _ hi]) ?_
  cases e0 : fst9 H n (h % n) c 0 with
  | none =>
    have eb : bkF H N n c (h % n) = none := by unfold bkF; rw [e0]; rfl
    rw [eb]
    refine x_dup dJ4_putVal_41 rfl ?_
    refine x_astoreN dJ4_putVal_42 (by decide) rfl ?_
    refine x_nn_F dJ4_putVal_44 ?_
    refine x_aload dJ4_putVal_47 rfl ?_
    refine x_iload dJ4_putVal_49 rfl ?_
    refine x_aload_n dJ4_putVal_51 rfl ?_
    refine x_iload_n dJ4_putVal_52 rfl ?_
    refine x_aload_n dJ4_putVal_53 rfl ?_
    refine x_aload_n dJ4_putVal_54 rfl ?_
    refine x_null dJ4_putVal_55 ?_
    refine v_cvE (q := (RJ5, TJ5, 12)) cvJ4_186_J5 dJ4_putVal_56 (Or.inl (mS_m hD)) rfl (c_J5_newNode g A m T n c c (n / 4 * 3) mc es ks vs tf N H K V _ _ _ h k v hD h3 h4) rfl (fun w A1 hP => ?_)
    obtain ⟨rfl, BF', AF', rfl, hB, hF⟩ := hP
    refine x_topv (show Value.ref A.2.1 = .ref (nup N c A.2.1 c) by rw [nup_s]) ?_
    refine x_ast dJ4_putVal_59 (t := 6) rfl (mS_T hD9) (Or.inl (mS_N hD9 (j := c) (by omega))) (cl1 := (RJ32, TJ32, 6)) rfl (Or.inr q4321) (vp_in_nI (n := h % n) (by omega) (by omega)) ?_
    rw [show (nI (h % n)).toNatClampNeg = h % n from nI_clamp (by omega)]
    refine xW.eqA (mS_wT hD9) ?_
    rw [nup_s]
    refine x_goto (tgt := 259) dJ4_putVal_60 (by decide) ?_
    refine xW.loc (L' := [some (.ref m), none, none, none, none, some (.int 1), none, none, none, none, none, none, none]) ⟨rfl, rfl, trivial⟩ ?_
    refine xW.imp (pv_end g (xbp A 6) m T n (c + 1) c mc es ks vs _ (nup N c A.2.1) (nup H c h) (nup K c k) (nup V c v) _ BF' AF' hn rfl hc3 (by omega) hD9 (cx_e h1 h2 e0).1 (cx_e h1 h2 e0).2 g5 g6 hB hF) (fun o A' hP => ?_)
    obtain ⟨w, e1, e2, hP⟩ := hP
    exact ⟨w, e1, pv_fin hD e2 hP⟩
  | some j0 =>
    have eb : bkF H N n c (h % n) = some (N j0) := by unfold bkF; rw [e0]; rfl
    obtain ⟨-, j0c, j0i, -⟩ := fst9_s e0
    have j0l : j0 < c := by omega
    rw [eb]
    refine x_dup dJ4_putVal_41 rfl ?_
    refine x_astore dJ4_putVal_42 (by decide) rfl ?_
    refine x_nn_T (tgt := 63) dJ4_putVal_44 (by decide) ?_
    refine x_aload dJ4_putVal_63 rfl ?_
    refine x_get fgJ4_168_17 dJ4_putVal_65 (Or.inl (mS_N hD j0l)) rfl ?_
    refine x_iload_n dJ4_putVal_68 rfl ?_
    refine x_icmp_neT (tgt := 104) dJ4_putVal_69 (by decide) (fun e => hne j0 j0l (nI_inj (by have := h5 j0 j0l; omega) (by omega) e)) ?_
    refine x_aload dJ4_putVal_104 rfl ?_
    refine x_instN dJ4_putVal_106 q1471 (Or.inl (mS_N hD j0l)) (q := (RJ32, TJ32, 6)) rfl (by decide) ?_
    refine x_if_eqT (tgt := 131) dJ4_putVal_109 (by decide) (by decide) ?_
    refine x_iconst (v := 0) dJ4_putVal_131 rfl ?_
    refine x_istore dJ4_putVal_132 (by decide) rfl ?_
    refine x_aload dJ4_putVal_134 rfl ?_
    refine x_get fgJ4_177_17 dJ4_putVal_136 (Or.inl (mS_N hD j0l)) rfl ?_
    cases e1 : fst9 H n (H j0 % n) (c - 1 - j0) (j0 + 1) with
    | none =>
      have en : NX j0 = none := by rw [h2 j0 j0l]; unfold nxF; rw [e1]; rfl
      have hl : ∀ k, j0 < k → k < c → ¬ H k % n = h % n := fun k k1 k2 => by rw [← j0i]; exact fst9_n e1 k (by omega) (by omega)
      rw [en]
      refine x_dup dJ4_putVal_139 rfl ?_
      refine x_astoreN dJ4_putVal_140 (by decide) rfl ?_
      refine x_nn_F dJ4_putVal_142 ?_
      refine x_aload dJ4_putVal_145 rfl ?_
      refine x_aload_n dJ4_putVal_147 rfl ?_
      refine x_iload_n dJ4_putVal_148 rfl ?_
      refine x_aload_n dJ4_putVal_149 rfl ?_
      refine x_aload_n dJ4_putVal_150 rfl ?_
      refine x_null dJ4_putVal_151 ?_
      refine v_cvE (q := (RJ5, TJ5, 12)) cvJ4_186_J5 dJ4_putVal_152 (Or.inl (mS_m hD)) rfl (c_J5_newNode g A m T n c c (n / 4 * 3) mc es ks vs tf N H K V _ _ _ h k v hD h3 h4) rfl (fun w A1 hP => ?_)
      obtain ⟨rfl, BF', AF', rfl, hB, hF⟩ := hP
      rw [show N j0 = nup N c A.2.1 j0 from (nup_n (by omega)).symm]
      refine x_put fpJ4_177_17 dJ4_putVal_155 (mS_N hD9 (j := j0) (by omega)) ⟨rfl, rfl⟩ (by exact Nat.le_of_ble_eq_true rfl) ?_
      refine xW.eqA (mS_wn (o := some A.2.1) hD9 (j := j0) (by omega)) ?_
      refine x_iload dJ4_putVal_158 rfl ?_
      refine x_bipush (v := 7) dJ4_putVal_160 (by decide) ?_
      refine x_icmp_ltT (tgt := 222) dJ4_putVal_162 (by decide) (by decide) ?_
      refine x_aloadN dJ4_putVal_222 rfl ?_
      refine x_n_T (tgt := 259) dJ4_putVal_224 (by decide) ?_
      refine xW.loc (L' := [some (.ref m), none, none, none, none, some (.int 1), none, none, none, none, none, none, none]) ⟨rfl, rfl, trivial⟩ ?_
      refine xW.imp (pv_end g (xbp A 6) m T n (c + 1) c mc es ks vs _ (nup N c A.2.1) (nup H c h) (nup K c k) (nup V c v) _ BF' AF' hn rfl hc3 (by omega) hD9 (cx_n h1 h2 (jl := j0) (by omega) j0i hl).1 (cx_n h1 h2 (jl := j0) (by omega) j0i hl).2 g5 g6 hB hF) (fun o A' hP => ?_)
      obtain ⟨w, e1, e2, hP⟩ := hP
      exact ⟨w, e1, pv_fin hD e2 hP⟩
    | some j1 =>
      have en : NX j0 = some (N j1) := by rw [h2 j0 j0l]; unfold nxF; rw [e1]; rfl
      obtain ⟨j1a, j1c, j1i, -⟩ := fst9_s e1
      have j1l : j1 < c := by omega
      rw [j0i] at j1i
      rw [en]
      refine x_dup dJ4_putVal_139 rfl ?_
      refine x_astore dJ4_putVal_140 (by decide) rfl ?_
      refine x_nn_T (tgt := 175) dJ4_putVal_142 (by decide) ?_
      refine x_aload dJ4_putVal_175 rfl ?_
      refine x_get fgJ4_168_17 dJ4_putVal_177 (Or.inl (mS_N hD j1l)) rfl ?_
      refine x_iload_n dJ4_putVal_180 rfl ?_
      refine x_icmp_neT (tgt := 212) dJ4_putVal_181 (by decide) (fun e => hne j1 j1l (nI_inj (by have := h5 j1 j1l; omega) (by omega) e)) ?_
      refine x_aload dJ4_putVal_212 rfl ?_
      refine x_astore dJ4_putVal_214 (by decide) rfl ?_
      refine x_iinc (v := 1) dJ4_putVal_216 rfl (by decide) (by decide) rfl ?_
      refine x_goto (tgt := 134) dJ4_putVal_219 (by decide) ?_
      have hl : ∀ k, j1 < k → k < c → ¬ H k % n = h % n := fun k k1 k2 q => ch2 hn h5 h6 hh hne (by omega : j0 < j1) k1 k2 j0i j1i q
      have en2 : NX j1 = none := by rw [h2 j1 j1l]; unfold nxF; rw [fst9_no (fun k k1 k2 => by rw [j1i]; exact hl k (by omega) (by omega))]; rfl
      refine x_aload dJ4_putVal_134 rfl ?_
      refine x_get fgJ4_177_17 dJ4_putVal_136 (Or.inl (mS_N hD j1l)) rfl ?_
      refine x_topv (show va_rf (NX j1) = .null by rw [en2]; rfl) ?_
      refine x_dup dJ4_putVal_139 rfl ?_
      refine x_astoreN dJ4_putVal_140 (by decide) rfl ?_
      refine x_nn_F dJ4_putVal_142 ?_
      refine x_aload dJ4_putVal_145 rfl ?_
      refine x_aload_n dJ4_putVal_147 rfl ?_
      refine x_iload_n dJ4_putVal_148 rfl ?_
      refine x_aload_n dJ4_putVal_149 rfl ?_
      refine x_aload_n dJ4_putVal_150 rfl ?_
      refine x_null dJ4_putVal_151 ?_
      refine v_cvE (q := (RJ5, TJ5, 12)) cvJ4_186_J5 dJ4_putVal_152 (Or.inl (mS_m hD)) rfl (c_J5_newNode g A m T n c c (n / 4 * 3) mc es ks vs tf N H K V _ _ _ h k v hD h3 h4) rfl (fun w A1 hP => ?_)
      obtain ⟨rfl, BF', AF', rfl, hB, hF⟩ := hP
      rw [show N j1 = nup N c A.2.1 j1 from (nup_n (by omega)).symm]
      refine x_put fpJ4_177_17 dJ4_putVal_155 (mS_N hD9 (j := j1) (by omega)) ⟨rfl, rfl⟩ (by exact Nat.le_of_ble_eq_true rfl) ?_
      refine xW.eqA (mS_wn (o := some A.2.1) hD9 (j := j1) (by omega)) ?_
      refine x_iload dJ4_putVal_158 rfl ?_
      refine x_bipush (v := 7) dJ4_putVal_160 (by decide) ?_
      refine x_icmp_ltT (tgt := 222) dJ4_putVal_162 (by decide) (by decide) ?_
      refine x_aloadN dJ4_putVal_222 rfl ?_
      refine x_n_T (tgt := 259) dJ4_putVal_224 (by decide) ?_
      refine xW.loc (L' := [some (.ref m), none, none, none, none, some (.int 1), none, none, none, none, none, none, none]) ⟨rfl, rfl, trivial⟩ ?_
      refine xW.imp (pv_end g (xbp A 6) m T n (c + 1) c mc es ks vs _ (nup N c A.2.1) (nup H c h) (nup K c k) (nup V c v) _ BF' AF' hn rfl hc3 (by omega) hD9 (cx_n h1 h2 (jl := j1) (by omega) j1i hl).1 (cx_n h1 h2 (jl := j1) (by omega) j1i hl).2 g5 g6 hB hF) (fun o A' hP => ?_)
      obtain ⟨w, e1, e2, hP⟩ := hP
      exact ⟨w, e1, pv_fin hD e2 hP⟩
theorem c_J4_putVal (g : xG) (A : xA) (m T n c h k v : Nat) (N H K V : Nat → Nat) (mc : Int32) (es ks vs : Option Nat) (hM : LM A m T n c N H K V mc es ks vs) (hh : h < 40) (hc : c < 40) (hne : ∀ j, j < c → H j ≠ h) : xC g iJ4_putVal 4 [.ref m, .int (nI h), .ref k, .ref v, .int 0, .int 1] A (xRs fun w A' => w = some .null ∧ ∃ T' n' mc' N', LM A' m T' n' (c + 1) N' (nup H c h) (nup K c k) (nup V c v) mc' es ks vs ∧ (∀ j, j < c → N' j = N j) ∧ A.2.1 ≤ N' c ∧ (T' = T ∨ A.2.1 ≤ T') ∧ (∀ r, r < A.2.1 → ¬ lmF m T N c r → A'.1 r = A.1 r) ∧ xBd A A' 2 70) := by
  obtain ⟨tf, h1, hS⟩ := LM_id hM
  obtain ⟨hn, hc3, hD, -, -, -, h5, h6⟩ := hM
  show xW g _ _ 0 [some (.ref m), some (.int (nI h)), some (.ref k), some (.ref v), some (.int 0), some (.int 1), none, none, none, none, none, none, none] [] _ _
  refine xW.eqA hS.symm ?_
  refine x_aload_n dJ4_putVal_0 rfl ?_
  refine x_get fgJ4_105_12 dJ4_putVal_1 (Or.inl (mS_m hD)) rfl ?_
  refine x_dup dJ4_putVal_4 rfl ?_
  refine x_astore dJ4_putVal_5 (by decide) rfl ?_
  refine x_n_F dJ4_putVal_7 ?_
  refine x_aload dJ4_putVal_10 rfl ?_
  refine x_alen dJ4_putVal_12 (Or.inl (mS_T hD)) (t := 6) rfl (v := nI n) rfl ?_
  refine x_dup dJ4_putVal_13 rfl ?_
  refine x_istore dJ4_putVal_14 (by decide) rfl ?_
  refine x_if_neT (tgt := 29) dJ4_putVal_16 (by decide) (fun e => by have := nI_inj (b := 0) (by omega) (by omega) e; omega) ?_
  exact pv_29 g A m T n c h k v N H K V mc es ks vs tf _ _ _ _ hn hc3 hD h1 (fun j hj => rfl) (fun j hj => rfl) (fun j hj => rfl) h5 h6 hh hc hne
theorem c_J4_putVal0 (g : xG) (A : xA) (m h k v : Nat) (H K V : Nat → Nat) (mc : Int32) (es ks vs : Option Nat) (hp : A.1 m = some (.inr (12, [.null, va_rf es, .int 0, .int mc, .int 0, .float LF, va_rf ks, va_rf vs, .null, .null, .int 0, .int 0]))) (hlt : m < A.2.1) (hh : h < 40) : xC g iJ4_putVal 4 [.ref m, .int (nI h), .ref k, .ref v, .int 0, .int 1] A (xRs fun w A' => w = some .null ∧ ∃ T' n' mc' N', LM A' m T' n' 1 N' (nup H 0 h) (nup K 0 k) (nup V 0 v) mc' es ks vs ∧ A.2.1 ≤ N' 0 ∧ A.2.1 ≤ T' ∧ (∀ r, r < A.2.1 → r ≠ m → A'.1 r = A.1 r) ∧ xBd A A' 3 86) := by
  show xW g _ _ 0 [some (.ref m), some (.int (nI h)), some (.ref k), some (.ref v), some (.int 0), some (.int 1), none, none, none, none, none, none, none] [] _ _
  refine x_aload_n dJ4_putVal_0 rfl ?_
  refine x_get fgJ4_105_12 dJ4_putVal_1 (Or.inl hp) rfl ?_
  refine x_dup dJ4_putVal_4 rfl ?_
  refine x_astoreN dJ4_putVal_5 (by decide) rfl ?_
  refine x_n_T (tgt := 19) dJ4_putVal_7 (by decide) ?_
  refine x_aload_n dJ4_putVal_19 rfl ?_
  refine x_cvV (q := (RJ5, TJ5, 12)) cvJ4_117_J5 dJ4_putVal_20 (Or.inl hp) rfl (c_J4_resize0 g A m mc es ks vs hp hlt) rfl ?_
  refine xW.eqA (show _ = mS (xbp A 16) m A.2.1 16 (xLm (some A.2.1) es 0 mc 12 ks vs none none) (fun _ => none) (fun _ => 0) H K V (fun _ => none) (fun _ => none) (fun _ => none) 0 from xup_comm (Nat.ne_of_lt hlt)) ?_
  have hD : mD (xbp A 16).2.1 m A.2.1 (fun _ => 0) 0 := ⟨Nat.ne_of_lt hlt, fun j hj => absurd hj (Nat.not_lt_zero _), fun i k _ hk => absurd hk (Nat.not_lt_zero _), Nat.lt_succ_of_lt hlt, Nat.lt_succ_self _⟩
  refine x_dup dJ4_putVal_23 rfl ?_
  refine x_astore dJ4_putVal_24 (by decide) rfl ?_
  refine x_alen dJ4_putVal_26 (Or.inl (mS_T hD)) (t := 6) rfl (v := nI 16) rfl ?_
  refine x_istore dJ4_putVal_27 (by decide) rfl ?_
  refine xW.imp (pv_29 g (xbp A 16) m A.2.1 16 0 h k v (fun _ => 0) H K V mc es ks vs _ _ _ _ _ (Or.inl rfl) (by omega) hD (fun i hi => rfl) (fun j hj => absurd hj (Nat.not_lt_zero _)) (fun j hj => absurd hj (Nat.not_lt_zero _)) (fun j hj => absurd hj (Nat.not_lt_zero _)) (fun j hj => absurd hj (Nat.not_lt_zero _)) (fun i k _ hk => absurd hk (Nat.not_lt_zero _)) hh (by omega) (fun j hj => absurd hj (Nat.not_lt_zero _))) (fun o A' hP => ?_)
  obtain ⟨w, e1, e2, T', n', mc', N', p1, -, p3, p4, p5, p6, p7, p8⟩ := hP
  have q1 : (xbp A 16).2.1 = A.2.1 + 1 := rfl
  have q2 : (xbp A 16).2.2 = A.2.2 + 16 := rfl
  rw [q1] at p3 p4 p5 p6 p7
  rw [q2] at p8
  exact ⟨w, e1, e2, T', n', mc', N', p1, by omega, by omega, fun r r1 r2 => p5 r (by omega) (fun q => q.elim r2 (fun q => q.elim (by omega) (fun ⟨j, hj, _⟩ => absurd hj (Nat.not_lt_zero _)))), by omega, by omega, by omega⟩
theorem c_J4_putVal16 (g : xG) (A : xA) (m h k v : Nat) (H K V : Nat → Nat) (mc : Int32) (es ks vs : Option Nat) (hp : A.1 m = some (.inr (12, [.null, va_rf es, .int 0, .int mc, .int 16, .float LF, va_rf ks, va_rf vs, .null, .null, .int 0, .int 0]))) (hlt : m < A.2.1) (hh : h < 40) : xC g iJ4_putVal 4 [.ref m, .int (nI h), .ref k, .ref v, .int 0, .int 1] A (xRs fun w A' => w = some .null ∧ ∃ T' n' mc' N', LM A' m T' n' 1 N' (nup H 0 h) (nup K 0 k) (nup V 0 v) mc' es ks vs ∧ A.2.1 ≤ N' 0 ∧ A.2.1 ≤ T' ∧ (∀ r, r < A.2.1 → r ≠ m → A'.1 r = A.1 r) ∧ xBd A A' 3 86) := by
  show xW g _ _ 0 [some (.ref m), some (.int (nI h)), some (.ref k), some (.ref v), some (.int 0), some (.int 1), none, none, none, none, none, none, none] [] _ _
  refine x_aload_n dJ4_putVal_0 rfl ?_
  refine x_get fgJ4_105_12 dJ4_putVal_1 (Or.inl hp) rfl ?_
  refine x_dup dJ4_putVal_4 rfl ?_
  refine x_astoreN dJ4_putVal_5 (by decide) rfl ?_
  refine x_n_T (tgt := 19) dJ4_putVal_7 (by decide) ?_
  refine x_aload_n dJ4_putVal_19 rfl ?_
  refine x_cvV (q := (RJ5, TJ5, 12)) cvJ4_117_J5 dJ4_putVal_20 (Or.inl hp) rfl (c_J4_resize16 g A m mc es ks vs hp hlt) rfl ?_
  refine xW.eqA (show _ = mS (xbp A 16) m A.2.1 16 (xLm (some A.2.1) es 0 mc 12 ks vs none none) (fun _ => none) (fun _ => 0) H K V (fun _ => none) (fun _ => none) (fun _ => none) 0 from xup_comm (Nat.ne_of_lt hlt)) ?_
  have hD : mD (xbp A 16).2.1 m A.2.1 (fun _ => 0) 0 := ⟨Nat.ne_of_lt hlt, fun j hj => absurd hj (Nat.not_lt_zero _), fun i k _ hk => absurd hk (Nat.not_lt_zero _), Nat.lt_succ_of_lt hlt, Nat.lt_succ_self _⟩
  refine x_dup dJ4_putVal_23 rfl ?_
  refine x_astore dJ4_putVal_24 (by decide) rfl ?_
  refine x_alen dJ4_putVal_26 (Or.inl (mS_T hD)) (t := 6) rfl (v := nI 16) rfl ?_
  refine x_istore dJ4_putVal_27 (by decide) rfl ?_
  refine xW.imp (pv_29 g (xbp A 16) m A.2.1 16 0 h k v (fun _ => 0) H K V mc es ks vs _ _ _ _ _ (Or.inl rfl) (by omega) hD (fun i hi => rfl) (fun j hj => absurd hj (Nat.not_lt_zero _)) (fun j hj => absurd hj (Nat.not_lt_zero _)) (fun j hj => absurd hj (Nat.not_lt_zero _)) (fun j hj => absurd hj (Nat.not_lt_zero _)) (fun i k _ hk => absurd hk (Nat.not_lt_zero _)) hh (by omega) (fun j hj => absurd hj (Nat.not_lt_zero _))) (fun o A' hP => ?_)
  obtain ⟨w, e1, e2, T', n', mc', N', p1, -, p3, p4, p5, p6, p7, p8⟩ := hP
  have q1 : (xbp A 16).2.1 = A.2.1 + 1 := rfl
  have q2 : (xbp A 16).2.2 = A.2.2 + 16 := rfl
  rw [q1] at p3 p4 p5 p6 p7
  rw [q2] at p8
  exact ⟨w, e1, e2, T', n', mc', N', p1, by omega, by omega, fun r r1 r2 => p5 r (by omega) (fun q => q.elim r2 (fun q => q.elim (by omega) (fun ⟨j, hj, _⟩ => absurd hj (Nat.not_lt_zero _)))), by omega, by omega, by omega⟩
