set_option maxRecDepth 100000
theorem shS_o : ∀ (n i : Nat) (S : Nat → Int32) (j : Nat), (∀ k, i ≤ k → k < i + n → j ≠ 20 + k) → shS n i S j = S j
  | 0, _, _, _, _ => rfl
  | n + 1, i, S, j, h => by
    show shS n (i + 1) (shK i S) j = S j
    rw [shS_o n (i + 1) (shK i S) j (fun k a b => h k (by omega) (by omega))]
    exact upd_ne _ _ (h i (Nat.le_refl _) (by omega))
theorem le_o {S : Nat → Int32} {p i : Nat} (hr : rowS S ≤ 10) (hp : p < rowS S) (h : ¬ (i = 14 ∨ (20 ≤ i ∧ i < 30))) : leS S p i = S i := (upd_ne _ _ (by omega)).trans (shS_o _ _ _ _ (fun k a b => by omega))
theorem jo_o {S : Nat → Int32} {f i : Nat} (hr : rowS S < 10) (h : ¬ (i = 14 ∨ (20 ≤ i ∧ i < 30))) : joS S f i = S i := (upd_ne _ _ (by omega)).trans (upd_ne _ _ (by omega))
theorem sw_o {S : Nat → Int32} {p r i : Nat} {a b : Int32} (hp : p < 10) (hr : r < 10) (h : ¬ (i = 14 ∨ (20 ≤ i ∧ i < 30))) : swapS S p r a b i = S i := (upd_ne _ _ (by omega)).trans (upd_ne _ _ (by omega))
/-! A HALL CHANGES: the row -/
section RW
variable {g : xG} {E τ : Nat → Nat} {A : xA} {t l n : Nat} {x : Nat → Nat}
theorem hAl_ne {a b : Nat} {e e' : xE} {u v : Nat} (h : xT τ u A a e) (k : xT τ v A b e') (hn : u ≠ v) : a ≠ b := fun q => hn (by rw [← h.1, ← k.1, q])
theorem ov2_o {a b : Nat} {e e' : xE} {t : Nat} (ha : τ a = t) (hb : τ b = t) : ∀ r, τ r ≠ t → (ov A [(a, e), (b, e')]).1 r = A.1 r := fun r hr => ov_out (fun c hc => by
  simp at hc
  rcases hc with rfl | rfl
  · exact fun q => hr (by rw [q]; exact ha)
  · exact fun q => hr (by rw [q]; exact hb))
theorem hAl_set (h : hAl E τ t A l n x) {i v : Nat} (hi : i < n) {vs : List Value} (hv : A.1 v = some (.inr (3, vs))) : xC g iJ2_set 3 [.ref l, .int (nI i), .ref v] A (xRs fun w A' => w = some (.ref (x i)) ∧ hAl E τ t A' l n (nup x i v) ∧ (∀ r, τ r ≠ t → A'.1 r = A.1 r) ∧ A'.2 = A.2) := by
  obtain ⟨mc, ed, cap, f, k1, k2, k3, k4⟩ := h
  rcases k4 with ⟨h0, -⟩ | ⟨rfl, k5⟩
  · omega
  refine xW.imp (xW.up (by decide) (c_J2_set g A l ed n 10 mc f k1.2.2 k5.2.2 v 3 vs _ (Or.inl hv) rfl (Or.inr q4293) (by decide) i hi k2 (by omega))) (fun o A' hP => ?_)
  obtain ⟨rfl, rfl⟩ := hP
  refine ⟨_, rfl, by rw [k3 i hi]; rfl, ⟨mc, ed, 10, va_up f i (some v), ⟨k1.1, k1.2.1, xup_self⟩, k2, fun j hj => ?_, Or.inr ⟨rfl, k5.1, k5.2.1, (xup_ne (xdf k5.2.2 k1.2.2 xne_a')).trans xup_self⟩⟩, ov2_o k1.1 k5.1, rfl⟩
  by_cases e : j = i
  · rw [e, va_up_s, nup_s]
  · rw [va_up_n e, nup_n e]; exact k3 j hj
theorem hAl_remove (h : hAl E τ t A l n x) {i : Nat} (hi : i < n) (hx : ∀ j, j < n → ∃ vs, A.1 (x j) = some (.inr (3, vs))) : xC g iJ2_remove 2 [.ref l, .int (nI i)] A (xRs fun w A' => w = some (.ref (x i)) ∧ hAl E τ t A' l (n - 1) (fun j => if j < i then x j else x (j + 1)) ∧ (∀ r, τ r ≠ t → A'.1 r = A.1 r) ∧ A'.2 = A.2) := by
  obtain ⟨mc, ed, cap, f, k1, k2, k3, k4⟩ := h
  rcases k4 with ⟨h0, -⟩ | ⟨rfl, k5⟩
  · omega
  refine xW.imp (c_J2_remove g A l ed n 10 mc f k1.2.2 k5.2.2 i hi k2 (by omega) (fun j hj => by
    obtain ⟨vs, hv⟩ := hx j hj
    exact ⟨x j, 3, vs, _, k3 j hj, Or.inl hv, rfl, Or.inr q4293, by decide⟩) (x i) (k3 i hi)) (fun o A' hP => ?_)
  obtain ⟨w, e1, e2, f', hf, rfl⟩ := hP
  refine ⟨w, e1, e2, ⟨mc + 1, ed, 10, f', ⟨k1.1, k1.2.1, xup_self⟩, by omega, fun j hj => ?_, Or.inr ⟨rfl, k5.1, k5.2.1, (xup_ne (xdf k5.2.2 k1.2.2 xne_a')).trans xup_self⟩⟩, ov2_o k1.1 k5.1, rfl⟩
  rw [hf j hj]
  show _ = some (if j < i then x j else x (j + 1))
  by_cases e : j < i
  · rw [if_pos e, if_pos e]; exact k3 j (by omega)
  · rw [if_neg e, if_neg e]; exact k3 (j + 1) (by omega)
theorem hAl_add (hg : gW g E) (hok : xOk g A) (h : hAl E τ t A l n x) (hn : n < 10) {v ci : Nat} {vs : List Value} {cl1 : vw_C} (hv : A.1 v = some (.inr (ci, vs))) (hc1 : xcl[ci]? = some cl1) (hw : cl1.1 = "java/lang/Object" ∨ Cond.castable cl1.1 "java/lang/Object" ∈ lw_tbl) (h11 : ci ≠ 11) : xC g iJ2_add 4 [.ref l, .ref v] A (xRs fun w A' => w = some (.int 1) ∧ hAl E (tgU τ A.2.1 t) t A' l (n + 1) (nup x n v) ∧ (∀ r, r < A.2.1 → τ r ≠ t → A'.1 r = A.1 r) ∧ xBd A A' 1 10) := by
  obtain ⟨mc, ed, cap, f, k1, k2, k3, k4⟩ := h
  rcases k4 with ⟨rfl, rfl, rfl⟩ | ⟨rfl, k5⟩
  · refine xW.imp (c_J2_add0 g A E hg l mc k1.2.2 k1.2.1 v ci vs cl1 (Or.inl hv) hc1 hw h11) (fun o A' hP => ?_)
    obtain ⟨rfl, rfl⟩ := hP
    refine ⟨_, rfl, rfl, ⟨mc + 1, A.2.1, 10, _, ⟨(tgU_o k1.2.1).trans k1.1, Nat.lt_succ_of_lt k1.2.1, (xup_ne (Nat.ne_of_lt k1.2.1)).trans xup_self⟩, by omega, fun j hj => ?_, Or.inr ⟨rfl, tgU_n (Nat.le_refl _), Nat.lt_succ_self _, xup_self⟩⟩, fun r hr ht => ?_, Nat.le_succ _, Nat.le_refl _, Nat.le_refl _⟩
    · rw [show j = 0 by omega, va_up_s, nup_s]
    · show (xup (xup (xbp A 10) l _) A.2.1 _).1 r = A.1 r
      rw [xup_ne (Nat.ne_of_lt hr), xup_ne (fun q => ht (by rw [q]; exact k1.1))]
      rfl
  · refine xW.imp (xW.up (by decide) (c_J2_add g A l ed n 10 mc f k1.2.2 k5.2.2 v ci vs cl1 (Or.inl hv) hc1 hw h11 hn (by omega))) (fun o A' hP => ?_)
    obtain ⟨rfl, rfl⟩ := hP
    refine ⟨_, rfl, rfl, ⟨mc + 1, ed, 10, va_up f n (some v), ⟨(tgU_o k1.2.1).trans k1.1, k1.2.1, xup_self⟩, by omega, fun j hj => ?_, Or.inr ⟨rfl, (tgU_o k5.2.1).trans k5.1, k5.2.1, (xup_ne (xdf k5.2.2 k1.2.2 xne_a')).trans xup_self⟩⟩, fun r _ ht => ov2_o k1.1 k5.1 r ht, Nat.le_refl _, Nat.le_add_right _ _, Nat.le_add_right _ _⟩
    by_cases e : j = n
    · rw [e, va_up_s, nup_s]
    · rw [va_up_n e, nup_n e]; exact k3 j (by omega)
end RW
theorem HB.fx {g : xG} {E τ : Nat → Nat} {σ : Nat → Nat → Nat} {tf : Nat → Nat → Int32} {S Y : Nat → Int32} {A : xA} (h : HB g E τ σ tf S Y A) : ∀ j, j < rowS S → ∃ vs, A.1 (σ 1 (plS S j)) = some (.inr (3, vs)) := fun j hj => ⟨_, (h.fd (h.pl hj)).1.2.2⟩
theorem hst_0 {τ : Nat → Nat} {A A' : xA} {t : Nat} (ht : t ≠ 0) (h : ∀ r, τ r ≠ t → A'.1 r = A.1 r) (h2 : A'.2 = A.2) : hst τ A τ A' 0 0 := ⟨⟨by rw [h2]; exact Nat.le_refl _, by rw [h2]; exact Nat.le_refl _, by rw [h2]; exact Nat.le_refl _⟩, fun _ _ => rfl, fun r _ h0 => h r (by rw [h0]; exact Ne.symm ht)⟩
theorem c_X3_leaveRow_i (g : xG) (A : xA) (E τ : Nat → Nat) (σ : Nat → Nat → Nat) (tf : Nat → Nat → Int32) (S Y : Nat → Int32) (hB : HB g E τ σ tf S Y A) (hl : g.1.stackTraces = false) (x : Int32) (hx : inI x 0 (nI (manyS S) - 1) = 0) : xC g iX3_leaveRow 15 [.ref (σ 0 0), .int x] A (xThG 26 A 1 6) := by
  show xW g _ _ 0 [some (.ref (σ 0 0)), some (.int x), none, none] [] _ _
  obtain ⟨mcf, edf, hfl, hflt, -⟩ := hB.fl.l
  obtain ⟨mcr, edr, hrl, hrlt, -⟩ := hB.rl.l
  obtain ⟨hm10, hr10⟩ := hB.le
  refine x_aload_n dX3_leaveRow_0 rfl ?_
  refine x_iload_n dX3_leaveRow_1 rfl ?_
  exact v_cvO (q := (RX3, TX3, 18)) cvX3_262_X3 dX3_leaveRow_2 (Or.inl hB.h) rfl (c_X3_fiddler_no g A E τ σ tf S Y hB hl x hx) rfl ⟨_, rfl⟩ (fun _ _ h => h)
theorem c_X3_leaveRow_s (g : xG) (A : xA) (E τ : Nat → Nat) (σ : Nat → Nat → Nat) (tf : Nat → Nat → Int32) (S Y : Nat → Int32) (hB : HB g E τ σ tf S Y A) (hl : g.1.stackTraces = false) (f : Nat) (hf : f < manyS S) (hp : plO S f = none) : xC g iX3_leaveRow 15 [.ref (σ 0 0), .int (nI f)] A (xThG 28 A 1 6) := by
  show xW g _ _ 0 [some (.ref (σ 0 0)), some (.int (nI f)), none, none] [] _ _
  obtain ⟨mcf, edf, hfl, hflt, -⟩ := hB.fl.l
  obtain ⟨mcr, edr, hrl, hrlt, -⟩ := hB.rl.l
  obtain ⟨hm10, hr10⟩ := hB.le
  refine x_aload_n dX3_leaveRow_0 rfl ?_
  refine x_iload_n dX3_leaveRow_1 rfl ?_
  refine x_cvV (q := (RX3, TX3, 18)) cvX3_262_X3 dX3_leaveRow_2 (Or.inl hB.h) rfl (c_X3_fiddler g A E τ σ tf S Y hB f hf) rfl ?_
  refine x_astore_n dX3_leaveRow_5 (by decide) rfl ?_
  refine x_aload_n dX3_leaveRow_6 rfl ?_
  refine x_iload_n dX3_leaveRow_7 rfl ?_
  refine x_cvV (q := (RX3, TX3, 18)) cvX3_266_X3 dX3_leaveRow_8 (Or.inl hB.h) rfl (c_X3_placeOf g A E τ σ tf S Y hB (nI f)) rfl ?_
  refine x_top (y := -1) (show oI (plcS S (nI f) (rowS S) 0) = -1 by rw [show plcS S (nI f) (rowS S) 0 = none from hp]; rfl) ?_
  refine x_istore_n dX3_leaveRow_11 (by decide) rfl ?_
  refine x_iload_n dX3_leaveRow_12 rfl ?_
  refine x_iconst (v := (-1)) dX3_leaveRow_13 rfl ?_
  refine x_icmp_eqT (tgt := 21) dX3_leaveRow_14 (by decide) rfl ?_
  refine x_iconst (v := 0) dX3_leaveRow_21 rfl ?_
  exact v_csO csX3_172 dX3_leaveRow_22 (c_X1_checkState_G _ _ hl) rfl ⟨_, rfl⟩ (fun _ _ h => h)
theorem c_X3_leaveRow (g : xG) (A : xA) (E τ : Nat → Nat) (σ : Nat → Nat → Nat) (tf : Nat → Nat → Int32) (S Y : Nat → Int32) (hB : HB g E τ σ tf S Y A) (f p : Nat) (hf : f < manyS S) (hp : plO S f = some p) : xC g iX3_leaveRow 6 [.ref (σ 0 0), .int (nI f)] A (xRs fun w A' => w = some (.int (nI (rowS S - 1))) ∧ HB g E τ σ tf (leS S p) Y A' ∧ hst τ A τ A' 0 0) := by
  show xW g _ _ 0 [some (.ref (σ 0 0)), some (.int (nI f)), none, none] [] _ _
  obtain ⟨mcf, edf, hfl, hflt, -⟩ := hB.fl.l
  obtain ⟨mcr, edr, hrl, hrlt, -⟩ := hB.rl.l
  obtain ⟨hm10, hr10⟩ := hB.le
  have hpl : p < rowS S := by have := (plc_lt hp).2.1; omega
  refine x_aload_n dX3_leaveRow_0 rfl ?_
  refine x_iload_n dX3_leaveRow_1 rfl ?_
  refine x_cvV (q := (RX3, TX3, 18)) cvX3_262_X3 dX3_leaveRow_2 (Or.inl hB.h) rfl (c_X3_fiddler g A E τ σ tf S Y hB f hf) rfl ?_
  refine x_astore_n dX3_leaveRow_5 (by decide) rfl ?_
  refine x_aload_n dX3_leaveRow_6 rfl ?_
  refine x_iload_n dX3_leaveRow_7 rfl ?_
  refine x_cvV (q := (RX3, TX3, 18)) cvX3_266_X3 dX3_leaveRow_8 (Or.inl hB.h) rfl (c_X3_placeOf g A E τ σ tf S Y hB (nI f)) rfl ?_
  refine x_top (y := nI p) (show oI (plcS S (nI f) (rowS S) 0) = nI p by rw [show plcS S (nI f) (rowS S) 0 = some p from hp]; rfl) ?_
  refine x_istore_n dX3_leaveRow_11 (by decide) rfl ?_
  refine x_iload_n dX3_leaveRow_12 rfl ?_
  refine x_iconst (v := (-1)) dX3_leaveRow_13 rfl ?_
  refine x_icmp_eqF dX3_leaveRow_14 21 (by decide) (nI_m1 (by omega)) ?_
  refine x_iconst (v := 1) dX3_leaveRow_17 rfl ?_
  refine x_goto (tgt := 22) dX3_leaveRow_18 (by decide) ?_
  refine x_csN csX3_172 dX3_leaveRow_22 (c_X1_checkState_ok _ _ _ (by decide)) rfl ?_
  refine x_aload_n dX3_leaveRow_25 rfl ?_
  refine x_get fgX3_22_2 dX3_leaveRow_26 (Or.inl hB.h) rfl ?_
  refine x_iload_n dX3_leaveRow_29 rfl ?_
  refine v_cvE (q := (RJ2, TJ2, 3)) cvX3_273_J2 dX3_leaveRow_30 (Or.inl hrl) rfl (hAl_remove hB.rl hpl hB.fx) rfl (fun w A1 hP => ?_)
  obtain ⟨rfl, q1, q2, q3⟩ := hP
  have hB1 : HB g E τ σ tf (leS S p) Y A1 := hB.u4 (by rw [q3]; exact Nat.le_refl _) (fun _ _ => rfl) (fun r _ hr => q2 r hr) (fun i hi => le_o hr10 hpl hi) (le_ok hB.ok hpl) (by
    rw [le_row hB.ok.1 hpl]
    refine q1.cg (fun j hj => ?_)
    show σ 1 (plS (leS S p) j) = if j < p then σ 1 (plS S j) else σ 1 (plS S (j + 1))
    unfold plS
    rw [le_pl hpl]
    by_cases hjp : j < p
    · rw [if_neg (by omega), if_pos hjp]
    · rw [if_pos (by omega), if_neg hjp]
      rfl)
  have s1 := hst_0 (τ := τ) (by decide) q2 q3
  obtain ⟨mcr2, edr2, hrl2, -, -⟩ := hB1.rl.l
  refine x_castY dX3_leaveRow_33 q1239 (Or.inl ((q2 _ (by rw [(hB.fd (hB.pl hpl)).1.1]; omega)).trans (hB.fd (hB.pl hpl)).1.2.2)) (q := (RX4, TX4, 7)) rfl (Or.inl rfl) ?_
  refine x_astore_n dX3_leaveRow_36 (by decide) rfl ?_
  refine x_aload_n dX3_leaveRow_37 rfl ?_
  refine x_get fgX3_22_2 dX3_leaveRow_38 (Or.inl hB1.h) rfl ?_
  refine x_cvV (q := (RJ2, TJ2, 3)) cvX3_146_J2 dX3_leaveRow_41 (Or.inl hrl2) rfl (hAl_size hB1.rl) rfl ?_
  refine x_top (y := nI (rowS S - 1)) (by rw [le_row hB.ok.1 hpl]) ?_
  exact x_ireturn dX3_leaveRow_44 rfl rfl ⟨_, rfl, rfl, hB1, s1⟩
theorem c_X3_joinRow_i (g : xG) (A : xA) (E τ : Nat → Nat) (σ : Nat → Nat → Nat) (tf : Nat → Nat → Int32) (S Y : Nat → Int32) (hB : HB g E τ σ tf S Y A) (hl : g.1.stackTraces = false) (x : Int32) (hx : inI x 0 (nI (manyS S) - 1) = 0) : xC g iX3_joinRow 15 [.ref (σ 0 0), .int x] A (xThG 26 A 1 6) := by
  show xW g _ _ 0 [some (.ref (σ 0 0)), some (.int x), none] [] _ _
  obtain ⟨mcf, edf, hfl, hflt, -⟩ := hB.fl.l
  obtain ⟨mcr, edr, hrl, hrlt, -⟩ := hB.rl.l
  obtain ⟨hm10, hr10⟩ := hB.le
  refine x_aload_n dX3_joinRow_0 rfl ?_
  refine x_iload_n dX3_joinRow_1 rfl ?_
  exact v_cvO (q := (RX3, TX3, 18)) cvX3_262_X3 dX3_joinRow_2 (Or.inl hB.h) rfl (c_X3_fiddler_no g A E τ σ tf S Y hB hl x hx) rfl ⟨_, rfl⟩ (fun _ _ h => h)
theorem c_X3_joinRow_s (g : xG) (A : xA) (E τ : Nat → Nat) (σ : Nat → Nat → Nat) (tf : Nat → Nat → Int32) (S Y : Nat → Int32) (hB : HB g E τ σ tf S Y A) (hl : g.1.stackTraces = false) (f p : Nat) (hf : f < manyS S) (hp : plO S f = some p) : xC g iX3_joinRow 15 [.ref (σ 0 0), .int (nI f)] A (xThG 28 A 1 6) := by
  show xW g _ _ 0 [some (.ref (σ 0 0)), some (.int (nI f)), none] [] _ _
  obtain ⟨mcf, edf, hfl, hflt, -⟩ := hB.fl.l
  obtain ⟨mcr, edr, hrl, hrlt, -⟩ := hB.rl.l
  obtain ⟨hm10, hr10⟩ := hB.le
  have hpl : p < rowS S := by have := (plc_lt hp).2.1; omega
  refine x_aload_n dX3_joinRow_0 rfl ?_
  refine x_iload_n dX3_joinRow_1 rfl ?_
  refine x_cvV (q := (RX3, TX3, 18)) cvX3_262_X3 dX3_joinRow_2 (Or.inl hB.h) rfl (c_X3_fiddler g A E τ σ tf S Y hB f hf) rfl ?_
  refine x_astore_n dX3_joinRow_5 (by decide) rfl ?_
  refine x_aload_n dX3_joinRow_6 rfl ?_
  refine x_iload_n dX3_joinRow_7 rfl ?_
  refine x_cvV (q := (RX3, TX3, 18)) cvX3_266_X3 dX3_joinRow_8 (Or.inl hB.h) rfl (c_X3_placeOf g A E τ σ tf S Y hB (nI f)) rfl ?_
  refine x_top (y := nI p) (show oI (plcS S (nI f) (rowS S) 0) = nI p by rw [show plcS S (nI f) (rowS S) 0 = some p from hp]; rfl) ?_
  refine x_iconst (v := (-1)) dX3_joinRow_11 rfl ?_
  refine x_icmp_neT (tgt := 19) dX3_joinRow_12 (by decide) (nI_m1 (by omega)) ?_
  refine x_iconst (v := 0) dX3_joinRow_19 rfl ?_
  exact v_csO csX3_172 dX3_joinRow_20 (c_X1_checkState_G _ _ hl) rfl ⟨_, rfl⟩ (fun _ _ h => h)
theorem c_X3_joinRow (g : xG) (A : xA) (E τ : Nat → Nat) (σ : Nat → Nat → Nat) (tf : Nat → Nat → Int32) (S Y : Nat → Int32) (hB : HB g E τ σ tf S Y A) (hg : gW g E) (f : Nat) (hf : f < manyS S) (hp : plO S f = none) : xC g iX3_joinRow 6 [.ref (σ 0 0), .int (nI f)] A (xRs fun w A' => w = some (.int (nI (rowS S))) ∧ ∃ τ', HB g E τ' σ tf (joS S f) Y A' ∧ hst τ A τ' A' 1 10) := by
  show xW g _ _ 0 [some (.ref (σ 0 0)), some (.int (nI f)), none] [] _ _
  obtain ⟨mcf, edf, hfl, hflt, -⟩ := hB.fl.l
  obtain ⟨mcr, edr, hrl, hrlt, -⟩ := hB.rl.l
  obtain ⟨hm10, hr10⟩ := hB.le
  have hrr : rowS S < 10 := plO_row hB.ok hf hp
  refine xW.ok (fun hok => ?_)
  refine x_aload_n dX3_joinRow_0 rfl ?_
  refine x_iload_n dX3_joinRow_1 rfl ?_
  refine x_cvV (q := (RX3, TX3, 18)) cvX3_262_X3 dX3_joinRow_2 (Or.inl hB.h) rfl (c_X3_fiddler g A E τ σ tf S Y hB f hf) rfl ?_
  refine x_astore_n dX3_joinRow_5 (by decide) rfl ?_
  refine x_aload_n dX3_joinRow_6 rfl ?_
  refine x_iload_n dX3_joinRow_7 rfl ?_
  refine x_cvV (q := (RX3, TX3, 18)) cvX3_266_X3 dX3_joinRow_8 (Or.inl hB.h) rfl (c_X3_placeOf g A E τ σ tf S Y hB (nI f)) rfl ?_
  refine x_top (y := -1) (show oI (plcS S (nI f) (rowS S) 0) = -1 by rw [show plcS S (nI f) (rowS S) 0 = none from hp]; rfl) ?_
  refine x_iconst (v := (-1)) dX3_joinRow_11 rfl ?_
  refine x_icmp_neF dX3_joinRow_12 19 (by decide) rfl ?_
  refine x_iconst (v := 1) dX3_joinRow_15 rfl ?_
  refine x_goto (tgt := 20) dX3_joinRow_16 (by decide) ?_
  refine x_csN csX3_172 dX3_joinRow_20 (c_X1_checkState_ok _ _ _ (by decide)) rfl ?_
  refine x_aload_n dX3_joinRow_23 rfl ?_
  refine x_get fgX3_22_2 dX3_joinRow_24 (Or.inl hB.h) rfl ?_
  refine x_aload_n dX3_joinRow_27 rfl ?_
  refine v_cvE (q := (RJ2, TJ2, 3)) cvX3_104_J2 dX3_joinRow_28 (Or.inl hrl) rfl (hAl_add hg hok hB.rl hrr (hB.fd hf).1.2.2 (cl1 := (RX4, TX4, 7)) rfl (Or.inr q4293) (by decide)) rfl (fun w A1 hP => ?_)
  obtain ⟨rfl, q1, q2, q3⟩ := hP
  have ht : ∀ r, r < A.2.1 → tgU τ A.2.1 4 r = τ r := fun r hr => tgU_o hr
  have hB1 : HB g E (tgU τ A.2.1 4) σ tf (joS S f) Y A1 := hB.u4 q3.1 ht q2 (fun i hi => jo_o hrr hi) (jo_ok hB.ok hf hp) (by
    rw [jo_row hB.ok.1 hrr]
    refine q1.cg (fun j hj => ?_)
    show σ 1 (plS (joS S f) j) = nup (fun p => σ 1 (plS S p)) (rowS S) (σ 1 f) j
    unfold plS
    rw [jo_pl]
    by_cases hj2 : j = rowS S
    · rw [if_pos hj2, hj2, nup_s, nI_clamp (by omega)]
    · rw [if_neg hj2, nup_n hj2])
  have s1 : hst τ A (tgU τ A.2.1 4) A1 1 10 := ⟨q3, ht, fun r hr h0 => q2 r hr (by rw [h0]; decide)⟩
  obtain ⟨mcr2, edr2, hrl2, -, -⟩ := hB1.rl.l
  refine x_pop dX3_joinRow_31 rfl ?_
  refine x_aload_n dX3_joinRow_32 rfl ?_
  refine x_get fgX3_22_2 dX3_joinRow_33 (Or.inl hB1.h) rfl ?_
  refine x_cvV (q := (RJ2, TJ2, 3)) cvX3_146_J2 dX3_joinRow_36 (Or.inl hrl2) rfl (hAl_size hB1.rl) rfl ?_
  refine x_iconst (v := 1) dX3_joinRow_39 rfl ?_
  refine x_isub dX3_joinRow_40 ?_
  refine x_top (y := nI (rowS S)) (by rw [jo_row hB.ok.1 hrr]; exact nI_pred _) ?_
  exact x_ireturn dX3_joinRow_41 rfl rfl ⟨_, rfl, rfl, _, hB1, s1⟩
theorem c_X3_swapPlaces_i1 (g : xG) (A : xA) (E τ : Nat → Nat) (σ : Nat → Nat → Nat) (tf : Nat → Nat → Int32) (S Y : Nat → Int32) (hB : HB g E τ σ tf S Y A) (hl : g.1.stackTraces = false) (y : Int32) (x : Int32) (hx : inI x 0 (nI (manyS S) - 1) = 0) : xC g iX3_swapPlaces 15 [.ref (σ 0 0), .int x, .int y] A (xThG 26 A 1 6) := by
  show xW g _ _ 0 [some (.ref (σ 0 0)), some (.int x), some (.int y), none, none, none, none] [] _ _
  obtain ⟨mcf, edf, hfl, hflt, -⟩ := hB.fl.l
  obtain ⟨mcr, edr, hrl, hrlt, -⟩ := hB.rl.l
  obtain ⟨hm10, hr10⟩ := hB.le
  refine x_aload_n dX3_swapPlaces_0 rfl ?_
  refine x_iload_n dX3_swapPlaces_1 rfl ?_
  exact v_cvO (q := (RX3, TX3, 18)) cvX3_262_X3 dX3_swapPlaces_2 (Or.inl hB.h) rfl (c_X3_fiddler_no g A E τ σ tf S Y hB hl x hx) rfl ⟨_, rfl⟩ (fun _ _ h => h)
theorem c_X3_swapPlaces_i2 (g : xG) (A : xA) (E τ : Nat → Nat) (σ : Nat → Nat → Nat) (tf : Nat → Nat → Int32) (S Y : Nat → Int32) (hB : HB g E τ σ tf S Y A) (hl : g.1.stackTraces = false) (f : Nat) (hf : f < manyS S) (x : Int32) (hx : inI x 0 (nI (manyS S) - 1) = 0) : xC g iX3_swapPlaces 15 [.ref (σ 0 0), .int (nI f), .int x] A (xThG 26 A 1 6) := by
  show xW g _ _ 0 [some (.ref (σ 0 0)), some (.int (nI f)), some (.int x), none, none, none, none] [] _ _
  obtain ⟨mcf, edf, hfl, hflt, -⟩ := hB.fl.l
  obtain ⟨mcr, edr, hrl, hrlt, -⟩ := hB.rl.l
  obtain ⟨hm10, hr10⟩ := hB.le
  refine x_aload_n dX3_swapPlaces_0 rfl ?_
  refine x_iload_n dX3_swapPlaces_1 rfl ?_
  refine x_cvV (q := (RX3, TX3, 18)) cvX3_262_X3 dX3_swapPlaces_2 (Or.inl hB.h) rfl (c_X3_fiddler g A E τ σ tf S Y hB f hf) rfl ?_
  refine x_astore_n dX3_swapPlaces_5 (by decide) rfl ?_
  refine x_aload_n dX3_swapPlaces_6 rfl ?_
  refine x_iload_n dX3_swapPlaces_7 rfl ?_
  exact v_cvO (q := (RX3, TX3, 18)) cvX3_262_X3 dX3_swapPlaces_8 (Or.inl hB.h) rfl (c_X3_fiddler_no g A E τ σ tf S Y hB hl x hx) rfl ⟨_, rfl⟩ (fun _ _ h => h)
theorem c_X3_swapPlaces_a (g : xG) (A : xA) (E τ : Nat → Nat) (σ : Nat → Nat → Nat) (tf : Nat → Nat → Int32) (S Y : Nat → Int32) (hB : HB g E τ σ tf S Y A) (hl : g.1.stackTraces = false) (f : Nat) (hf : f < manyS S) : xC g iX3_swapPlaces 15 [.ref (σ 0 0), .int (nI f), .int (nI f)] A (xThG 27 A 1 6) := by
  show xW g _ _ 0 [some (.ref (σ 0 0)), some (.int (nI f)), some (.int (nI f)), none, none, none, none] [] _ _
  obtain ⟨mcf, edf, hfl, hflt, -⟩ := hB.fl.l
  obtain ⟨mcr, edr, hrl, hrlt, -⟩ := hB.rl.l
  obtain ⟨hm10, hr10⟩ := hB.le
  refine x_aload_n dX3_swapPlaces_0 rfl ?_
  refine x_iload_n dX3_swapPlaces_1 rfl ?_
  refine x_cvV (q := (RX3, TX3, 18)) cvX3_262_X3 dX3_swapPlaces_2 (Or.inl hB.h) rfl (c_X3_fiddler g A E τ σ tf S Y hB f hf) rfl ?_
  refine x_astore_n dX3_swapPlaces_5 (by decide) rfl ?_
  refine x_aload_n dX3_swapPlaces_6 rfl ?_
  refine x_iload_n dX3_swapPlaces_7 rfl ?_
  refine x_cvV (q := (RX3, TX3, 18)) cvX3_262_X3 dX3_swapPlaces_8 (Or.inl hB.h) rfl (c_X3_fiddler g A E τ σ tf S Y hB f hf) rfl ?_
  refine x_astore dX3_swapPlaces_11 (by decide) rfl ?_
  refine x_iload_n dX3_swapPlaces_13 rfl ?_
  refine x_iload_n dX3_swapPlaces_14 rfl ?_
  refine x_icmp_eqT (tgt := 22) dX3_swapPlaces_15 (by decide) rfl ?_
  refine x_iconst (v := 0) dX3_swapPlaces_22 rfl ?_
  exact v_csO csX3_256 dX3_swapPlaces_23 (c_X1_checkArgument_G _ _ hl) rfl ⟨_, rfl⟩ (fun _ _ h => h)
theorem c_X3_swapPlaces_s1 (g : xG) (A : xA) (E τ : Nat → Nat) (σ : Nat → Nat → Nat) (tf : Nat → Nat → Int32) (S Y : Nat → Int32) (hB : HB g E τ σ tf S Y A) (hl : g.1.stackTraces = false) (f u : Nat) (hf : f < manyS S) (hu : u < manyS S) (hfu : f ≠ u) (hp : plO S f = none) : xC g iX3_swapPlaces 15 [.ref (σ 0 0), .int (nI f), .int (nI u)] A (xThG 28 A 1 6) := by
  show xW g _ _ 0 [some (.ref (σ 0 0)), some (.int (nI f)), some (.int (nI u)), none, none, none, none] [] _ _
  obtain ⟨mcf, edf, hfl, hflt, -⟩ := hB.fl.l
  obtain ⟨mcr, edr, hrl, hrlt, -⟩ := hB.rl.l
  obtain ⟨hm10, hr10⟩ := hB.le
  refine x_aload_n dX3_swapPlaces_0 rfl ?_
  refine x_iload_n dX3_swapPlaces_1 rfl ?_
  refine x_cvV (q := (RX3, TX3, 18)) cvX3_262_X3 dX3_swapPlaces_2 (Or.inl hB.h) rfl (c_X3_fiddler g A E τ σ tf S Y hB f hf) rfl ?_
  refine x_astore_n dX3_swapPlaces_5 (by decide) rfl ?_
  refine x_aload_n dX3_swapPlaces_6 rfl ?_
  refine x_iload_n dX3_swapPlaces_7 rfl ?_
  refine x_cvV (q := (RX3, TX3, 18)) cvX3_262_X3 dX3_swapPlaces_8 (Or.inl hB.h) rfl (c_X3_fiddler g A E τ σ tf S Y hB u hu) rfl ?_
  refine x_astore dX3_swapPlaces_11 (by decide) rfl ?_
  refine x_iload_n dX3_swapPlaces_13 rfl ?_
  refine x_iload_n dX3_swapPlaces_14 rfl ?_
  refine x_icmp_eqF dX3_swapPlaces_15 22 (by decide) (fun e => hfu (nI_inj (by omega) (by omega) e)) ?_
  refine x_iconst (v := 1) dX3_swapPlaces_18 rfl ?_
  refine x_goto (tgt := 23) dX3_swapPlaces_19 (by decide) ?_
  refine x_csN csX3_256 dX3_swapPlaces_23 (c_X1_checkArgument_ok _ _ _ (by decide)) rfl ?_
  refine x_aload_n dX3_swapPlaces_26 rfl ?_
  refine x_iload_n dX3_swapPlaces_27 rfl ?_
  refine x_cvV (q := (RX3, TX3, 18)) cvX3_266_X3 dX3_swapPlaces_28 (Or.inl hB.h) rfl (c_X3_placeOf g A E τ σ tf S Y hB (nI f)) rfl ?_
  refine x_top (y := -1) (show oI (plcS S (nI f) (rowS S) 0) = -1 by rw [show plcS S (nI f) (rowS S) 0 = none from hp]; rfl) ?_
  refine x_istore dX3_swapPlaces_31 (by decide) rfl ?_
  refine x_aload_n dX3_swapPlaces_33 rfl ?_
  refine x_iload_n dX3_swapPlaces_34 rfl ?_
  refine x_cvV (q := (RX3, TX3, 18)) cvX3_266_X3 dX3_swapPlaces_35 (Or.inl hB.h) rfl (c_X3_placeOf g A E τ σ tf S Y hB (nI u)) rfl ?_
  refine x_istore dX3_swapPlaces_38 (by decide) rfl ?_
  refine x_iload dX3_swapPlaces_40 rfl ?_
  refine x_iconst (v := (-1)) dX3_swapPlaces_42 rfl ?_
  refine x_icmp_eqT (tgt := 56) dX3_swapPlaces_43 (by decide) rfl ?_
  refine x_iconst (v := 0) dX3_swapPlaces_56 rfl ?_
  exact v_csO csX3_172 dX3_swapPlaces_57 (c_X1_checkState_G _ _ hl) rfl ⟨_, rfl⟩ (fun _ _ h => h)
theorem c_X3_swapPlaces_s2 (g : xG) (A : xA) (E τ : Nat → Nat) (σ : Nat → Nat → Nat) (tf : Nat → Nat → Int32) (S Y : Nat → Int32) (hB : HB g E τ σ tf S Y A) (hl : g.1.stackTraces = false) (f u : Nat) (hf : f < manyS S) (hu : u < manyS S) (hfu : f ≠ u) (p : Nat) (hp : plO S f = some p) (hr : plO S u = none) : xC g iX3_swapPlaces 15 [.ref (σ 0 0), .int (nI f), .int (nI u)] A (xThG 28 A 1 6) := by
  show xW g _ _ 0 [some (.ref (σ 0 0)), some (.int (nI f)), some (.int (nI u)), none, none, none, none] [] _ _
  obtain ⟨mcf, edf, hfl, hflt, -⟩ := hB.fl.l
  obtain ⟨mcr, edr, hrl, hrlt, -⟩ := hB.rl.l
  obtain ⟨hm10, hr10⟩ := hB.le
  have hpl : p < rowS S := by have := (plc_lt hp).2.1; omega
  refine x_aload_n dX3_swapPlaces_0 rfl ?_
  refine x_iload_n dX3_swapPlaces_1 rfl ?_
  refine x_cvV (q := (RX3, TX3, 18)) cvX3_262_X3 dX3_swapPlaces_2 (Or.inl hB.h) rfl (c_X3_fiddler g A E τ σ tf S Y hB f hf) rfl ?_
  refine x_astore_n dX3_swapPlaces_5 (by decide) rfl ?_
  refine x_aload_n dX3_swapPlaces_6 rfl ?_
  refine x_iload_n dX3_swapPlaces_7 rfl ?_
  refine x_cvV (q := (RX3, TX3, 18)) cvX3_262_X3 dX3_swapPlaces_8 (Or.inl hB.h) rfl (c_X3_fiddler g A E τ σ tf S Y hB u hu) rfl ?_
  refine x_astore dX3_swapPlaces_11 (by decide) rfl ?_
  refine x_iload_n dX3_swapPlaces_13 rfl ?_
  refine x_iload_n dX3_swapPlaces_14 rfl ?_
  refine x_icmp_eqF dX3_swapPlaces_15 22 (by decide) (fun e => hfu (nI_inj (by omega) (by omega) e)) ?_
  refine x_iconst (v := 1) dX3_swapPlaces_18 rfl ?_
  refine x_goto (tgt := 23) dX3_swapPlaces_19 (by decide) ?_
  refine x_csN csX3_256 dX3_swapPlaces_23 (c_X1_checkArgument_ok _ _ _ (by decide)) rfl ?_
  refine x_aload_n dX3_swapPlaces_26 rfl ?_
  refine x_iload_n dX3_swapPlaces_27 rfl ?_
  refine x_cvV (q := (RX3, TX3, 18)) cvX3_266_X3 dX3_swapPlaces_28 (Or.inl hB.h) rfl (c_X3_placeOf g A E τ σ tf S Y hB (nI f)) rfl ?_
  refine x_top (y := nI p) (show oI (plcS S (nI f) (rowS S) 0) = nI p by rw [show plcS S (nI f) (rowS S) 0 = some p from hp]; rfl) ?_
  refine x_istore dX3_swapPlaces_31 (by decide) rfl ?_
  refine x_aload_n dX3_swapPlaces_33 rfl ?_
  refine x_iload_n dX3_swapPlaces_34 rfl ?_
  refine x_cvV (q := (RX3, TX3, 18)) cvX3_266_X3 dX3_swapPlaces_35 (Or.inl hB.h) rfl (c_X3_placeOf g A E τ σ tf S Y hB (nI u)) rfl ?_
  refine x_top (y := -1) (show oI (plcS S (nI u) (rowS S) 0) = -1 by rw [show plcS S (nI u) (rowS S) 0 = none from hr]; rfl) ?_
  refine x_istore dX3_swapPlaces_38 (by decide) rfl ?_
  refine x_iload dX3_swapPlaces_40 rfl ?_
  refine x_iconst (v := (-1)) dX3_swapPlaces_42 rfl ?_
  refine x_icmp_eqF dX3_swapPlaces_43 56 (by decide) (nI_m1 (by omega)) ?_
  refine x_iload dX3_swapPlaces_46 rfl ?_
  refine x_iconst (v := (-1)) dX3_swapPlaces_48 rfl ?_
  refine x_icmp_eqT (tgt := 56) dX3_swapPlaces_49 (by decide) rfl ?_
  refine x_iconst (v := 0) dX3_swapPlaces_56 rfl ?_
  exact v_csO csX3_172 dX3_swapPlaces_57 (c_X1_checkState_G _ _ hl) rfl ⟨_, rfl⟩ (fun _ _ h => h)
theorem c_X3_swapPlaces (g : xG) (A : xA) (E τ : Nat → Nat) (σ : Nat → Nat → Nat) (tf : Nat → Nat → Int32) (S Y : Nat → Int32) (hB : HB g E τ σ tf S Y A) (f u : Nat) (hf : f < manyS S) (hu : u < manyS S) (hfu : f ≠ u) (p r : Nat) (hp : plO S f = some p) (hr : plO S u = some r) : xC g iX3_swapPlaces 6 [.ref (σ 0 0), .int (nI f), .int (nI u)] A (xRs fun w A' => w = some (.int (nI r)) ∧ HB g E τ σ tf (swapS S p r (nI f) (nI u)) Y A' ∧ hst τ A τ A' 0 0) := by
  show xW g _ _ 0 [some (.ref (σ 0 0)), some (.int (nI f)), some (.int (nI u)), none, none, none, none] [] _ _
  obtain ⟨mcf, edf, hfl, hflt, -⟩ := hB.fl.l
  obtain ⟨mcr, edr, hrl, hrlt, -⟩ := hB.rl.l
  obtain ⟨hm10, hr10⟩ := hB.le
  have hpl : p < rowS S := by have := (plc_lt hp).2.1; omega
  have hrl9 : r < rowS S := by have := (plc_lt hr).2.1; omega
  refine x_aload_n dX3_swapPlaces_0 rfl ?_
  refine x_iload_n dX3_swapPlaces_1 rfl ?_
  refine x_cvV (q := (RX3, TX3, 18)) cvX3_262_X3 dX3_swapPlaces_2 (Or.inl hB.h) rfl (c_X3_fiddler g A E τ σ tf S Y hB f hf) rfl ?_
  refine x_astore_n dX3_swapPlaces_5 (by decide) rfl ?_
  refine x_aload_n dX3_swapPlaces_6 rfl ?_
  refine x_iload_n dX3_swapPlaces_7 rfl ?_
  refine x_cvV (q := (RX3, TX3, 18)) cvX3_262_X3 dX3_swapPlaces_8 (Or.inl hB.h) rfl (c_X3_fiddler g A E τ σ tf S Y hB u hu) rfl ?_
  refine x_astore dX3_swapPlaces_11 (by decide) rfl ?_
  refine x_iload_n dX3_swapPlaces_13 rfl ?_
  refine x_iload_n dX3_swapPlaces_14 rfl ?_
  refine x_icmp_eqF dX3_swapPlaces_15 22 (by decide) (fun e => hfu (nI_inj (by omega) (by omega) e)) ?_
  refine x_iconst (v := 1) dX3_swapPlaces_18 rfl ?_
  refine x_goto (tgt := 23) dX3_swapPlaces_19 (by decide) ?_
  refine x_csN csX3_256 dX3_swapPlaces_23 (c_X1_checkArgument_ok _ _ _ (by decide)) rfl ?_
  refine x_aload_n dX3_swapPlaces_26 rfl ?_
  refine x_iload_n dX3_swapPlaces_27 rfl ?_
  refine x_cvV (q := (RX3, TX3, 18)) cvX3_266_X3 dX3_swapPlaces_28 (Or.inl hB.h) rfl (c_X3_placeOf g A E τ σ tf S Y hB (nI f)) rfl ?_
  refine x_top (y := nI p) (show oI (plcS S (nI f) (rowS S) 0) = nI p by rw [show plcS S (nI f) (rowS S) 0 = some p from hp]; rfl) ?_
  refine x_istore dX3_swapPlaces_31 (by decide) rfl ?_
  refine x_aload_n dX3_swapPlaces_33 rfl ?_
  refine x_iload_n dX3_swapPlaces_34 rfl ?_
  refine x_cvV (q := (RX3, TX3, 18)) cvX3_266_X3 dX3_swapPlaces_35 (Or.inl hB.h) rfl (c_X3_placeOf g A E τ σ tf S Y hB (nI u)) rfl ?_
  refine x_top (y := nI r) (show oI (plcS S (nI u) (rowS S) 0) = nI r by rw [show plcS S (nI u) (rowS S) 0 = some r from hr]; rfl) ?_
  refine x_istore dX3_swapPlaces_38 (by decide) rfl ?_
  refine x_iload dX3_swapPlaces_40 rfl ?_
  refine x_iconst (v := (-1)) dX3_swapPlaces_42 rfl ?_
  refine x_icmp_eqF dX3_swapPlaces_43 56 (by decide) (nI_m1 (by omega)) ?_
  refine x_iload dX3_swapPlaces_46 rfl ?_
  refine x_iconst (v := (-1)) dX3_swapPlaces_48 rfl ?_
  refine x_icmp_eqF dX3_swapPlaces_49 56 (by decide) (nI_m1 (by omega)) ?_
  refine x_iconst (v := 1) dX3_swapPlaces_52 rfl ?_
  refine x_goto (tgt := 57) dX3_swapPlaces_53 (by decide) ?_
  refine x_csN csX3_172 dX3_swapPlaces_57 (c_X1_checkState_ok _ _ _ (by decide)) rfl ?_
  refine x_aload_n dX3_swapPlaces_60 rfl ?_
  refine x_get fgX3_22_2 dX3_swapPlaces_61 (Or.inl hB.h) rfl ?_
  refine x_iload dX3_swapPlaces_64 rfl ?_
  refine x_aload dX3_swapPlaces_66 rfl ?_
  refine v_cvE (q := (RJ2, TJ2, 3)) cvX3_269_J2 dX3_swapPlaces_68 (Or.inl hrl) rfl (hAl_set hB.rl hpl (hB.fd hu).1.2.2) rfl (fun w A1 hP => ?_)
  obtain ⟨rfl, q1, q2, q3⟩ := hP
  have epf : plS S p = f := by unfold plS; rw [(plc_lt hp).2.2, nI_clamp (by omega)]
  have epu : plS S r = u := by unfold plS; rw [(plc_lt hr).2.2, nI_clamp (by omega)]
  have hpr : r ≠ p := fun e => hfu (by rw [← epf, ← epu, e])
  have hf1 : A1.1 (σ 1 f) = some (xFd (nI f) (hs S f 1) (σ 3 f) (σ 2 f) (hs S f 3) (hs S f 4) (Y f)) := (q2 _ (by rw [(hB.fd hf).1.1]; omega)).trans (hB.fd hf).1.2.2
  have hu1 : A1.1 (σ 1 u) = some (xFd (nI u) (hs S u 1) (σ 3 u) (σ 2 u) (hs S u 3) (hs S u 4) (Y u)) := (q2 _ (by rw [(hB.fd hu).1.1]; omega)).trans (hB.fd hu).1.2.2
  have hh1 : A1.1 (σ 0 0) = some (xHl S (σ 0 1) (σ 0 2) (σ 0 3) (σ 0 4) (σ 0 5)) := (q2 _ (by rw [hB.lt.2]; decide)).trans hB.h
  obtain ⟨mcr2, edr2, hrl2, -, -⟩ := q1.l
  refine x_topv (show Value.ref (σ 1 (plS S p)) = .ref (σ 1 f) by rw [epf]) ?_
  refine x_castY dX3_swapPlaces_71 q1239 (Or.inl hf1) (q := (RX4, TX4, 7)) rfl (Or.inl rfl) ?_
  refine x_astore_n dX3_swapPlaces_74 (by decide) rfl ?_
  refine x_aload_n dX3_swapPlaces_75 rfl ?_
  refine x_get fgX3_22_2 dX3_swapPlaces_76 (Or.inl hh1) rfl ?_
  refine x_iload dX3_swapPlaces_79 rfl ?_
  refine x_aload_n dX3_swapPlaces_81 rfl ?_
  refine v_cvE (q := (RJ2, TJ2, 3)) cvX3_269_J2 dX3_swapPlaces_82 (Or.inl hrl2) rfl (hAl_set q1 hrl9 hf1) rfl (fun w A2 hP => ?_)
  obtain ⟨rfl, r1, r2, r3⟩ := hP
  have q9 : ∀ z, τ z ≠ 4 → A2.1 z = A.1 z := fun z hz => (r2 z hz).trans (q2 z hz)
  have e9 : A2.2 = A.2 := r3.trans q3
  have hB1 : HB g E τ σ tf (swapS S p r (nI f) (nI u)) Y A2 := hB.u4 (by rw [e9]; exact Nat.le_refl _) (fun _ _ => rfl) (fun z _ hz => q9 z hz) (fun i hi => sw_o (by omega) (by omega) hi) (swap_ok hB.ok hp hr hf hu) (by
    rw [show rowS (swapS S p r (nI f) (nI u)) = rowS S from rowS_eq ((upd_ne _ _ (by omega)).trans (upd_ne _ _ (by omega)))]
    refine r1.cg (fun j hj => ?_)
    show σ 1 (plS (swapS S p r (nI f) (nI u)) j) = nup (nup (fun p => σ 1 (plS S p)) p (σ 1 u)) r (σ 1 f) j
    unfold plS swapS
    by_cases hj2 : j = r
    · rw [hj2, nup_s, upd_self, nI_clamp (by omega)]
    · rw [nup_n hj2, upd_ne _ _ (by omega)]
      by_cases hj3 : j = p
      · rw [hj3, nup_s, upd_self, nI_clamp (by omega)]
      · rw [nup_n hj3, upd_ne _ _ (by omega)])
  refine x_topv (show Value.ref (nup (fun p => σ 1 (plS S p)) p (σ 1 u) r) = .ref (σ 1 u) by rw [nup_n hpr, epu]) ?_
  refine x_castY dX3_swapPlaces_85 q1239 (Or.inl ((r2 _ (by rw [(hB.fd hu).1.1]; omega)).trans hu1)) (q := (RX4, TX4, 7)) rfl (Or.inl rfl) ?_
  refine x_astore dX3_swapPlaces_88 (by decide) rfl ?_
  refine x_iload dX3_swapPlaces_90 rfl ?_
  exact x_ireturn dX3_swapPlaces_92 rfl rfl ⟨_, rfl, rfl, hB1, hst_0 (τ := τ) (by decide) q9 e9⟩
