set_option maxRecDepth 100000
/-! LINKED MAPS: putting a new key, the table's growth -/
theorem xor_0 (h : Nat) (hh : h < 65536) : nI h ^^^ ((nI h).toUInt32 >>> ((16 : Int32).toUInt32 &&& Int32.toUInt32 31)).toInt32 = nI h := by
  rw [pk_ushrN (n := h) (by omega) 16 16 (by decide), show h / 2 ^ 16 = 0 by omega]
  show nI h ^^^ (0 : Int32) = nI h
  simp
theorem and_n {n h : Nat} (hn : n = 16 ∨ n = 32 ∨ n = 64) (hh : h < 65536) : (nI n - 1) &&& nI h = nI (h % n) := by
  rcases hn with rfl | rfl | rfl
  · rw [show nI 16 - 1 = (15 : Int32) by decide, show (15 : Int32) &&& nI h = nI h &&& 15 from Int32.and_comm _ _, pk_andN (by omega) 4 (by decide)]
  · rw [show nI 32 - 1 = (31 : Int32) by decide, show (31 : Int32) &&& nI h = nI h &&& 31 from Int32.and_comm _ _, pk_andN (by omega) 5 (by decide)]
  · rw [show nI 64 - 1 = (63 : Int32) by decide, show (63 : Int32) &&& nI h = nI h &&& 63 from Int32.and_comm _ _, pk_andN (by omega) 6 (by decide)]
theorem c_J4_hash (g : xG) (A : xA) (k f s : Nat) (hk : A.1 k = some (.inr (4, [.int (nI f), .int (nI s)]))) (hh : 4 * f + s < 65536) : xC g iJ4_hash 2 [.ref k] A (xRet (some (.int (nI (4 * f + s)))) A) := by
  show xW g _ _ 0 [some (.ref k), none] [] _ _
  refine x_aload_n dJ4_hash_0 rfl ?_
  refine x_nn_T (tgt := 8) dJ4_hash_1 (by decide) ?_
  refine x_aload_n dJ4_hash_8 rfl ?_
  refine x_cvV (q := (RX5, TX5, 2)) cvJ4_1_X5 dJ4_hash_9 (Or.inl hk) rfl (c_X5_hashCode _ _ k f s hk) rfl ?_
  refine x_dup dJ4_hash_12 rfl ?_
  refine x_istore_n dJ4_hash_13 (by decide) rfl ?_
  refine x_iload_n dJ4_hash_14 rfl ?_
  refine x_bipush (v := 16) dJ4_hash_15 (by decide) ?_
  refine x_iushr dJ4_hash_17 ?_
  refine x_ixor dJ4_hash_18 ?_
  refine x_top (y := nI (4 * f + s)) (xor_0 _ hh) ?_
  exact x_ireturn dJ4_hash_19 rfl rfl ⟨rfl, rfl⟩
theorem c_J31_init (g : xG) (A : xA) (p h k v : Nat) (a b c d : Value) (hp : A.1 p = some (.inr (17, [a, b, c, d, .null, .null]))) : xC g iJ31_init 1 [.ref p, .int (nI h), .ref k, .ref v, .null] A (xRet none (xup A p (xNd h k v none none none))) := by
  show xW g _ _ 0 [some (.ref p), some (.int (nI h)), some (.ref k), some (.ref v), some (.null)] [] _ _
  refine xW.at1 hp ?_
  have hD : ovD [p] := ovD_1
  refine x_aload_n dJ31_init_0 rfl ?_
  refine x_objInit q1495 q204 q205 dJ31_init_1 (by decide) (by exact Nat.le_of_ble_eq_true rfl) ?_
  refine x_aload_n dJ31_init_4 rfl ?_
  refine x_iload_n dJ31_init_5 rfl ?_
  refine v_putF hD (i := 0) rfl fFJ31_7_17 rfl dJ31_init_6 ⟨rfl, rfl⟩ (by exact Nat.le_of_ble_eq_true rfl) ?_
  refine x_aload_n dJ31_init_9 rfl ?_
  refine x_aload_n dJ31_init_10 rfl ?_
  refine v_putF hD (i := 0) rfl fFJ31_13_17 rfl dJ31_init_11 ⟨rfl, rfl⟩ (by exact Nat.le_of_ble_eq_true rfl) ?_
  refine x_aload_n dJ31_init_14 rfl ?_
  refine x_aload_n dJ31_init_15 rfl ?_
  refine v_put hD (i := 0) rfl fpJ31_17_17 dJ31_init_16 ⟨rfl, rfl⟩ (by exact Nat.le_of_ble_eq_true rfl) ?_
  refine x_aload_n dJ31_init_19 rfl ?_
  refine x_aloadN dJ31_init_20 rfl ?_
  refine v_put hD (i := 0) rfl fpJ31_20_17 dJ31_init_22 ⟨rfl, rfl⟩ (by exact Nat.le_of_ble_eq_true rfl) ?_
  exact x_return dJ31_init_25 rfl ⟨rfl, rfl⟩
theorem c_J32_init (g : xG) (A : xA) (p h k v : Nat) (a b c d : Value) (hp : A.1 p = some (.inr (17, [a, b, c, d, .null, .null]))) : xC g iJ32_init 2 [.ref p, .int (nI h), .ref k, .ref v, .null] A (xRet none (xup A p (xNd h k v none none none))) := by
  show xW g _ _ 0 [some (.ref p), some (.int (nI h)), some (.ref k), some (.ref v), some (.null)] [] _ _
  refine xW.at1 hp ?_
  have hD : ovD [p] := ovD_1
  refine x_aload_n dJ32_init_0 rfl ?_
  refine x_iload_n dJ32_init_1 rfl ?_
  refine x_aload_n dJ32_init_2 rfl ?_
  refine x_aload_n dJ32_init_3 rfl ?_
  refine x_aloadN dJ32_init_4 rfl ?_
  refine x_ciN ciJ32_1 dJ32_init_6 (c_J31_init _ _ _ h k v _ _ _ _ (by exact ov_at hD (i := 0) rfl)) rfl ?_
  refine xW.eqA (ov_up hD (i := 0) rfl) ?_
  exact x_return dJ32_init_9 rfl ⟨rfl, rfl⟩
theorem c_J5_link0 (g : xG) (B : xA) (m T n : Nat) (cc th : Nat) (mc : Int32) (es ks vs : Option Nat) (tf : Nat → Option Nat) (N H K V : Nat → Nat) (NX BF AF : Nat → Option Nat) (hD : mD B.2.1 m T N 1) : xC g iJ5_linkNodeAtEnd 0 [.ref m, .ref (N 0)] (mS B m T n (xLm (some T) es cc mc th ks vs none none) tf N H K V NX BF AF 1) (xRet none (mS B m T n (xLm (some T) es cc mc th ks vs (some (N 0)) (some (N 0))) tf N H K V NX BF AF 1)) := by
  show xW g _ _ 0 [some (.ref m), some (.ref (N 0)), none] [] _ _
  refine x_aload_n dJ5_linkNodeAtEnd_0 rfl ?_
  refine x_get fgJ5_1_12 dJ5_linkNodeAtEnd_1 (Or.inl (mS_m hD)) rfl ?_
  refine x_iconst (v := 1) dJ5_linkNodeAtEnd_4 rfl ?_
  refine x_icmp_neT (tgt := 43) dJ5_linkNodeAtEnd_5 (by decide) (by decide) ?_
  refine x_aload_n dJ5_linkNodeAtEnd_43 rfl ?_
  refine x_get fgJ5_11_12 dJ5_linkNodeAtEnd_44 (Or.inl (mS_m hD)) rfl ?_
  refine x_astore_nN dJ5_linkNodeAtEnd_47 (by decide) rfl ?_
  refine x_aload_n dJ5_linkNodeAtEnd_48 rfl ?_
  refine x_aload_n dJ5_linkNodeAtEnd_49 rfl ?_
  refine x_put fpJ5_11_12 dJ5_linkNodeAtEnd_50 (mS_m hD) ⟨rfl, rfl⟩ (by exact Nat.le_of_ble_eq_true rfl) ?_
  refine xW.eqA (mS_wm hD) ?_
  refine x_aload_nN dJ5_linkNodeAtEnd_53 rfl ?_
  refine x_nn_F dJ5_linkNodeAtEnd_54 ?_
  refine x_aload_n dJ5_linkNodeAtEnd_57 rfl ?_
  refine x_aload_n dJ5_linkNodeAtEnd_58 rfl ?_
  refine x_put fpJ5_7_12 dJ5_linkNodeAtEnd_59 (mS_m hD) ⟨rfl, rfl⟩ (by exact Nat.le_of_ble_eq_true rfl) ?_
  refine xW.eqA (mS_wm hD) ?_
  refine x_goto (tgt := 75) dJ5_linkNodeAtEnd_62 (by decide) ?_
  exact x_return dJ5_linkNodeAtEnd_75 rfl ⟨rfl, rfl⟩
theorem c_J5_link1 (g : xG) (B : xA) (m T n c : Nat) (cc th : Nat) (mc : Int32) (es ks vs : Option Nat) (tf : Nat → Option Nat) (N H K V : Nat → Nat) (NX BF AF : Nat → Option Nat) (hD : mD B.2.1 m T N (c + 2)) : xC g iJ5_linkNodeAtEnd 0 [.ref m, .ref (N (c + 1))] (mS B m T n (xLm (some T) es cc mc th ks vs (some (N 0)) (some (N c))) tf N H K V NX BF AF (c + 2)) (xRet none (mS B m T n (xLm (some T) es cc mc th ks vs (some (N 0)) (some (N (c + 1)))) tf N H K V NX (va_up BF (c + 1) (some (N c))) (va_up AF c (some (N (c + 1)))) (c + 2))) := by
  show xW g _ _ 0 [some (.ref m), some (.ref (N (c + 1))), none] [] _ _
  refine x_aload_n dJ5_linkNodeAtEnd_0 rfl ?_
  refine x_get fgJ5_1_12 dJ5_linkNodeAtEnd_1 (Or.inl (mS_m hD)) rfl ?_
  refine x_iconst (v := 1) dJ5_linkNodeAtEnd_4 rfl ?_
  refine x_icmp_neT (tgt := 43) dJ5_linkNodeAtEnd_5 (by decide) (by decide) ?_
  refine x_aload_n dJ5_linkNodeAtEnd_43 rfl ?_
  refine x_get fgJ5_11_12 dJ5_linkNodeAtEnd_44 (Or.inl (mS_m hD)) rfl ?_
  refine x_astore_n dJ5_linkNodeAtEnd_47 (by decide) rfl ?_
  refine x_aload_n dJ5_linkNodeAtEnd_48 rfl ?_
  refine x_aload_n dJ5_linkNodeAtEnd_49 rfl ?_
  refine x_put fpJ5_11_12 dJ5_linkNodeAtEnd_50 (mS_m hD) ⟨rfl, rfl⟩ (by exact Nat.le_of_ble_eq_true rfl) ?_
  refine xW.eqA (mS_wm hD) ?_
  refine x_aload_n dJ5_linkNodeAtEnd_53 rfl ?_
  refine x_nn_T (tgt := 65) dJ5_linkNodeAtEnd_54 (by decide) ?_
  refine x_aload_n dJ5_linkNodeAtEnd_65 rfl ?_
  refine x_aload_n dJ5_linkNodeAtEnd_66 rfl ?_
  refine x_put fpJ5_19_17 dJ5_linkNodeAtEnd_67 (mS_N hD (by omega)) ⟨rfl, rfl⟩ (by exact Nat.le_of_ble_eq_true rfl) ?_
  refine xW.eqA (mS_wb (o := some (N c)) hD (by omega)) ?_
  refine x_aload_n dJ5_linkNodeAtEnd_70 rfl ?_
  refine x_aload_n dJ5_linkNodeAtEnd_71 rfl ?_
  refine x_put fpJ5_14_17 dJ5_linkNodeAtEnd_72 (mS_N hD (by omega)) ⟨rfl, rfl⟩ (by exact Nat.le_of_ble_eq_true rfl) ?_
  refine xW.eqA (mS_wa (o := some (N (c + 1))) hD (by omega)) ?_
  exact x_return dJ5_linkNodeAtEnd_75 rfl ⟨rfl, rfl⟩
theorem hdF_0 {N : Nat → Nat} : hdF N 0 = none := rfl
theorem tlF_0 {N : Nat → Nat} : tlF N 0 = none := rfl
theorem hdF_1 {N : Nat → Nat} {c : Nat} : hdF N (c + 1) = some (N 0) := if_neg (by omega)
theorem tlF_1 {N : Nat → Nat} {c : Nat} : tlF N (c + 1) = some (N c) := if_neg (by omega)
def xBd (A A' : xA) (c s : Nat) : Prop := A.2.1 ≤ A'.2.1 ∧ A'.2.1 ≤ A.2.1 + c ∧ A'.2.2 ≤ A.2.2 + s
theorem c_J5_newNode (g : xG) (B : xA) (m T n c : Nat) (cc th : Nat) (mc : Int32) (es ks vs : Option Nat) (tf : Nat → Option Nat) (N H K V : Nat → Nat) (NX BF AF : Nat → Option Nat) (h k v : Nat) (hD : mD B.2.1 m T N c) (hBF : ∀ j, j < c → BF j = bfF N j) (hAF : ∀ j, j < c → AF j = afF N c j) : xC g iJ5_newNode 3 [.ref m, .int (nI h), .ref k, .ref v, .null] (mS B m T n (xLm (some T) es cc mc th ks vs (hdF N c) (tlF N c)) tf N H K V NX BF AF c) (xRs fun w A' => w = some (.ref B.2.1) ∧ ∃ BF' AF', A' = (mS (xbp B 6) m T n (xLm (some T) es cc mc th ks vs (hdF (nup N c B.2.1) (c + 1)) (tlF (nup N c B.2.1) (c + 1))) tf (nup N c B.2.1) (nup H c h) (nup K c k) (nup V c v) (va_up NX c none) BF' AF' (c + 1)) ∧ (∀ j, j < c + 1 → BF' j = bfF (nup N c B.2.1) j) ∧ ∀ j, j < c + 1 → AF' j = afF (nup N c B.2.1) (c + 1) j) := by
  show xW g _ _ 0 [some (.ref m), some (.int (nI h)), some (.ref k), some (.ref v), some (.null), none] [] _ _
  refine xW.eqA (show (mS B m T n (xLm (some T) es cc mc th ks vs (hdF N c) (tlF N c)) tf N H K V NX BF AF c) = ov (mS B m T n (xLm (some T) es cc mc th ks vs (hdF N c) (tlF N c)) tf N H K V NX BF AF c) [] from rfl) ?_
  have hD0 : ovD [] := trivial
  have hL0 : ovL (mS B m T n (xLm (some T) es cc mc th ks vs (hdF N c) (tlF N c)) tf N H K V NX BF AF c).2.1 [] := fun b hb => by simp at hb
  refine v_new nwJ5_15 dJ5_newNode_0 ?_
  have hD1_1 := ovD_cons hL0 hD0
  have hL1_1 := ovL_cons hL0
  refine x_dup dJ5_newNode_3 rfl ?_
  refine x_iload_n dJ5_newNode_4 rfl ?_
  refine x_aload_n dJ5_newNode_5 rfl ?_
  refine x_aload_n dJ5_newNode_6 rfl ?_
  refine x_aloadN dJ5_newNode_7 rfl ?_
  refine x_ciN ciJ5_28 dJ5_newNode_9 (c_J32_init _ _ _ h k v _ _ _ _ (by exact ov_at hD1_1 (i := 0) rfl)) rfl ?_
  refine xW.eqA (ov_up hD1_1 (i := 0) rfl) ?_
  refine xW.eqA (show _ = _ from mS_al (h := h) (k := k) (v := v) (nx0 := none) (bf := none) (af := none) hD) ?_
  rw [mS_2]
  refine x_astore dJ5_newNode_12 (by decide) rfl ?_
  refine x_aload_n dJ5_newNode_14 rfl ?_
  refine x_aload dJ5_newNode_15 rfl ?_
  refine x_topv (show Value.ref B.2.1 = .ref ((nup N c B.2.1) c) by rw [nup_s]) ?_
  have hD9 := mD_al hD
  cases c with
  | zero =>
    refine x_cvN (q := (RJ5, TJ5, 12)) cvJ5_32_J5 dJ5_newNode_17 (Or.inl (mS_m hD9)) rfl (c_J5_link0 g (xbp B 6) m T n cc th mc es ks vs tf (nup N 0 B.2.1) _ _ _ _ _ _ hD9) rfl ?_
    refine x_aload dJ5_newNode_20 rfl ?_
    refine x_areturn dJ5_newNode_22 rfl (Or.inl ⟨_, rfl⟩) (Or.inr ⟨_, rfl⟩) ⟨_, rfl, rfl, _, _, rfl, fun j hj => ?_, fun j hj => ?_⟩
    · rw [show j = 0 by omega, va_up_s]; rfl
    · rw [show j = 0 by omega, va_up_s]; rfl
  | succ c =>
    rw [hdF_1, tlF_1]
    refine xW.eqA (show mS (xbp B 6) m T n (xLm (some T) es cc mc th ks vs (some (N 0)) (some (N c))) tf (nup N (c + 1) B.2.1) (nup H (c + 1) h) (nup K (c + 1) k) (nup V (c + 1) v) (va_up NX (c + 1) none) (va_up BF (c + 1) none) (va_up AF (c + 1) none) (c + 1 + 1) = mS (xbp B 6) m T n (xLm (some T) es cc mc th ks vs (some (nup N (c + 1) B.2.1 0)) (some (nup N (c + 1) B.2.1 c))) tf (nup N (c + 1) B.2.1) (nup H (c + 1) h) (nup K (c + 1) k) (nup V (c + 1) v) (va_up NX (c + 1) none) (va_up BF (c + 1) none) (va_up AF (c + 1) none) (c + 2) by rw [nup_n (by omega), nup_n (by omega)]) ?_
    refine x_cvN (q := (RJ5, TJ5, 12)) cvJ5_32_J5 dJ5_newNode_17 (Or.inl (mS_m hD9)) rfl (c_J5_link1 g (xbp B 6) m T n c cc th mc es ks vs tf (nup N (c + 1) B.2.1) _ _ _ _ _ _ hD9) rfl ?_
    refine x_aload dJ5_newNode_20 rfl ?_
    refine x_areturn dJ5_newNode_22 rfl (Or.inl ⟨_, rfl⟩) (Or.inr ⟨_, rfl⟩) ⟨_, rfl, rfl, va_up (va_up BF (c + 1) none) (c + 1) (some (nup N (c + 1) B.2.1 c)), va_up (va_up AF (c + 1) none) c (some (nup N (c + 1) B.2.1 (c + 1))), ?_, fun j hj => ?_, fun j hj => ?_⟩
    · rw [hdF_1, tlF_1]
    · by_cases hc : j = c + 1
      · subst hc
        rw [va_up_s]
        unfold bfF
        rw [if_neg (by omega)]
        rfl
      · rw [va_up_n hc, va_up_n hc, hBF j (by omega)]
        unfold bfF
        by_cases h0 : j = 0
        · rw [if_pos h0, if_pos h0]
        · rw [if_neg h0, if_neg h0, nup_n (by omega)]
    · by_cases hc : j = c
      · subst hc
        rw [va_up_s]
        unfold afF
        rw [if_pos (by omega)]
      · rw [va_up_n hc]
        by_cases hc1 : j = c + 1
        · subst hc1
          rw [va_up_s]
          unfold afF
          rw [if_neg (by omega)]
        · rw [va_up_n hc1, hAF j (by omega)]
          unfold afF
          rw [if_pos (by omega), if_pos (by omega), nup_n (by omega)]
/-! chains grow at their ends -/
def snF (o : Option Nat) (h n i c : Nat) : Option Nat := match o with
  | some j => some j
  | none => if h % n = i then some c else none
theorem fst9_snoc {H : Nat → Nat} {n i h c : Nat} : ∀ {f s : Nat}, f + s = c → fst9 (nup H c h) n i (f + 1) s = snF (fst9 H n i f s) h n i c
  | 0, s, e => by
    have e : s = c := by omega
    subst e
    show (if nup H s h s % n = i then some s else fst9 (nup H s h) n i 0 (s + 1)) = _
    rw [nup_s]
    rfl
  | f + 1, s, e => by
    show (if nup H c h s % n = i then some s else fst9 (nup H c h) n i (f + 1) (s + 1)) = snF (if H s % n = i then some s else fst9 H n i f (s + 1)) h n i c
    rw [nup_n (by omega)]
    by_cases hi : H s % n = i
    · rw [if_pos hi, if_pos hi]
      rfl
    · rw [if_neg hi, if_neg hi]
      exact fst9_snoc (by omega)
theorem bkF_y {H N : Nat → Nat} {n c h x i j : Nat} (k : fst9 H n i c 0 = some j) : bkF (nup H c h) (nup N c x) n (c + 1) i = some (N j) := by
  unfold bkF
  rw [fst9_snoc (c := c) (f := c) (s := 0) (Nat.add_zero c), k]
  show some (nup N c x j) = _
  rw [nup_n (by have := (fst9_s k).2.1; omega)]
theorem bkF_n {H N : Nat → Nat} {n c h x i : Nat} (k : fst9 H n i c 0 = none) : bkF (nup H c h) (nup N c x) n (c + 1) i = if h % n = i then some x else none := by
  unfold bkF
  rw [fst9_snoc (c := c) (f := c) (s := 0) (Nat.add_zero c), k]
  show (if h % n = i then some c else none : Option Nat).map _ = _
  by_cases hi : h % n = i
  · rw [if_pos hi, if_pos hi]
    show some (nup N c x c) = _
    rw [nup_s]
  · rw [if_neg hi, if_neg hi]
    rfl
theorem nxF_y {H N : Nat → Nat} {n c h x j q : Nat} (hj : j < c) (k : fst9 H n (H j % n) (c - 1 - j) (j + 1) = some q) : nxF (nup H c h) (nup N c x) n (c + 1) j = some (N q) := by
  unfold nxF
  rw [nup_n (by omega), show c + 1 - 1 - j = (c - 1 - j) + 1 by omega, fst9_snoc (c := c) (f := c - 1 - j) (s := j + 1) (by omega), k]
  show some (nup N c x q) = _
  rw [nup_n (by have := (fst9_s k).2.1; omega)]
theorem nxF_n {H N : Nat → Nat} {n c h x j : Nat} (hj : j < c) (k : fst9 H n (H j % n) (c - 1 - j) (j + 1) = none) : nxF (nup H c h) (nup N c x) n (c + 1) j = if h % n = H j % n then some x else none := by
  unfold nxF
  rw [nup_n (by omega), show c + 1 - 1 - j = (c - 1 - j) + 1 by omega, fst9_snoc (c := c) (f := c - 1 - j) (s := j + 1) (by omega), k]
  show (if h % n = H j % n then some c else none : Option Nat).map _ = _
  by_cases hi : h % n = H j % n
  · rw [if_pos hi, if_pos hi]
    show some (nup N c x c) = _
    rw [nup_s]
  · rw [if_neg hi, if_neg hi]
    rfl
theorem nxF_c {H N : Nat → Nat} {n c h x : Nat} : nxF (nup H c h) (nup N c x) n (c + 1) c = none := by
  unfold nxF
  rw [show c + 1 - 1 - c = 0 by omega]
  rfl
theorem cx_e {H N : Nat → Nat} {n c h x : Nat} {tf NX : Nat → Option Nat} (h1 : ∀ i, i < n → tf i = bkF H N n c i) (h2 : ∀ j, j < c → NX j = nxF H N n c j) (k : fst9 H n (h % n) c 0 = none) : (∀ i, i < n → va_up tf (h % n) (some x) i = bkF (nup H c h) (nup N c x) n (c + 1) i) ∧ ∀ j, j < c + 1 → va_up NX c none j = nxF (nup H c h) (nup N c x) n (c + 1) j := by
  refine ⟨fun i hi => ?_, fun j hj => ?_⟩
  · by_cases e : i = h % n
    · subst e
      rw [va_up_s, bkF_n k, if_pos rfl]
    · rw [va_up_n e, h1 i hi]
      cases e2 : fst9 H n i c 0 with
      | none => rw [bkF_n e2, if_neg (Ne.symm e)]; unfold bkF; rw [e2]; rfl
      | some q => rw [bkF_y e2]; unfold bkF; rw [e2]; rfl
  · by_cases e : j = c
    · subst e
      rw [va_up_s, nxF_c]
    · rw [va_up_n e, h2 j (by omega)]
      cases e2 : fst9 H n (H j % n) (c - 1 - j) (j + 1) with
      | none =>
        rw [nxF_n (by omega) e2, if_neg (fun q => fst9_n k j (by omega) (by omega) q.symm)]
        unfold nxF
        rw [e2]
        rfl
      | some q => rw [nxF_y (by omega) e2]; unfold nxF; rw [e2]; rfl
theorem cx_n {H N : Nat → Nat} {n c h x jl : Nat} {tf NX : Nat → Option Nat} (h1 : ∀ i, i < n → tf i = bkF H N n c i) (h2 : ∀ j, j < c → NX j = nxF H N n c j) (hl : jl < c) (h3 : H jl % n = h % n) (h4 : ∀ k, jl < k → k < c → ¬ H k % n = h % n) : (∀ i, i < n → tf i = bkF (nup H c h) (nup N c x) n (c + 1) i) ∧ ∀ j, j < c + 1 → va_up (va_up NX c none) jl (some x) j = nxF (nup H c h) (nup N c x) n (c + 1) j := by
  refine ⟨fun i hi => ?_, fun j hj => ?_⟩
  · rw [h1 i hi]
    cases e2 : fst9 H n i c 0 with
    | none =>
      rw [bkF_n e2, if_neg (fun q => fst9_n e2 jl (by omega) (by omega) (by omega))]
      unfold bkF
      rw [e2]
      rfl
    | some q => rw [bkF_y e2]; unfold bkF; rw [e2]; rfl
  · by_cases e0 : j = jl
    · subst e0
      rw [va_up_s, nxF_n hl (fst9_no (fun k k1 k2 => by rw [h3]; exact h4 k (by omega) (by omega))), if_pos h3.symm]
    · rw [va_up_n e0]
      by_cases e : j = c
      · subst e
        rw [va_up_s, nxF_c]
      · rw [va_up_n e, h2 j (by omega)]
        cases e2 : fst9 H n (H j % n) (c - 1 - j) (j + 1) with
        | none =>
          rw [nxF_n (by omega) e2, if_neg (fun q => ?_)]
          · unfold nxF
            rw [e2]
            rfl
          · by_cases hjl : j < jl
            · exact fst9_n e2 jl (by omega) (by omega) (by omega)
            · exact h4 j (by omega) (by omega) q.symm
        | some q => rw [nxF_y (by omega) e2]; unfold nxF; rw [e2]; rfl
theorem LM_mS {B : xA} {m T n c : Nat} {mc : Int32} {es ks vs : Option Nat} {tf : Nat → Option Nat} {N H K V : Nat → Nat} {NX BF AF : Nat → Option Nat} (hn : n = 16 ∨ n = 32 ∨ n = 64) (hc : c ≤ n / 4 * 3) (hD : mD B.2.1 m T N c) (h1 : ∀ i, i < n → tf i = bkF H N n c i) (h2 : ∀ j, j < c → NX j = nxF H N n c j) (h3 : ∀ j, j < c → BF j = bfF N j) (h4 : ∀ j, j < c → AF j = afF N c j) (h5 : ∀ j, j < c → H j < 40) (h6 : ∀ i k, i < k → k < c → H i ≠ H k) : LM (mS B m T n (xLm (some T) es c mc (n / 4 * 3) ks vs (hdF N c) (tlF N c)) tf N H K V NX BF AF c) m T n c N H K V mc es ks vs := by
  refine ⟨hn, hc, by rw [mS_2]; exact hD, mS_m hD, ⟨tf, mS_T hD, h1⟩, fun j hj => ?_, h5, h6⟩
  rw [mS_N hD hj, h2 j hj, h3 j hj, h4 j hj]
theorem LM_id {A : xA} {m T n c : Nat} {N H K V : Nat → Nat} {mc : Int32} {es ks vs : Option Nat} (h : LM A m T n c N H K V mc es ks vs) : ∃ tf, (∀ i, i < n → tf i = bkF H N n c i) ∧ mS A m T n (xLm (some T) es c mc (n / 4 * 3) ks vs (hdF N c) (tlF N c)) tf N H K V (nxF H N n c) (bfF N) (afF N c) c = A := by
  obtain ⟨h1, h2, h3, h4, ⟨tf, h5, h6⟩, h7, h8, h9⟩ := h
  exact ⟨tf, h6, mS_id h4 h5 h7⟩
/-- three nodes of one bucket beside the new one are too many -/
theorem ch2 {H : Nat → Nat} {n c h a b d : Nat} (hn : n = 16 ∨ n = 32 ∨ n = 64) (hd : ∀ j, j < c → H j < 40) (hI : ∀ i k, i < k → k < c → H i ≠ H k) (hh : h < 40) (hne : ∀ j, j < c → H j ≠ h) (h1 : a < b) (h2 : b < d) (h3 : d < c) (ha : H a % n = h % n) (hb : H b % n = h % n) (hc : H d % n = h % n) : False := by
  have a1 := hd a (by omega)
  have a2 := hd b (by omega)
  have a3 := hd d (by omega)
  have b1 := hne a (by omega)
  have b2 := hne b (by omega)
  have b3 := hne d (by omega)
  have c1 := hI a b h1 (by omega)
  have c2 := hI a d (by omega) h3
  have c3 := hI b d h2 h3
  rcases hn with rfl | rfl | rfl <;> omega
