set_option maxRecDepth 100000
/-! STRINGS -/
abbrev xSt (b : Nat) (hz hy : Int32) : xE := .inr (15, [.ref b, .int 0, .int hz, .int hy])
abbrev xBy (n : Nat) (f : Nat → Int32) : xE := .inl (1, n, .inl f)
def lits : List (String × Nat × List Nat) := [("FiddleRow", 30, [97, 110, 110]), ("FiddleRow", 40, [98, 111, 98]), ("FiddleRow", 42, [99, 97, 116]), ("FiddleRow", 44, [100, 97, 110]), ("FiddleRow", 120, [103]), ("FiddleRow", 126, [100]), ("FiddleRow", 128, [97]), ("FiddleRow", 130, [101]), ("FiddleRow$Command", 44, [116, 117, 110, 101]), ("FiddleRow$Command", 50, [116, 117, 114, 110]), ("FiddleRow$Command", 52, [99, 104, 97, 108, 107]), ("FiddleRow$Command", 54, [114, 101, 112, 108, 97, 99, 101]), ("FiddleRow$Command", 56, [115, 119, 97, 112]), ("FiddleRow$Command", 58, [108, 101, 97, 118, 101]), ("FiddleRow$Command", 60, [106, 111, 105, 110]), ("FiddleRow$Command", 62, [116, 97, 114, 103, 101, 116]), ("FiddleRow$Parser", 122, [104, 97, 108, 108]), ("FiddleRow$Parser", 145, [102, 105, 100, 100, 108, 101, 114]), ("FiddleRow$Parser", 161, [103, 114, 105, 112, 115]), ("FiddleRow$Parser", 184, [116, 117, 110, 101]), ("FiddleRow$Parser", 186, [116, 117, 114, 110]), ("FiddleRow$Parser", 188, [99, 104, 97, 108, 107]), ("FiddleRow$Parser", 190, [114, 101, 112, 108, 97, 99, 101]), ("FiddleRow$Parser", 192, [115, 119, 97, 112]), ("FiddleRow$Parser", 194, [108, 101, 97, 118, 101]), ("FiddleRow$Parser", 196, [106, 111, 105, 110]), ("FiddleRow$Parser", 198, [116, 97, 114, 103, 101, 116]), ("FiddleRow$Parser", 200, [104, 111, 117, 114, 115]), ("FiddleRow$Parser", 202, [114, 101, 112, 101, 97, 116]), ("FiddleRow$Parser", 22, [])]
def ltF (l : List Nat) : Nat → Int32 := fun i => nI (l.getD i 0)
def xsm (e e' : xE) : Prop := match e, e' with
  | .inr o, .inr o' => o = o'
  | .inl (t, n, .inl f), .inl (t', n', .inl f') => t = t' ∧ n = n' ∧ ∀ i, i < n → f i = f' i
  | _, _ => True
/-- the world's strings -/
def gS (g : xG) : Prop :=
  ((∀ a e e', xcw g a e → xcw g a e' → xsm e e') ∧ ∀ a e, xcw g a e → a < xbase g) ∧
  (∃ v : Option Nat, xsv g "jdk/internal/util/Preconditions" "SIOOBE_FORMATTER" "Ljava/util/function/BiFunction;" (va_rf v)) ∧
  (∀ q ∈ lits, ∃ a b hz hy, xsr g q.1 q.2.1 a ∧ xcw g a (xSt b hz hy) ∧ xcw g b (xBy q.2.2.length (ltF q.2.2)))
abbrev eqN (n n' : Nat) (f f' : Nat → Int32) : Prop := n = n' ∧ ∀ i, i < n → f i = f' i
theorem xAt_sm {g : xG} {A : xA} {a : Nat} {e e' : xE} (hS : gS g) (hok : xOk g A) (h : xAt g A a e) (h' : xAt g A a e') : e = e' ∨ xsm e e' := by
  rcases h with h | h
  · rcases h' with h' | h'
    · exact Or.inl (Option.some.inj (h.symm.trans h'))
    · exact absurd (hS.1.2 _ _ h') (Nat.not_lt.mpr (hok.2 _ _ h).1)
  · rcases h' with h' | h'
    · exact absurd (hS.1.2 _ _ h) (Nat.not_lt.mpr (hok.2 _ _ h').1)
    · exact Or.inr (hS.1.1 _ _ _ h h')
theorem xSt_b {b b' : Nat} {hz hy hz' hy' : Int32} (h : (15, [Value.ref b, .int 0, .int hz, .int hy]) = ((15 : Nat), [Value.ref b', .int 0, .int hz', .int hy'])) : b = b' := by
  injection h with _ h
  injection h with h _
  injection h
theorem str_same {g : xG} {A : xA} {a b b' n n' : Nat} {hz hy hz' hy' : Int32} {f f' : Nat → Int32} (hS : gS g) (hok : xOk g A) (h : xAt g A a (xSt b hz hy)) (h' : xAt g A a (xSt b' hz' hy')) (k : xAt g A b (xBy n f)) (k' : xAt g A b' (xBy n' f')) : eqN n n' f f' := by
  have e : b = b' := by
    rcases xAt_sm hS hok h h' with e | e
    · injection e with e
      exact xSt_b e
    · exact xSt_b e
  subst e
  rcases xAt_sm hS hok k k' with e | e
  · injection e with e
    injection e with _ e
    injection e with e1 e2
    injection e2 with e2
    subst e1 e2
    exact ⟨rfl, fun _ _ => rfl⟩
  · exact ⟨e.2.1, e.2.2⟩
theorem j21_l (g : xG) (A : xA) (a b n : Nat) (f f' : Nat → Int32) (ha : xAt g A a (xBy n f)) (hb : xAt g A b (xBy n f')) (hn : n < 2 ^ 31) : ∀ m k, m + k = n → (∀ i, i < k → f i = f' i) → xW g iJ21_equals 0 9 [some (.ref a), some (.ref b), some (.int (nI k))] [] A (xRet (some (.int (flI (eqN n n f f')))) A) := by
  intro m
  induction m with
  | zero =>
    intro k hk hi
    have e : k = n := by omega
    subst e
    refine x_iload_n dJ21_equals_9 rfl ?_
    refine x_aload_n dJ21_equals_10 rfl ?_
    refine x_alen dJ21_equals_11 ha (t := 1) rfl (v := nI k) rfl ?_
    refine x_icmp_geT (tgt := 32) dJ21_equals_12 (by decide) (nI_le (Nat.le_refl _) (by omega)) ?_
    refine x_iconst (v := 1) dJ21_equals_32 rfl ?_
    exact x_ireturn dJ21_equals_33 rfl rfl ⟨by rw [flI_y ⟨rfl, hi⟩], rfl⟩
  | succ m ih =>
    intro k hk hi
    by_cases h : f k = f' k
    · refine x_iload_n dJ21_equals_9 rfl ?_
      refine x_aload_n dJ21_equals_10 rfl ?_
      refine x_alen dJ21_equals_11 ha (t := 1) rfl (v := nI n) rfl ?_
      refine x_icmp_geF dJ21_equals_12 32 (by decide) (nI_ge (by omega) (by omega)) ?_
      refine x_aload_n dJ21_equals_15 rfl ?_
      refine x_iload_n dJ21_equals_16 rfl ?_
      refine x_bald dJ21_equals_17 ha (vp_in_nI (n := k) (by omega) (by omega)) ?_
      refine x_top (y := f k) (by rw [nI_clamp (by omega)]) ?_
      refine x_aload_n dJ21_equals_18 rfl ?_
      refine x_iload_n dJ21_equals_19 rfl ?_
      refine x_bald dJ21_equals_20 hb (vp_in_nI (n := k) (by omega) (by omega)) ?_
      refine x_top (y := f' k) (by rw [nI_clamp (by omega)]) ?_
      refine x_icmp_eqT (tgt := 26) dJ21_equals_21 (by decide) h ?_
      refine x_iinc (v := nI (k + 1)) dJ21_equals_26 rfl (nI_1 _) (by decide) rfl ?_
      refine x_goto (tgt := 9) dJ21_equals_29 (by decide) ?_
      exact ih (k + 1) (by omega) (fun i hi2 => by
        by_cases e : i = k
        · rw [e]; exact h
        · exact hi i (by omega))
    · refine x_iload_n dJ21_equals_9 rfl ?_
      refine x_aload_n dJ21_equals_10 rfl ?_
      refine x_alen dJ21_equals_11 ha (t := 1) rfl (v := nI n) rfl ?_
      refine x_icmp_geF dJ21_equals_12 32 (by decide) (nI_ge (by omega) (by omega)) ?_
      refine x_aload_n dJ21_equals_15 rfl ?_
      refine x_iload_n dJ21_equals_16 rfl ?_
      refine x_bald dJ21_equals_17 ha (vp_in_nI (n := k) (by omega) (by omega)) ?_
      refine x_top (y := f k) (by rw [nI_clamp (by omega)]) ?_
      refine x_aload_n dJ21_equals_18 rfl ?_
      refine x_iload_n dJ21_equals_19 rfl ?_
      refine x_bald dJ21_equals_20 hb (vp_in_nI (n := k) (by omega) (by omega)) ?_
      refine x_top (y := f' k) (by rw [nI_clamp (by omega)]) ?_
      refine x_icmp_eqF dJ21_equals_21 26 (by decide) h ?_
      refine x_iconst (v := 0) dJ21_equals_24 rfl ?_
      exact x_ireturn dJ21_equals_25 rfl rfl ⟨by rw [flI_no (fun e => h (e.2 k (by omega)))], rfl⟩
theorem c_J21_equals (g : xG) (A : xA) (a b n n' : Nat) (f f' : Nat → Int32) (ha : xAt g A a (xBy n f)) (hb : xAt g A b (xBy n' f')) (hn : n < 2 ^ 31) (hn2 : n' < 2 ^ 31) : xC g iJ21_equals 0 [.ref a, .ref b] A (xRet (some (.int (flI (eqN n n' f f')))) A) := by
  by_cases hnn : n = n'
  · subst hnn
    show xW g _ _ 0 [some (.ref a), some (.ref b), none] [] _ _
    refine x_aload_n dJ21_equals_0 rfl ?_
    refine x_alen dJ21_equals_1 ha (t := 1) rfl (v := nI n) rfl ?_
    refine x_aload_n dJ21_equals_2 rfl ?_
    refine x_alen dJ21_equals_3 hb (t := 1) rfl (v := nI n) rfl ?_
    refine x_icmp_neF dJ21_equals_4 34 (by decide) rfl ?_
    refine x_iconst (v := 0) dJ21_equals_7 rfl ?_
    refine x_istore_n dJ21_equals_8 (by decide) rfl ?_
    exact j21_l g A a b n f f' ha hb hn n 0 (by omega) (fun i hi => absurd hi (Nat.not_lt_zero _))
  · show xW g _ _ 0 [some (.ref a), some (.ref b), none] [] _ _
    refine x_aload_n dJ21_equals_0 rfl ?_
    refine x_alen dJ21_equals_1 ha (t := 1) rfl (v := nI n) rfl ?_
    refine x_aload_n dJ21_equals_2 rfl ?_
    refine x_alen dJ21_equals_3 hb (t := 1) rfl (v := nI (n')) rfl ?_
    refine x_icmp_neT (tgt := 34) dJ21_equals_4 (by decide) (fun e => hnn ((nI_eq hn hn2).mp e)) ?_
    refine x_iconst (v := 0) dJ21_equals_34 rfl ?_
    exact x_ireturn dJ21_equals_35 rfl rfl ⟨by rw [flI_no (fun e => hnn e.1)], rfl⟩
theorem c_J15_equals (g : xG) (A : xA) (a c b b' n n' : Nat) (hz hy hz' hy' : Int32) (f f' : Nat → Int32) (hS : gS g) (hc : xsv g "java/lang/String" "COMPACT_STRINGS" "Z" (.int 1)) (ha : xAt g A a (xSt b hz hy)) (hb : xAt g A b (xBy n f)) (ha' : xAt g A c (xSt b' hz' hy')) (hb' : xAt g A b' (xBy n' f')) (hn : n < 2 ^ 31) (hn2 : n' < 2 ^ 31) : xC g iJ15_equals 1 [.ref a, .ref c] A (xRet (some (.int (flI (eqN n n' f f')))) A) := by
  refine xW.ok (fun hok => ?_)
  show xW g _ _ 0 [some (.ref a), some (.ref c), none] [] _ _
  refine x_aload_n dJ15_equals_0 rfl ?_
  refine x_aload_n dJ15_equals_1 rfl ?_
  by_cases h : a = c
  · subst h
    refine x_acmp_neF (rx := some a) (ry := some a) dJ15_equals_2 7 (by decide) rfl ?_
    refine x_iconst (v := 1) dJ15_equals_5 rfl ?_
    exact x_ireturn dJ15_equals_6 rfl rfl ⟨by rw [flI_y (str_same hS hok ha ha' hb hb')], rfl⟩
  · refine x_acmp_neT (rx := some a) (ry := some c) (tgt := 7) dJ15_equals_2 (by decide) (fun e => h (Option.some.inj e)) ?_
    refine x_aload_n dJ15_equals_7 rfl ?_
    refine x_instY dJ15_equals_8 q1599 ha' (q := (RJ15, TJ15, 4)) rfl (Or.inl rfl) ?_
    refine x_if_eqF dJ15_equals_11 54 (by decide) (by decide) ?_
    refine x_aload_n dJ15_equals_14 rfl ?_
    refine x_castY dJ15_equals_15 q1599 ha' (q := (RJ15, TJ15, 4)) rfl (Or.inl rfl) ?_
    refine x_astore_n dJ15_equals_18 (by decide) rfl ?_
    refine x_gets hc q494 (Or.inl rfl) dJ15_equals_19 ?_
    refine x_if_eqF dJ15_equals_22 36 (by decide) (by decide) ?_
    refine x_aload_n dJ15_equals_25 rfl ?_
    refine x_get fgJ15_15_15 dJ15_equals_26 ha rfl ?_
    refine x_aload_n dJ15_equals_29 rfl ?_
    refine x_get fgJ15_15_15 dJ15_equals_30 ha' rfl ?_
    refine x_icmp_neF dJ15_equals_33 54 (by decide) rfl ?_
    refine x_aload_n dJ15_equals_36 rfl ?_
    refine x_get fgJ15_9_15 dJ15_equals_37 ha rfl ?_
    refine x_aload_n dJ15_equals_40 rfl ?_
    refine x_get fgJ15_9_15 dJ15_equals_41 ha' rfl ?_
    refine x_csV csJ15_541 dJ15_equals_44 (c_J21_equals g A b b' n n' f f' hb hb' hn hn2) rfl ?_
    by_cases h9 : eqN n n' f f'
    · rw [flI_y h9]
      refine x_if_eqF dJ15_equals_47 54 (by decide) (by decide) ?_
      refine x_iconst (v := 1) dJ15_equals_50 rfl ?_
      refine x_goto (tgt := 55) dJ15_equals_51 (by decide) ?_
      exact x_ireturn dJ15_equals_55 rfl rfl ⟨rfl, rfl⟩
    · rw [flI_no h9]
      refine x_if_eqT (tgt := 54) dJ15_equals_47 (by decide) (by decide) ?_
      refine x_iconst (v := 0) dJ15_equals_54 rfl ?_
      exact x_ireturn dJ15_equals_55 rfl rfl ⟨rfl, rfl⟩
