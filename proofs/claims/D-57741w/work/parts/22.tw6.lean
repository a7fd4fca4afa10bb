set_option maxRecDepth 100000
theorem c_X7_see (g : xG) (B : xA) (m : Nat) (F : Nat → Int32) (W : Int64) (S : Nat → Int32) (Z : Nat → Nat → Int32) (n k : Nat) (hl : F 13 = nI n) (hn : n ≤ 800) (hk : k ≤ 800) : xC g iX7_see 0 [.ref m, .int (nI k)] (tA B m F W S Z) (xRet (some (.int (seI (Z 11) n k))) (tA B m F W S Z)) := by
  show xW g _ _ 0 [some (.ref m), some (.int (nI k))] [] _ _
  refine x_iload_n dX7_see_0 rfl ?_
  refine x_aload_n dX7_see_1 rfl ?_
  refine t_get fgX7_148_6 dX7_see_2 rfl ?_
  refine x_top hl ?_
  refine x_icmp_ge 17 dX7_see_5 (by decide) (fun c5 => ?_) (fun c5 => ?_)
  · have hc : ¬ k < n := fun h => nI_ge h (by omega) c5
    refine x_iconst (v := (-1)) dX7_see_17 rfl ?_
    exact x_ireturn dX7_see_18 rfl rfl ⟨by unfold seI; first | rw [if_pos hc] | rw [if_neg hc], rfl⟩
  · have hc : k < n := Nat.lt_of_not_le (fun h => c5 (nI_le h (by omega)))
    refine x_aload_n dX7_see_8 rfl ?_
    refine t_get fgX7_45_6 dX7_see_9 rfl ?_
    refine x_iload_n dX7_see_12 rfl ?_
    refine t_aldZ tz11 k dX7_see_13 rfl (by omega) ?_
    refine x_goto (tgt := 18) dX7_see_14 (by decide) ?_
    exact x_ireturn dX7_see_18 rfl rfl ⟨by unfold seI; first | rw [if_pos hc] | rw [if_neg hc], rfl⟩
theorem inI_nar (c lo hi : Int32) : narrow FieldType.boolean (Value.int (inI c lo hi)) = Value.int (inI c lo hi) := by
  unfold inI
  split <;> rfl
theorem c_X7_isSmall (g : xG) (A : xA) (c : Int32) : xC g iX7_isSmall 1 [.int c] A (xRet (some (.int (inI c 97 122))) A) := by
  show xW g _ _ 0 [some (.int c)] [] _ _
  refine x_iload_n dX7_isSmall_0 rfl ?_
  refine x_i2l dX7_isSmall_1 ?_
  refine x_ldc2 (v := 97) q3677 dX7_isSmall_2 ?_
  refine x_ldc2 (v := 122) q3678 dX7_isSmall_5 ?_
  refine x_csV csX7_144 dX7_isSmall_8 (c_X7_in _ _ c 97 122 _ _ _ rfl rfl rfl) rfl ?_
  exact x_ireturn dX7_isSmall_11 rfl (inI_nar _ _ _) ⟨rfl, rfl⟩
theorem c_X7_isDigit (g : xG) (A : xA) (c : Int32) : xC g iX7_isDigit 1 [.int c] A (xRet (some (.int (inI c 48 57))) A) := by
  show xW g _ _ 0 [some (.int c)] [] _ _
  refine x_iload_n dX7_isDigit_0 rfl ?_
  refine x_i2l dX7_isDigit_1 ?_
  refine x_ldc2 (v := 48) q3684 dX7_isDigit_2 ?_
  refine x_ldc2 (v := 57) q3685 dX7_isDigit_5 ?_
  refine x_csV csX7_144 dX7_isDigit_8 (c_X7_in _ _ c 48 57 _ _ _ rfl rfl rfl) rfl ?_
  exact x_ireturn dX7_isDigit_11 rfl (inI_nar _ _ _) ⟨rfl, rfl⟩
theorem sc_l1 {g : xG} {B : xA} {m : Nat} {F : Nat → Int32} {W : Int64} {S : Nat → Int32} {Z : Nat → Nat → Int32} {Q : Outcome → xA → Prop} (n : Nat) (hl : F 13 = nI n) (hn : n ≤ 800) : ∀ f k, f + k = n → xW g iX7_scan 2 39 [some (.ref m), none] [] (tA B m (upd F 14 (nI (skN (Z 11) n f k))) W S Z) Q → xW g iX7_scan 2 0 [some (.ref m), none] [] (tA B m (upd F 14 (nI (k))) W S Z) Q := by
  intro f
  induction f with
  | zero =>
    intro k hk kont
    have hc : seI (Z 11) n k = -1 := seI_n (by omega)
    unfold skN at kont
    refine x_aload_n dX7_scan_0 rfl ?_
    refine x_aload_n dX7_scan_1 rfl ?_
    refine t_get fgX7_159_6 dX7_scan_2 rfl ?_
    refine x_top (upd_self _ _ _) ?_
    refine t_cvV cvX7_161_X7 dX7_scan_5 (c_X7_see _ _ _ _ _ _ _ _ k hl hn (by omega)) rfl ?_
    refine x_bipush (v := 32) dX7_scan_8 (by decide) ?_
    refine x_icmp_eqF dX7_scan_10 26 (by decide) (by rw [hc]; decide) ?_
    refine x_aload_n dX7_scan_13 rfl ?_
    refine x_aload_n dX7_scan_14 rfl ?_
    refine t_get fgX7_159_6 dX7_scan_15 rfl ?_
    refine x_top (upd_self _ _ _) ?_
    refine t_cvV cvX7_161_X7 dX7_scan_18 (c_X7_see _ _ _ _ _ _ _ _ k hl hn (by omega)) rfl ?_
    refine x_bipush (v := 10) dX7_scan_21 (by decide) ?_
    refine x_icmp_neT (tgt := 39) dX7_scan_23 (by decide) (by rw [hc]; decide) ?_
    exact kont
  | succ f ih =>
    intro k hk kont
    unfold skN at kont
    refine x_aload_n dX7_scan_0 rfl ?_
    refine x_aload_n dX7_scan_1 rfl ?_
    refine t_get fgX7_159_6 dX7_scan_2 rfl ?_
    refine x_top (upd_self _ _ _) ?_
    refine t_cvV cvX7_161_X7 dX7_scan_5 (c_X7_see _ _ _ _ _ _ _ _ k hl hn (by omega)) rfl ?_
    refine x_bipush (v := 32) dX7_scan_8 (by decide) ?_
    refine x_icmp_eq 26 dX7_scan_10 (by decide) (fun c10 => ?_) (fun c10 => ?_)
    · rw [if_pos (Or.inl c10)] at kont
      refine x_aload_n dX7_scan_26 rfl ?_
      refine x_dup dX7_scan_27 rfl ?_
      refine t_get fgX7_159_6 dX7_scan_28 rfl ?_
      refine x_top (upd_self _ _ _) ?_
      refine x_iconst (v := 1) dX7_scan_31 rfl ?_
      refine x_iadd dX7_scan_32 ?_
      refine x_top (y := nI (k + 1)) (nI_add k 1) ?_
      refine t_put fpX7_159_6 dX7_scan_33 (by decide) ⟨rfl, rfl⟩ ?_
      refine x_goto (tgt := 0) dX7_scan_36 (by decide) ?_
      rw [upd_upd]
      exact ih (k + 1) (by omega) kont
    · have h32 := c10
      refine x_aload_n dX7_scan_13 rfl ?_
      refine x_aload_n dX7_scan_14 rfl ?_
      refine t_get fgX7_159_6 dX7_scan_15 rfl ?_
      refine x_top (upd_self _ _ _) ?_
      refine t_cvV cvX7_161_X7 dX7_scan_18 (c_X7_see _ _ _ _ _ _ _ _ k hl hn (by omega)) rfl ?_
      refine x_bipush (v := 10) dX7_scan_21 (by decide) ?_
      refine x_icmp_ne 39 dX7_scan_23 (by decide) (fun c23 => ?_) (fun c23 => ?_)
      · rw [if_neg (fun h => h.elim h32 c23)] at kont
        exact kont
      · rw [if_pos (Or.inr c23)] at kont
        refine x_aload_n dX7_scan_26 rfl ?_
        refine x_dup dX7_scan_27 rfl ?_
        refine t_get fgX7_159_6 dX7_scan_28 rfl ?_
        refine x_top (upd_self _ _ _) ?_
        refine x_iconst (v := 1) dX7_scan_31 rfl ?_
        refine x_iadd dX7_scan_32 ?_
        refine x_top (y := nI (k + 1)) (nI_add k 1) ?_
        refine t_put fpX7_159_6 dX7_scan_33 (by decide) ⟨rfl, rfl⟩ ?_
        refine x_goto (tgt := 0) dX7_scan_36 (by decide) ?_
        rw [upd_upd]
        exact ih (k + 1) (by omega) kont
theorem sc_e2 {g : xG} {B : xA} {m : Nat} {F : Nat → Int32} {S : Nat → Int32} {Z : Nat → Nat → Int32} {Q : Outcome → xA → Prop} {c : Int32} {n b i : Nat} {w : Int64} (hlt : b + i < n) (e : wdV (Z 11) b (i + 1) = w) (k : xW g iX7_scan 2 81 [some (.ref m), some (.int c)] [] (tA B m (upd (upd F 15 (nI b)) 14 (nI (b + (i + 1)))) (wdV (Z 11) b (i + 1)) S Z) Q) : xW g iX7_scan 2 81 [some (.ref m), some (.int c)] [] (tA B m (upd (upd F 15 (nI b)) 14 (nI (b + i + 1))) w S Z) Q := by
  subst e
  exact k
theorem sc_l2 {g : xG} {B : xA} {m : Nat} {F : Nat → Int32} {S : Nat → Int32} {Z : Nat → Nat → Int32} {Q : Outcome → xA → Prop} {c : Int32} (n b : Nat) (hl : F 13 = nI n) (hn : n ≤ 800) (hb : b ≤ n) : ∀ f i, f + (b + i) = n → xW g iX7_scan 2 155 [some (.ref m), some (.int c)] [] (tA B m (upd (upd F 15 (nI b)) 14 (nI (enN 97 122 (Z 11) n f (b + i)))) (wdV (Z 11) b (enN 97 122 (Z 11) n f (b + i) - b)) S Z) Q → xW g iX7_scan 2 81 [some (.ref m), some (.int c)] [] (tA B m (upd (upd F 15 (nI b)) 14 (nI (b + i))) (wdV (Z 11) b i) S Z) Q := by
  intro f
  induction f with
  | zero =>
    intro i hk kont
    have hc : seI (Z 11) n (b + i) = -1 := seI_n (by omega)
    unfold enN at kont
    rw [Nat.add_sub_cancel_left] at kont
    refine x_aload_n dX7_scan_81 rfl ?_
    refine x_aload_n dX7_scan_82 rfl ?_
    refine t_get fgX7_159_6 dX7_scan_83 rfl ?_
    refine x_top (upd_self _ _ _) ?_
    refine t_cvV cvX7_161_X7 dX7_scan_86 (c_X7_see _ _ _ _ _ _ _ _ (b + i) hl hn (by omega)) rfl ?_
    refine x_csV csX7_170 dX7_scan_89 (c_X7_isSmall _ _ _) rfl ?_
    refine x_if_eqT (tgt := 155) dX7_scan_92 (by decide) (by rw [hc]; decide) ?_
    exact kont
  | succ f ih =>
    intro i hk kont
    have hlt : b + i < n := by omega
    unfold enN at kont
    refine x_aload_n dX7_scan_81 rfl ?_
    refine x_aload_n dX7_scan_82 rfl ?_
    refine t_get fgX7_159_6 dX7_scan_83 rfl ?_
    refine x_top (upd_self _ _ _) ?_
    refine t_cvV cvX7_161_X7 dX7_scan_86 (c_X7_see _ _ _ _ _ _ _ _ (b + i) hl hn (by omega)) rfl ?_
    refine x_csV csX7_170 dX7_scan_89 (c_X7_isSmall _ _ _) rfl ?_
    refine x_if_eq 155 dX7_scan_92 (by decide) (fun c92 => ?_) (fun c92 => ?_)
    · rw [if_pos c92, Nat.add_sub_cancel_left] at kont
      exact kont
    · rw [if_neg c92] at kont
      refine x_aload_n dX7_scan_95 rfl ?_
      refine x_aload_n dX7_scan_96 rfl ?_
      refine t_get fgX7_159_6 dX7_scan_97 rfl ?_
      refine x_top (upd_self _ _ _) ?_
      refine x_aload_n dX7_scan_100 rfl ?_
      refine t_get fgX7_164_6 dX7_scan_101 rfl ?_
      refine x_isub dX7_scan_104 ?_
      refine x_top (show nI (b + i) - nI b = nI i by rw [pk_sub (Nat.le_add_right b i), Nat.add_sub_cancel_left]) ?_
      refine x_bipush (v := 12) dX7_scan_105 (by decide) ?_
      refine x_icmp_ge 135 dX7_scan_107 (by decide) (fun c107 => ?_) (fun c107 => ?_)
      · have hi : ¬ i < 12 := fun h => nI_ge h (by omega) c107
        refine x_aload_n dX7_scan_135 rfl ?_
        refine t_get fgX7_174_6 dX7_scan_136 rfl ?_
        refine t_putW fpX7_174_6 dX7_scan_139 ?_
        refine x_aload_n dX7_scan_142 rfl ?_
        refine x_dup dX7_scan_143 rfl ?_
        refine t_get fgX7_159_6 dX7_scan_144 rfl ?_
        refine x_top (upd_self _ _ _) ?_
        refine x_iconst (v := 1) dX7_scan_147 rfl ?_
        refine x_iadd dX7_scan_148 ?_
        refine x_top (y := nI (b + i + 1)) (nI_add (b + i) 1) ?_
        refine t_put fpX7_159_6 dX7_scan_149 (by decide) ⟨rfl, rfl⟩ ?_
        refine x_goto (tgt := 81) dX7_scan_152 (by decide) ?_
        rw [upd_upd]
        refine sc_e2 hlt ?_ (ih (i + 1) (by omega) kont)
        first | exact if_neg hi | (rw [seI_y hlt]; exact if_pos hi)
      · have hi : i < 12 := Nat.lt_of_not_le (fun h => c107 (nI_le h (by omega)))
        refine x_ldc2 (v := 32) q3679 dX7_scan_110 ?_
        refine x_aload_n dX7_scan_113 rfl ?_
        refine t_get fgX7_174_6 dX7_scan_114 rfl ?_
        refine x_lmul dX7_scan_117 ?_
        refine x_aload_n dX7_scan_118 rfl ?_
        refine x_aload_n dX7_scan_119 rfl ?_
        refine t_get fgX7_159_6 dX7_scan_120 rfl ?_
        refine x_top (upd_self _ _ _) ?_
        refine t_cvV cvX7_161_X7 dX7_scan_123 (c_X7_see _ _ _ _ _ _ _ _ (b + i) hl hn (by omega)) rfl ?_
        refine x_i2l dX7_scan_126 ?_
        refine x_ladd dX7_scan_127 ?_
        refine x_ldc2 (v := 96) q3680 dX7_scan_128 ?_
        refine x_lsub dX7_scan_131 ?_
        refine x_goto (tgt := 139) dX7_scan_132 (by decide) ?_
        refine t_putW fpX7_174_6 dX7_scan_139 ?_
        refine x_aload_n dX7_scan_142 rfl ?_
        refine x_dup dX7_scan_143 rfl ?_
        refine t_get fgX7_159_6 dX7_scan_144 rfl ?_
        refine x_top (upd_self _ _ _) ?_
        refine x_iconst (v := 1) dX7_scan_147 rfl ?_
        refine x_iadd dX7_scan_148 ?_
        refine x_top (y := nI (b + i + 1)) (nI_add (b + i) 1) ?_
        refine t_put fpX7_159_6 dX7_scan_149 (by decide) ⟨rfl, rfl⟩ ?_
        refine x_goto (tgt := 81) dX7_scan_152 (by decide) ?_
        rw [upd_upd]
        refine sc_e2 hlt ?_ (ih (i + 1) (by omega) kont)
        first | exact if_neg hi | (rw [seI_y hlt]; exact if_pos hi)
theorem sc_e3 (F : Nat → Int32) (v w x y : Int32) : upd (upd (upd (upd F 17 v) 14 x) 17 w) 14 y = upd (upd F 17 w) 14 y := by
  funext j
  unfold upd
  split
  · rfl
  · split
    · rfl
    · rfl
theorem sc_l3 {g : xG} {B : xA} {m : Nat} {F : Nat → Int32} {W : Int64} {S : Nat → Int32} {Z : Nat → Nat → Int32} {Q : Outcome → xA → Prop} {c : Int32} (n b : Nat) (hl : F 13 = nI n) (hn : n ≤ 800) (hb : b ≤ n) : ∀ f i, f + (b + i) = n → xW g iX7_scan 2 241 [some (.ref m), some (.int c)] [] (tA B m (upd (upd (upd F 15 (nI b)) 17 (nuV (Z 11) b (enN 48 57 (Z 11) n f (b + i) - b))) 14 (nI (enN 48 57 (Z 11) n f (b + i)))) W S Z) Q → xW g iX7_scan 2 175 [some (.ref m), some (.int c)] [] (tA B m (upd (upd (upd F 15 (nI b)) 17 (nuV (Z 11) b i)) 14 (nI (b + i))) W S Z) Q := by
  intro f
  induction f with
  | zero =>
    intro i hk kont
    have hc : seI (Z 11) n (b + i) = -1 := seI_n (by omega)
    unfold enN at kont
    rw [Nat.add_sub_cancel_left] at kont
    refine x_aload_n dX7_scan_175 rfl ?_
    refine x_aload_n dX7_scan_176 rfl ?_
    refine t_get fgX7_159_6 dX7_scan_177 rfl ?_
    refine x_top (upd_self _ _ _) ?_
    refine t_cvV cvX7_161_X7 dX7_scan_180 (c_X7_see _ _ _ _ _ _ _ _ (b + i) hl hn (by omega)) rfl ?_
    refine x_csV csX7_182 dX7_scan_183 (c_X7_isDigit _ _ _) rfl ?_
    refine x_if_eqT (tgt := 241) dX7_scan_186 (by decide) (by rw [hc]; decide) ?_
    exact kont
  | succ f ih =>
    intro i hk kont
    have hlt : b + i < n := by omega
    unfold enN at kont
    refine x_aload_n dX7_scan_175 rfl ?_
    refine x_aload_n dX7_scan_176 rfl ?_
    refine t_get fgX7_159_6 dX7_scan_177 rfl ?_
    refine x_top (upd_self _ _ _) ?_
    refine t_cvV cvX7_161_X7 dX7_scan_180 (c_X7_see _ _ _ _ _ _ _ _ (b + i) hl hn (by omega)) rfl ?_
    refine x_csV csX7_182 dX7_scan_183 (c_X7_isDigit _ _ _) rfl ?_
    refine x_if_eq 241 dX7_scan_186 (by decide) (fun c186 => ?_) (fun c186 => ?_)
    · rw [if_pos c186, Nat.add_sub_cancel_left] at kont
      exact kont
    · rw [if_neg c186] at kont
      refine x_aload_n dX7_scan_189 rfl ?_
      refine x_aload_n dX7_scan_190 rfl ?_
      refine t_get fgX7_185_6 dX7_scan_191 rfl ?_
      refine x_top (show _ = nuV (Z 11) b i from rfl) ?_
      refine x_ldc (v := 999999) q3686 dX7_scan_194 ?_
      refine x_icmp_le 206 dX7_scan_196 (by decide) (fun c196 => ?_) (fun c196 => ?_)
      · have hi : ¬ 999999 < nuV (Z 11) b i := Int32.not_lt.mpr c196
        refine x_bipush (v := 10) dX7_scan_206 (by decide) ?_
        refine x_aload_n dX7_scan_208 rfl ?_
        refine t_get fgX7_185_6 dX7_scan_209 rfl ?_
        refine x_top (show _ = nuV (Z 11) b i from rfl) ?_
        refine x_imul dX7_scan_212 ?_
        refine x_aload_n dX7_scan_213 rfl ?_
        refine x_aload_n dX7_scan_214 rfl ?_
        refine t_get fgX7_159_6 dX7_scan_215 rfl ?_
        refine x_top (show _ = nI (b + i) from rfl) ?_
        refine t_cvV cvX7_161_X7 dX7_scan_218 (c_X7_see _ _ _ _ _ _ _ _ (b + i) hl hn (by omega)) rfl ?_
        refine x_iadd dX7_scan_221 ?_
        refine x_bipush (v := 48) dX7_scan_222 (by decide) ?_
        refine x_isub dX7_scan_224 ?_
        refine t_put fpX7_185_6 dX7_scan_225 (by decide) ⟨rfl, rfl⟩ ?_
        refine x_aload_n dX7_scan_228 rfl ?_
        refine x_dup dX7_scan_229 rfl ?_
        refine t_get fgX7_159_6 dX7_scan_230 rfl ?_
        refine x_top (show _ = nI (b + i) from rfl) ?_
        refine x_iconst (v := 1) dX7_scan_233 rfl ?_
        refine x_iadd dX7_scan_234 ?_
        refine x_top (y := nI (b + i + 1)) (nI_add (b + i) 1) ?_
        refine t_put fpX7_159_6 dX7_scan_235 (by decide) ⟨rfl, rfl⟩ ?_
        refine x_goto (tgt := 175) dX7_scan_238 (by decide) ?_
        rw [sc_e3]
        have kk := ih (i + 1) (by omega) kont
        rw [show nuV (Z 11) b (i + 1) = _ from by first | exact if_pos hi | exact if_neg hi] at kk
        first | exact kk | (rw [seI_y hlt]; exact kk)
      · have hi : 999999 < nuV (Z 11) b i := Int32.not_le.mp c196
        refine x_aload_n dX7_scan_199 rfl ?_
        refine t_get fgX7_185_6 dX7_scan_200 rfl ?_
        refine x_top (show _ = nuV (Z 11) b i from rfl) ?_
        refine x_goto (tgt := 225) dX7_scan_203 (by decide) ?_
        refine t_put fpX7_185_6 dX7_scan_225 (by decide) ⟨rfl, rfl⟩ ?_
        refine x_aload_n dX7_scan_228 rfl ?_
        refine x_dup dX7_scan_229 rfl ?_
        refine t_get fgX7_159_6 dX7_scan_230 rfl ?_
        refine x_top (show _ = nI (b + i) from rfl) ?_
        refine x_iconst (v := 1) dX7_scan_233 rfl ?_
        refine x_iadd dX7_scan_234 ?_
        refine x_top (y := nI (b + i + 1)) (nI_add (b + i) 1) ?_
        refine t_put fpX7_159_6 dX7_scan_235 (by decide) ⟨rfl, rfl⟩ ?_
        refine x_goto (tgt := 175) dX7_scan_238 (by decide) ?_
        rw [sc_e3]
        have kk := ih (i + 1) (by omega) kont
        rw [show nuV (Z 11) b (i + 1) = _ from by first | exact if_pos hi | exact if_neg hi] at kk
        first | exact kk | (rw [seI_y hlt]; exact kk)
theorem sc_c14 (F : Nat → Int32) (x y : Int32) : upd (upd F 14 x) 15 y = upd (upd F 15 y) 14 x := by
  funext j; unfold upd; split <;> (split <;> first | rfl | omega)
theorem sc_c17 (F : Nat → Int32) (x y z : Int32) : upd (upd (upd F 14 x) 15 y) 17 z = upd (upd (upd F 15 y) 17 z) 14 x := by
  funext j; unfold upd; split <;> (split <;> first | rfl | omega | (split <;> first | rfl | omega))
theorem sc_c16 (F : Nat → Int32) (x y z : Int32) : upd (upd (upd F 14 x) 15 y) 16 z = upd (upd (upd F 14 x) 15 y) 16 z := rfl
theorem sc_d14 (F : Nat → Int32) (x y z w : Int32) : upd (upd (upd (upd F 14 x) 15 y) 14 z) 16 w = upd (upd (upd F 15 y) 14 z) 16 w := by
  funext j; unfold upd; split <;> first | rfl | (split <;> first | rfl | (split <;> rfl))
theorem sc_d17 (F : Nat → Int32) (x y v z w : Int32) : upd (upd (upd (upd (upd F 14 x) 15 y) 17 v) 14 z) 16 w = upd (upd (upd (upd F 15 y) 17 v) 14 z) 16 w := by
  funext j; unfold upd; split <;> first | rfl | (split <;> first | rfl | (split <;> first | rfl | (split <;> rfl)))
theorem c_X7_scan (g : xG) (B : xA) (m : Nat) (F : Nat → Int32) (W : Int64) (S : Nat → Int32) (Z : Nat → Nat → Int32) (h : TJ F) : xC g iX7_scan 2 [.ref m] (tA B m F W S Z) (xRet none (tA B m (scX (Z 11) (F, W)).1 (scX (Z 11) (F, W)).2 S Z)) := by
  obtain ⟨⟨hl, hn1⟩, ⟨ha, han⟩⟩ := h
  have hn : lmN F ≤ 800 := Nat.lt_succ_iff.mp hn1
  have han' : atN F ≤ lmN F := Nat.lt_succ_iff.mp han
  have hbb := sk_b (T := Z 11) (n := lmN F) (lmN F - atN F) (atN F) (by omega)
  show xW g _ _ 0 [some (.ref m), none] [] _ _
  rw [show tA B m F W S Z = tA B m (upd F 14 (nI (atN F))) W S Z by rw [show nI (atN F) = F 14 from ha.symm, upd_id]]
  refine sc_l1 (lmN F) hl hn (lmN F - atN F) (atN F) (by omega) ?_
  unfold scX
  simp only
  generalize skN (Z 11) (lmN F) (lmN F - atN F) (atN F) = b at hbb ⊢
  have hbn : b ≤ lmN F := hbb.2
  replace hl : F 13 = nI (lmN F) := hl
  refine x_aload_n dX7_scan_39 rfl ?_
  refine x_aload_n dX7_scan_40 rfl ?_
  refine t_get fgX7_159_6 dX7_scan_41 rfl ?_
  refine x_top (show _ = nI b from rfl) ?_
  refine t_put fpX7_164_6 dX7_scan_44 (by decide) ⟨rfl, rfl⟩ ?_
  refine x_aload_n dX7_scan_47 rfl ?_
  refine x_aload_n dX7_scan_48 rfl ?_
  refine t_get fgX7_159_6 dX7_scan_49 rfl ?_
  refine x_top (show _ = nI b from rfl) ?_
  refine t_cvV cvX7_161_X7 dX7_scan_52 (c_X7_see _ _ _ _ _ _ _ _ b hl hn (by omega)) rfl ?_
  refine x_istore_n dX7_scan_55 (by decide) rfl ?_
  refine x_iload_n dX7_scan_56 rfl ?_
  refine x_iconst (v := (-1)) dX7_scan_57 rfl ?_
  refine x_icmp_ne 69 dX7_scan_58 (by decide) (fun c58 => ?_) (fun c58 => ?_)
  · rw [if_neg c58]
    have hlt := seI_1 c58
    refine x_iload_n dX7_scan_69 rfl ?_
    refine x_csV csX7_170 dX7_scan_70 (c_X7_isSmall _ _ _) rfl ?_
    refine x_if_eq 163 dX7_scan_73 (by decide) (fun c73 => ?_) (fun c73 => ?_)
    · rw [if_neg (fun h => h c73)]
      refine x_iload_n dX7_scan_163 rfl ?_
      refine x_csV csX7_182 dX7_scan_164 (c_X7_isDigit _ _ _) rfl ?_
      refine x_if_eq 249 dX7_scan_167 (by decide) (fun c167 => ?_) (fun c167 => ?_)
      · rw [if_neg (fun h => h c167)]
        refine x_aload_n dX7_scan_249 rfl ?_
        refine x_iload_n dX7_scan_250 rfl ?_
        refine x_bipush (v := 59) dX7_scan_251 (by decide) ?_
        refine x_icmp_eq 274 dX7_scan_253 (by decide) (fun c253 => ?_) (fun c253 => ?_)
        · refine x_iconst (v := 3) dX7_scan_274 rfl ?_
          refine x_goto (tgt := 279) dX7_scan_275 (by decide) ?_
          refine t_put fpX7_167_6 dX7_scan_279 (by decide) ⟨rfl, rfl⟩ ?_
          refine x_aload_n dX7_scan_282 rfl ?_
          refine x_dup dX7_scan_283 rfl ?_
          refine t_get fgX7_159_6 dX7_scan_284 rfl ?_
          refine x_top (show _ = nI b from rfl) ?_
          refine x_iconst (v := 1) dX7_scan_287 rfl ?_
          refine x_iadd dX7_scan_288 ?_
          refine x_top (y := nI (b + 1)) (nI_add b 1) ?_
          refine t_put fpX7_159_6 dX7_scan_289 (by decide) ⟨rfl, rfl⟩ ?_
          exact x_return dX7_scan_292 rfl ⟨rfl, by first | rfl | exact sc_c16 _ _ _ _ | (simp [*]; done)⟩
        · refine x_iload_n dX7_scan_256 rfl ?_
          refine x_bipush (v := 40) dX7_scan_257 (by decide) ?_
          refine x_icmp_eq 274 dX7_scan_259 (by decide) (fun c259 => ?_) (fun c259 => ?_)
          · refine x_iconst (v := 3) dX7_scan_274 rfl ?_
            refine x_goto (tgt := 279) dX7_scan_275 (by decide) ?_
            refine t_put fpX7_167_6 dX7_scan_279 (by decide) ⟨rfl, rfl⟩ ?_
            refine x_aload_n dX7_scan_282 rfl ?_
            refine x_dup dX7_scan_283 rfl ?_
            refine t_get fgX7_159_6 dX7_scan_284 rfl ?_
            refine x_top (show _ = nI b from rfl) ?_
            refine x_iconst (v := 1) dX7_scan_287 rfl ?_
            refine x_iadd dX7_scan_288 ?_
            refine x_top (y := nI (b + 1)) (nI_add b 1) ?_
            refine t_put fpX7_159_6 dX7_scan_289 (by decide) ⟨rfl, rfl⟩ ?_
            exact x_return dX7_scan_292 rfl ⟨rfl, by first | rfl | exact sc_c16 _ _ _ _ | (simp [*]; done)⟩
          · refine x_iload_n dX7_scan_262 rfl ?_
            refine x_bipush (v := 41) dX7_scan_263 (by decide) ?_
            refine x_icmp_eq 274 dX7_scan_265 (by decide) (fun c265 => ?_) (fun c265 => ?_)
            · refine x_iconst (v := 3) dX7_scan_274 rfl ?_
              refine x_goto (tgt := 279) dX7_scan_275 (by decide) ?_
              refine t_put fpX7_167_6 dX7_scan_279 (by decide) ⟨rfl, rfl⟩ ?_
              refine x_aload_n dX7_scan_282 rfl ?_
              refine x_dup dX7_scan_283 rfl ?_
              refine t_get fgX7_159_6 dX7_scan_284 rfl ?_
              refine x_top (show _ = nI b from rfl) ?_
              refine x_iconst (v := 1) dX7_scan_287 rfl ?_
              refine x_iadd dX7_scan_288 ?_
              refine x_top (y := nI (b + 1)) (nI_add b 1) ?_
              refine t_put fpX7_159_6 dX7_scan_289 (by decide) ⟨rfl, rfl⟩ ?_
              exact x_return dX7_scan_292 rfl ⟨rfl, by first | rfl | exact sc_c16 _ _ _ _ | (simp [*]; done)⟩
            · refine x_iload_n dX7_scan_268 rfl ?_
              refine x_bipush (v := 45) dX7_scan_269 (by decide) ?_
              refine x_diaN (vt := 4) (vf := 3) (j := 279) (fun h k => x_icmp_neT (tgt := 278) dX7_scan_271 (by decide) h k) (fun h k => x_icmp_neF dX7_scan_271 278 (by decide) h k) (x_ic dX7_scan_278 rfl (by decide)) (x_icg dX7_scan_274 rfl dX7_scan_275 (by decide)) ?_
              refine t_put fpX7_167_6 dX7_scan_279 (by decide) ⟨rfl, rfl⟩ ?_
              refine x_aload_n dX7_scan_282 rfl ?_
              refine x_dup dX7_scan_283 rfl ?_
              refine t_get fgX7_159_6 dX7_scan_284 rfl ?_
              refine x_top (show _ = nI b from rfl) ?_
              refine x_iconst (v := 1) dX7_scan_287 rfl ?_
              refine x_iadd dX7_scan_288 ?_
              refine x_top (y := nI (b + 1)) (nI_add b 1) ?_
              refine t_put fpX7_159_6 dX7_scan_289 (by decide) ⟨rfl, rfl⟩ ?_
              exact x_return dX7_scan_292 rfl ⟨rfl, by first | rfl | exact sc_c16 _ _ _ _ | (simp [*]; done)⟩
      · rw [if_pos c167]
        refine x_aload_n dX7_scan_170 rfl ?_
        refine x_iconst (v := 0) dX7_scan_171 rfl ?_
        refine t_put fpX7_185_6 dX7_scan_172 (by decide) ⟨rfl, rfl⟩ ?_
        rw [show upd (upd (upd F 14 (nI b)) 15 (nI b)) 17 0 = upd (upd (upd F 15 (nI b)) 17 (nuV (Z 11) b 0)) 14 (nI (b + 0)) from sc_c17 _ _ _ _]
        refine sc_l3 (lmN F) b hl hn hbn (lmN F - b) 0 (by omega) ?_
        rw [Nat.add_zero]
        refine x_aload_n dX7_scan_241 rfl ?_
        refine x_iconst (v := 2) dX7_scan_242 rfl ?_
        refine t_put fpX7_167_6 dX7_scan_243 (by decide) ⟨rfl, rfl⟩ ?_
        refine x_goto (tgt := 292) dX7_scan_246 (by decide) ?_
        exact x_return dX7_scan_292 rfl ⟨rfl, by first | rfl | rw [upd_upd] | rw [sc_d17]⟩
    · rw [if_pos c73]
      refine x_aload_n dX7_scan_76 rfl ?_
      refine x_lconst (v := 0) dX7_scan_77 rfl ?_
      refine t_putW fpX7_174_6 dX7_scan_78 ?_
      rw [show upd (upd F 14 (nI b)) 15 (nI b) = upd (upd F 15 (nI b)) 14 (nI (b + 0)) from sc_c14 _ _ _]
      refine sc_l2 (lmN F) b hl hn hbn (lmN F - b) 0 (by omega) ?_
      rw [Nat.add_zero]
      refine x_aload_n dX7_scan_155 rfl ?_
      refine x_iconst (v := 1) dX7_scan_156 rfl ?_
      refine t_put fpX7_167_6 dX7_scan_157 (by decide) ⟨rfl, rfl⟩ ?_
      refine x_goto (tgt := 292) dX7_scan_160 (by decide) ?_
      exact x_return dX7_scan_292 rfl ⟨rfl, by first | rfl | rw [upd_upd] | rw [sc_d14]⟩
  · rw [if_pos c58]
    refine x_aload_n dX7_scan_61 rfl ?_
    refine x_iconst (v := 0) dX7_scan_62 rfl ?_
    refine t_put fpX7_167_6 dX7_scan_63 (by decide) ⟨rfl, rfl⟩ ?_
    refine x_goto (tgt := 292) dX7_scan_66 (by decide) ?_
    exact x_return dX7_scan_292 rfl ⟨rfl, by first | rfl | exact sc_c16 _ _ _ _ | (simp [*]; done)⟩
theorem c_X7_isGood (g : xG) (B : xA) (m : Nat) (F : Nat → Int32) (W : Int64) (S : Nat → Int32) (Z : Nat → Nat → Int32)  : xC g iX7_isGood 0 [.ref m] (tA B m F W S Z) (xRet (some (.int (flI (F 18 = 0)))) (tA B m F W S Z)) := by
  show xW g _ _ 0 [some (.ref m)] [] _ _
  refine x_aload_n dX7_isGood_0 rfl ?_
  refine t_get fgX7_189_6 dX7_isGood_1 rfl ?_
  refine x_diaN (vt := 0) (vf := 1) (j := 12) (fun h k => x_if_neT (tgt := 11) dX7_isGood_4 (by decide) h k) (fun h k => x_if_neF dX7_isGood_4 11 (by decide) h k) (x_ic dX7_isGood_11 rfl (by decide)) (x_icg dX7_isGood_7 rfl dX7_isGood_8 (by decide)) ?_
  exact x_ireturn dX7_isGood_12 rfl (by first | rfl | exact ite_nar | exact itn_nar) ⟨rfl, rfl⟩
theorem c_X7_must (g : xG) (B : xA) (m : Nat) (F : Nat → Int32) (W : Int64) (S : Nat → Int32) (Z : Nat → Nat → Int32) (z code : Int32) : xC g iX7_must 0 [.ref m, .int z, .int code] (tA B m F W S Z) (xRet none (tA B m (muF F z code) W S Z)) := by
  show xW g _ _ 0 [some (.ref m), some (.int z), some (.int code)] [] _ _
  refine x_aload_n dX7_must_0 rfl ?_
  refine t_get fgX7_189_6 dX7_must_1 rfl ?_
  refine x_if_ne 24 dX7_must_4 (by decide) (fun c4 => ?_) (fun c4 => ?_)
  · exact x_return dX7_must_24 rfl ⟨rfl, by unfold muF; first | rw [if_pos ⟨by assumption, by assumption⟩, upd_ne (j := 15) _ _ (by decide)] | rw [if_neg (fun h => by simp_all)]⟩
  · refine x_iload_n dX7_must_7 rfl ?_
    refine x_if_ne 24 dX7_must_8 (by decide) (fun c8 => ?_) (fun c8 => ?_)
    · exact x_return dX7_must_24 rfl ⟨rfl, by unfold muF; first | rw [if_pos ⟨by assumption, by assumption⟩, upd_ne (j := 15) _ _ (by decide)] | rw [if_neg (fun h => by simp_all)]⟩
    · refine x_aload_n dX7_must_11 rfl ?_
      refine x_iload_n dX7_must_12 rfl ?_
      refine t_put fpX7_189_6 dX7_must_13 (by decide) ⟨rfl, rfl⟩ ?_
      refine x_aload_n dX7_must_16 rfl ?_
      refine x_aload_n dX7_must_17 rfl ?_
      refine t_get fgX7_164_6 dX7_must_18 rfl ?_
      refine t_put fpX7_192_6 dX7_must_21 (by decide) ⟨rfl, rfl⟩ ?_
      exact x_return dX7_must_24 rfl ⟨rfl, by unfold muF; first | rw [if_pos ⟨by assumption, by assumption⟩, upd_ne (j := 15) _ _ (by decide)] | rw [if_neg (fun h => by simp_all)]⟩
theorem c_X7_goesOn (g : xG) (B : xA) (m : Nat) (F : Nat → Int32) (W : Int64) (S : Nat → Int32) (Z : Nat → Nat → Int32) (h : TI F) : xC g iX7_goesOn 3 [.ref m] (tA B m F W S Z) (xRet none (tA B m ((goX (Z 11) (F, W)).1) ((goX (Z 11) (F, W)).2) S Z)) := by
  show xW g _ _ 0 [some (.ref m)] [] _ _
  refine x_aload_n dX7_goesOn_0 rfl ?_
  refine t_get fgX7_189_6 dX7_goesOn_1 rfl ?_
  refine x_if_ne 11 dX7_goesOn_4 (by decide) (fun c4 => ?_) (fun c4 => ?_)
  · exact x_return dX7_goesOn_11 rfl ⟨rfl, by unfold goX; first | rw [if_pos (by assumption)] | rw [if_neg (by assumption)]⟩
  · refine x_aload_n dX7_goesOn_7 rfl ?_
    refine t_cvN cvX7_195_X7 dX7_goesOn_8 (c_X7_scan _ _ _ _ _ _ _  h.j) rfl ?_
    exact x_return dX7_goesOn_11 rfl ⟨rfl, by unfold goX; first | rw [if_pos (by assumption)] | rw [if_neg (by assumption)]⟩
theorem c_X7_starts (g : xG) (B : xA) (m : Nat) (F : Nat → Int32) (W : Int64) (S : Nat → Int32) (Z : Nat → Nat → Int32) (h : ixl (F 13) 801) : xC g iX7_starts 3 [.ref m] (tA B m F W S Z) (xRet none (tA B m ((stX (Z 11) (F, W)).1) ((stX (Z 11) (F, W)).2) S Z)) := by
  show xW g _ _ 0 [some (.ref m)] [] _ _
  refine x_aload_n dX7_starts_0 rfl ?_
  refine x_iconst (v := 0) dX7_starts_1 rfl ?_
  refine t_put fpX7_159_6 dX7_starts_2 (by decide) ⟨rfl, rfl⟩ ?_
  refine x_aload_n dX7_starts_5 rfl ?_
  refine x_iconst (v := 0) dX7_starts_6 rfl ?_
  refine t_put fpX7_189_6 dX7_starts_7 (by decide) ⟨rfl, rfl⟩ ?_
  refine x_aload_n dX7_starts_10 rfl ?_
  refine t_cvN cvX7_195_X7 dX7_starts_11 (c_X7_scan _ _ _ _ _ _ _  ⟨h, ixl_nI (Nat.succ_pos _) (by have := h.2; show (F 13).toNatClampNeg + 1 ≤ _; omega)⟩) rfl ?_
  exact x_return dX7_starts_14 rfl ⟨rfl, rfl⟩
theorem c_X7_isWord (g : xG) (B : xA) (m : Nat) (F : Nat → Int32) (W : Int64) (S : Nat → Int32) (Z : Nat → Nat → Int32) (w : Int64) : xC g iX7_isWord 0 [.ref m, .long w] (tA B m F W S Z) (xRet (some (.int (iwI (F, W) w))) (tA B m F W S Z)) := by
  show xW g _ _ 0 [some (.ref m), some (.long w), none] [] _ _
  refine x_aload_n dX7_isWord_0 rfl ?_
  refine t_get fgX7_189_6 dX7_isWord_1 rfl ?_
  refine x_if_ne 42 dX7_isWord_4 (by decide) (fun c4 => ?_) (fun c4 => ?_)
  · refine x_iconst (v := 0) dX7_isWord_42 rfl ?_
    exact x_ireturn dX7_isWord_43 rfl (by first | rfl | exact ite_nar | exact itn_nar) ⟨by simp only [iwI, flI, lg_cmp_eq, ← Int32.not_le] at *; simp [*], rfl⟩
  · refine x_aload_n dX7_isWord_7 rfl ?_
    refine t_get fgX7_167_6 dX7_isWord_8 rfl ?_
    refine x_iconst (v := 1) dX7_isWord_11 rfl ?_
    refine x_icmp_ne 42 dX7_isWord_12 (by decide) (fun c12 => ?_) (fun c12 => ?_)
    · refine x_iconst (v := 0) dX7_isWord_42 rfl ?_
      exact x_ireturn dX7_isWord_43 rfl (by first | rfl | exact ite_nar | exact itn_nar) ⟨by simp only [iwI, flI, lg_cmp_eq, ← Int32.not_le] at *; simp [*], rfl⟩
    · refine x_aload_n dX7_isWord_15 rfl ?_
      refine t_get fgX7_159_6 dX7_isWord_16 rfl ?_
      refine x_aload_n dX7_isWord_19 rfl ?_
      refine t_get fgX7_164_6 dX7_isWord_20 rfl ?_
      refine x_isub dX7_isWord_23 ?_
      refine x_bipush (v := 12) dX7_isWord_24 (by decide) ?_
      refine x_icmp_ge 42 dX7_isWord_26 (by decide) (fun c26 => ?_) (fun c26 => ?_)
      · refine x_iconst (v := 0) dX7_isWord_42 rfl ?_
        exact x_ireturn dX7_isWord_43 rfl (by first | rfl | exact ite_nar | exact itn_nar) ⟨by simp only [iwI, flI, lg_cmp_eq, ← Int32.not_le] at *; simp [*], rfl⟩
      · refine x_aload_n dX7_isWord_29 rfl ?_
        refine t_get fgX7_174_6 dX7_isWord_30 rfl ?_
        refine x_lload_n dX7_isWord_33 rfl ?_
        refine x_lcmp dX7_isWord_34 ?_
        refine x_diaN (vt := 0) (vf := 1) (j := 43) (fun h k => x_if_neT (tgt := 42) dX7_isWord_35 (by decide) h k) (fun h k => x_if_neF dX7_isWord_35 42 (by decide) h k) (x_ic dX7_isWord_42 rfl (by decide)) (x_icg dX7_isWord_38 rfl dX7_isWord_39 (by decide)) ?_
        exact x_ireturn dX7_isWord_43 rfl (by first | rfl | exact ite_nar | exact itn_nar) ⟨by simp only [iwI, flI, lg_cmp_eq, ← Int32.not_le] at *; simp [*], rfl⟩
theorem c_X7_isSign (g : xG) (B : xA) (m : Nat) (F : Nat → Int32) (W : Int64) (S : Nat → Int32) (Z : Nat → Nat → Int32) (c : Int32) (h : TI F) : xC g iX7_isSign 0 [.ref m, .int c] (tA B m F W S Z) (xRet (some (.int (isI (Z 11) F c))) (tA B m F W S Z)) := by
  show xW g _ _ 0 [some (.ref m), some (.int c)] [] _ _
  refine x_aload_n dX7_isSign_0 rfl ?_
  refine t_get fgX7_189_6 dX7_isSign_1 rfl ?_
  refine x_if_ne 32 dX7_isSign_4 (by decide) (fun c4 => ?_) (fun c4 => ?_)
  · refine x_iconst (v := 0) dX7_isSign_32 rfl ?_
    exact x_ireturn dX7_isSign_33 rfl (by first | rfl | exact ite_nar | exact itn_nar) ⟨by simp only [isI, flI] at *; simp [*], rfl⟩
  · refine x_aload_n dX7_isSign_7 rfl ?_
    refine t_get fgX7_167_6 dX7_isSign_8 rfl ?_
    refine x_iconst (v := 3) dX7_isSign_11 rfl ?_
    refine x_icmp_ne 32 dX7_isSign_12 (by decide) (fun c12 => ?_) (fun c12 => ?_)
    · have h16 := c12
      refine x_iconst (v := 0) dX7_isSign_32 rfl ?_
      exact x_ireturn dX7_isSign_33 rfl (by first | rfl | exact ite_nar | exact itn_nar) ⟨by simp only [isI, flI] at *; simp [*], rfl⟩
    · have h16 := c12
      refine x_aload_n dX7_isSign_15 rfl ?_
      refine t_get fgX7_45_6 dX7_isSign_16 rfl ?_
      refine x_aload_n dX7_isSign_19 rfl ?_
      refine t_get fgX7_164_6 dX7_isSign_20 rfl ?_
      refine x_top h.2.1.1 ?_
      refine t_aldZ tz11 (bgN F) dX7_isSign_23 rfl (by have := h.2.2 (by assumption); have := h.1.1.2; have e : lmN F = (F 13).toNatClampNeg := rfl; omega) ?_
      refine x_iload_n dX7_isSign_24 rfl ?_
      refine x_diaN (vt := 0) (vf := 1) (j := 33) (fun h k => x_icmp_neT (tgt := 32) dX7_isSign_25 (by decide) h k) (fun h k => x_icmp_neF dX7_isSign_25 32 (by decide) h k) (x_ic dX7_isSign_32 rfl (by decide)) (x_icg dX7_isSign_28 rfl dX7_isSign_29 (by decide)) ?_
      exact x_ireturn dX7_isSign_33 rfl (by first | rfl | exact ite_nar | exact itn_nar) ⟨by simp only [isI, flI] at *; simp [*], rfl⟩
theorem c_X7_sign (g : xG) (B : xA) (m : Nat) (F : Nat → Int32) (W : Int64) (S : Nat → Int32) (Z : Nat → Nat → Int32) (c : Int32) (h : TI F) : xC g iX7_sign 4 [.ref m, .int c] (tA B m F W S Z) (xRet none (tA B m ((sgX (Z 11) c (F, W)).1) ((sgX (Z 11) c (F, W)).2) S Z)) := by
  show xW g _ _ 0 [some (.ref m), some (.int c)] [] _ _
  refine x_aload_n dX7_sign_0 rfl ?_
  refine x_aload_n dX7_sign_1 rfl ?_
  refine x_iload_n dX7_sign_2 rfl ?_
  refine t_cvV cvX7_198_X7 dX7_sign_3 (c_X7_isSign _ _ _ _ _ _ _ _ (by apply_rules [TI.j, TI_sc, TI_mu, TI_go, TI_sg, TI_rdF, TI_rd, TI_cm0, TI_cm])) rfl ?_
  refine x_iconst (v := 1) dX7_sign_6 rfl ?_
  refine t_cvN cvX7_201_X7 dX7_sign_7 (c_X7_must _ _ _ _ _ _ _ _ _) rfl ?_
  refine x_aload_n dX7_sign_10 rfl ?_
  refine t_cvN cvX7_205_X7 dX7_sign_11 (c_X7_goesOn _ _ _ _ _ _ _  (by apply_rules [TI.j, TI_sc, TI_mu, TI_go, TI_sg, TI_rdF, TI_rd, TI_cm0, TI_cm])) rfl ?_
  exact x_return dX7_sign_14 rfl ⟨rfl, rfl⟩
theorem c_X7_reads (g : xG) (B : xA) (m : Nat) (F : Nat → Int32) (W : Int64) (S : Nat → Int32) (Z : Nat → Nat → Int32) (lo hi : Int32) (h : TI F) : xC g iX7_reads 4 [.ref m, .int lo, .int hi] (tA B m F W S Z) (xRet (some (.int (rdI (Z 11) lo hi (F, W)))) (tA B m ((rdX (Z 11) lo hi (F, W)).1) ((rdX (Z 11) lo hi (F, W)).2) S Z)) := by
  show xW g _ _ 0 [some (.ref m), some (.int lo), some (.int hi), none] [] _ _
  refine x_aload_n dX7_reads_0 rfl ?_
  refine x_aload_n dX7_reads_1 rfl ?_
  refine t_get fgX7_167_6 dX7_reads_2 rfl ?_
  refine x_iconst (v := 2) dX7_reads_5 rfl ?_
  refine x_diaN (vt := 0) (vf := 1) (j := 14) (fun h k => x_icmp_neT (tgt := 13) dX7_reads_6 (by decide) h k) (fun h k => x_icmp_neF dX7_reads_6 13 (by decide) h k) (x_ic dX7_reads_13 rfl (by decide)) (x_icg dX7_reads_9 rfl dX7_reads_10 (by decide)) ?_
  refine x_top (show _ = flI (F 16 = 2) from rfl) ?_
  refine x_iconst (v := 1) dX7_reads_14 rfl ?_
  refine t_cvN cvX7_201_X7 dX7_reads_15 (c_X7_must _ _ _ _ _ _ _ _ _) rfl ?_
  refine x_aload_n dX7_reads_18 rfl ?_
  refine x_aload_n dX7_reads_19 rfl ?_
  refine t_get fgX7_185_6 dX7_reads_20 rfl ?_
  refine x_i2l dX7_reads_23 ?_
  refine x_iload_n dX7_reads_24 rfl ?_
  refine x_i2l dX7_reads_25 ?_
  refine x_iload_n dX7_reads_26 rfl ?_
  refine x_i2l dX7_reads_27 ?_
  refine x_csV csX7_144 dX7_reads_28 (c_X7_in _ _ (muF F (flI (F 16 = 2)) 1 17) lo hi _ _ _ rfl rfl rfl) rfl ?_
  refine x_iconst (v := 2) dX7_reads_31 rfl ?_
  refine t_cvN cvX7_201_X7 dX7_reads_32 (c_X7_must _ _ _ _ _ _ _ _ _) rfl ?_
  refine x_aload_n dX7_reads_35 rfl ?_
  refine t_get fgX7_185_6 dX7_reads_36 rfl ?_
  refine x_istore_n dX7_reads_39 (by decide) rfl ?_
  refine x_aload_n dX7_reads_40 rfl ?_
  refine t_cvN cvX7_205_X7 dX7_reads_41 (c_X7_goesOn _ _ _ _ _ _ _  (by apply_rules [TI.j, TI_sc, TI_mu, TI_go, TI_sg, TI_rdF, TI_rd, TI_cm0, TI_cm])) rfl ?_
  refine x_aload_n dX7_reads_44 rfl ?_
  refine t_get fgX7_189_6 dX7_reads_45 rfl ?_
  refine x_if_ne 55 dX7_reads_48 (by decide) (fun c48 => ?_) (fun c48 => ?_)
  · refine x_iload_n dX7_reads_55 rfl ?_
    exact x_ireturn dX7_reads_56 rfl (by first | rfl | exact ite_nar | exact itn_nar) ⟨by rw [show rdI (Z 11) lo hi (F, W) = _ from if_neg c48] <;> rfl, rfl⟩
  · refine x_iload_n dX7_reads_51 rfl ?_
    refine x_goto (tgt := 56) dX7_reads_52 (by decide) ?_
    exact x_ireturn dX7_reads_56 rfl (by first | rfl | exact ite_nar | exact itn_nar) ⟨by rw [show rdI (Z 11) lo hi (F, W) = _ from if_pos c48] <;> rfl, rfl⟩
theorem c_X7_isNameHere (g : xG) (B : xA) (m : Nat) (F : Nat → Int32) (W : Int64) (S : Nat → Int32) (Z : Nat → Nat → Int32)  : xC g iX7_isNameHere 0 [.ref m] (tA B m F W S Z) (xRet (some (.int (nhI F))) (tA B m F W S Z)) := by
  show xW g _ _ 0 [some (.ref m)] [] _ _
  refine x_aload_n dX7_isNameHere_0 rfl ?_
  refine t_get fgX7_167_6 dX7_isNameHere_1 rfl ?_
  refine x_iconst (v := 1) dX7_isNameHere_4 rfl ?_
  refine x_icmp_ne 26 dX7_isNameHere_5 (by decide) (fun c5 => ?_) (fun c5 => ?_)
  · refine x_iconst (v := 0) dX7_isNameHere_26 rfl ?_
    exact x_ireturn dX7_isNameHere_27 rfl (by first | rfl | exact ite_nar | exact itn_nar) ⟨by simp only [nhI, flI, ← Int32.not_le] at *; simp [*], rfl⟩
  · refine x_aload_n dX7_isNameHere_8 rfl ?_
    refine t_get fgX7_159_6 dX7_isNameHere_9 rfl ?_
    refine x_aload_n dX7_isNameHere_12 rfl ?_
    refine t_get fgX7_164_6 dX7_isNameHere_13 rfl ?_
    refine x_isub dX7_isNameHere_16 ?_
    refine x_bipush (v := 6) dX7_isNameHere_17 (by decide) ?_
    refine x_icmp_gt 26 dX7_isNameHere_19 (by decide) (fun c19 => ?_) (fun c19 => ?_)
    · refine x_iconst (v := 0) dX7_isNameHere_26 rfl ?_
      exact x_ireturn dX7_isNameHere_27 rfl (by first | rfl | exact ite_nar | exact itn_nar) ⟨by simp only [nhI, flI, ← Int32.not_le] at *; simp [*], rfl⟩
    · refine x_iconst (v := 1) dX7_isNameHere_22 rfl ?_
      refine x_goto (tgt := 27) dX7_isNameHere_23 (by decide) ?_
      exact x_ireturn dX7_isNameHere_27 rfl (by first | rfl | exact ite_nar | exact itn_nar) ⟨by simp only [nhI, flI, ← Int32.not_le] at *; simp [*], rfl⟩
theorem c_X7_centsText (g : xG) (B : xA) (m : Nat) (F : Nat → Int32) (W : Int64) (S : Nat → Int32) (Z : Nat → Nat → Int32) (lo hi : Int32) (h : TI F) : xC g iX7_centsText 5 [.ref m, .int lo, .int hi] (tA B m F W S Z) (xRet (some (.int (cmI (Z 11) lo hi (F, W)))) (tA B m ((cmX (Z 11) lo hi (F, W)).1) ((cmX (Z 11) lo hi (F, W)).2) S Z)) := by
  show xW g _ _ 0 [some (.ref m), some (.int lo), some (.int hi), none, none] [] _ _
  refine x_aload_n dX7_centsText_0 rfl ?_
  refine x_bipush (v := 45) dX7_centsText_1 (by decide) ?_
  refine t_cvV cvX7_198_X7 dX7_centsText_3 (c_X7_isSign _ _ _ _ _ _ _ _ (by apply_rules [TI.j, TI_sc, TI_mu, TI_go, TI_sg, TI_rdF, TI_rd, TI_cm0, TI_cm])) rfl ?_
  refine x_istore_n dX7_centsText_6 (by decide) rfl ?_
  refine x_iload_n dX7_centsText_7 rfl ?_
  refine x_if_eq 15 dX7_centsText_8 (by decide) (fun c8 => ?_) (fun c8 => ?_)
  · refine x_aload_n dX7_centsText_15 rfl ?_
    refine x_iload_n dX7_centsText_16 rfl ?_
    refine x_iload_n dX7_centsText_17 rfl ?_
    refine t_cvV cvX7_208_X7 dX7_centsText_18 (c_X7_reads _ _ _ _ _ _ _ _ _ (by apply_rules [TI.j, TI_sc, TI_mu, TI_go, TI_sg, TI_rdF, TI_rd, TI_cm0, TI_cm])) rfl ?_
    refine x_istore dX7_centsText_21 (by decide) rfl ?_
    refine x_iload_n dX7_centsText_23 rfl ?_
    refine x_if_eqT (tgt := 33) dX7_centsText_24 (by decide) c8 ?_
    refine x_iload dX7_centsText_33 rfl ?_
    exact x_ireturn dX7_centsText_35 rfl (by first | rfl | exact ite_nar | exact itn_nar) ⟨by simp only [cmI, cm0]; simp [*], by simp only [cmX, cm0]; simp [*]⟩
  · refine x_aload_n dX7_centsText_11 rfl ?_
    refine t_cvN cvX7_205_X7 dX7_centsText_12 (c_X7_goesOn _ _ _ _ _ _ _  (by apply_rules [TI.j, TI_sc, TI_mu, TI_go, TI_sg, TI_rdF, TI_rd, TI_cm0, TI_cm])) rfl ?_
    refine x_aload_n dX7_centsText_15 rfl ?_
    refine x_iload_n dX7_centsText_16 rfl ?_
    refine x_iload_n dX7_centsText_17 rfl ?_
    refine t_cvV cvX7_208_X7 dX7_centsText_18 (c_X7_reads _ _ _ _ _ _ _ _ _ (by apply_rules [TI.j, TI_sc, TI_mu, TI_go, TI_sg, TI_rdF, TI_rd, TI_cm0, TI_cm])) rfl ?_
    refine x_istore dX7_centsText_21 (by decide) rfl ?_
    refine x_iload_n dX7_centsText_23 rfl ?_
    refine x_if_eqF dX7_centsText_24 33 (by decide) c8 ?_
    refine x_iload dX7_centsText_27 rfl ?_
    refine x_ineg dX7_centsText_29 ?_
    refine x_goto (tgt := 35) dX7_centsText_30 (by decide) ?_
    exact x_ireturn dX7_centsText_35 rfl (by first | rfl | exact ite_nar | exact itn_nar) ⟨by simp only [cmI, cm0]; simp [*], by simp only [cmX, cm0]; simp [*]⟩
theorem c_X7_tellsError (g : xG) (B : xA) (m : Nat) (F : Nat → Int32) (W : Int64) (S : Nat → Int32) (Z : Nat → Nat → Int32)  : xC g iX7_tellsError 0 [.ref m] (tA B m F W S Z) (xRet none (tA B m (teF F) W S Z)) := by
  show xW g _ _ 0 [some (.ref m)] [] _ _
  refine x_aload_n dX7_tellsError_0 rfl ?_
  refine x_aload_n dX7_tellsError_1 rfl ?_
  refine t_get fgX7_189_6 dX7_tellsError_2 rfl ?_
  refine t_put fpX7_240_6 dX7_tellsError_5 (by decide) ⟨rfl, rfl⟩ ?_
  refine x_aload_n dX7_tellsError_8 rfl ?_
  refine x_aload_n dX7_tellsError_9 rfl ?_
  refine t_get fgX7_189_6 dX7_tellsError_10 rfl ?_
  refine x_if_ne 20 dX7_tellsError_13 (by decide) (fun c13 => ?_) (fun c13 => ?_)
  · refine x_aload_n dX7_tellsError_20 rfl ?_
    refine t_get fgX7_192_6 dX7_tellsError_21 rfl ?_
    refine t_put fpX7_48_6 dX7_tellsError_24 (by decide) ⟨rfl, rfl⟩ ?_
    exact x_return dX7_tellsError_27 rfl ⟨rfl, by rw [show teF F = _ from congrArg (upd (upd F 20 (F 18)) 21) (if_neg c13)] <;> rfl⟩
  · refine x_iconst (v := (-1)) dX7_tellsError_16 rfl ?_
    refine x_goto (tgt := 24) dX7_tellsError_17 (by decide) ?_
    refine t_put fpX7_48_6 dX7_tellsError_24 (by decide) ⟨rfl, rfl⟩ ?_
    exact x_return dX7_tellsError_27 rfl ⟨rfl, by rw [show teF F = _ from congrArg (upd (upd F 20 (F 18)) 21) (if_pos c13)] <;> rfl⟩
