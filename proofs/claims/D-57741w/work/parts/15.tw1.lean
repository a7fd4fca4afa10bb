set_option maxRecDepth 100000
theorem c_X7_at (g : xG) (A : xA) (f w : Nat) : xC g iX7_at 0 [.int (nI f), .int (nI w)] A (xRet (some (.int (nI (70 + 21 * f + w)))) A) := by
  show xW g _ _ 0 [some (.int (nI f)), some (.int (nI w))] [] _ _
  refine x_bipush (v := 70) dX7_at_0 (by decide) ?_
  refine x_bipush (v := 21) dX7_at_2 (by decide) ?_
  refine x_iload_n dX7_at_4 rfl ?_
  refine x_imul dX7_at_5 ?_
  refine x_top (y := nI (21 * f)) (pk_mul 21 f) ?_
  refine x_iadd dX7_at_6 ?_
  refine x_top (y := nI (70 + 21 * f)) (nI_add 70 (21 * f)) ?_
  refine x_iload_n dX7_at_7 rfl ?_
  refine x_iadd dX7_at_8 ?_
  refine x_top (y := nI (70 + 21 * f + w)) (nI_add (70 + 21 * f) w) ?_
  exact x_ireturn dX7_at_9 rfl rfl ⟨rfl, rfl⟩
theorem c_X7_has (g : xG) (B : xA) (m : Nat) (F : Nat → Int32) (W : Int64) (S : Nat → Int32) (Z : Nat → Nat → Int32) (f w : Nat) (hf : f < 10) (hw : w < 21) : xC g iX7_has 1 [.ref m, .int (nI f), .int (nI w)] (tA B m F W S Z) (xRet (some (.int (hs S f w))) (tA B m F W S Z)) := by
  show xW g _ _ 0 [some (.ref m), some (.int (nI f)), some (.int (nI w))] [] _ _
  refine x_aload_n dX7_has_0 rfl ?_
  refine t_get fgX7_7_6 dX7_has_1 rfl ?_
  refine x_iload_n dX7_has_4 rfl ?_
  refine x_iload_n dX7_has_5 rfl ?_
  refine x_csV csX7_65 dX7_has_6 (c_X7_at _ _ f w) rfl ?_
  refine t_aldS (70 + 21 * f + w) dX7_has_9 rfl (by omega) ?_
  exact x_ireturn dX7_has_10 rfl rfl ⟨rfl, rfl⟩
theorem le64 {x y : Int32} : x.toInt64 ≤ y.toInt64 ↔ x ≤ y := by
  rw [Int64.le_iff_toInt_le, Int32.le_iff_toInt_le, Int32.toInt_toInt64, Int32.toInt_toInt64]
theorem lt64 {x y : Int32} (h : x.toInt64 < y.toInt64) : ¬ y ≤ x := fun q => by
  have := le64.mpr q
  rw [Int64.le_iff_toInt_le] at this
  rw [Int64.lt_iff_toInt_lt] at h
  omega
theorem not_lt64 {x y : Int32} (h : ¬ y.toInt64 < x.toInt64) : x ≤ y := by
  rw [Int32.le_iff_toInt_le]
  rw [Int64.lt_iff_toInt_lt, Int32.toInt_toInt64, Int32.toInt_toInt64] at h
  omega
theorem c_X7_in (g : xG) (A : xA) (x lo hi : Int32) (a b c : Int64) (ha : a = x.toInt64) (hb : b = lo.toInt64) (hc : c = hi.toInt64) : xC g iX7_in 0 [.long a, .long b, .long c] A (xRet (some (.int (inI x lo hi))) A) := by
  subst ha; subst hb; subst hc
  show xW g _ _ 0 [some (.long x.toInt64), none, some (.long lo.toInt64), none, some (.long hi.toInt64), none] [] _ _
  refine x_lload_n dX7_in_0 rfl ?_
  refine x_lload_n dX7_in_1 rfl ?_
  refine x_lcmp dX7_in_2 ?_
  refine x_if_lt 17 dX7_in_3 (by decide) (fun c3 => ?_) (fun c3 => ?_)
  · refine x_iconst (v := 0) dX7_in_17 rfl ?_
    exact x_ireturn dX7_in_18 rfl rfl ⟨by rw [show inI x lo hi = 0 from if_neg (fun h => absurd h.1 (lt64 ((lg_cmp_lt _ _).mp c3)))], rfl⟩
  · refine x_lload_n dX7_in_6 rfl ?_
    refine x_lload dX7_in_7 rfl ?_
    refine x_lcmp dX7_in_9 ?_
    refine x_if_gt 17 dX7_in_10 (by decide) (fun c10 => ?_) (fun c10 => ?_)
    · refine x_iconst (v := 0) dX7_in_17 rfl ?_
      exact x_ireturn dX7_in_18 rfl rfl ⟨by rw [show inI x lo hi = 0 from if_neg (fun h => absurd h.2 (lt64 ((lg_cmp_gt _ _).mp c10)))], rfl⟩
    · refine x_iconst (v := 1) dX7_in_13 rfl ?_
      refine x_goto (tgt := 18) dX7_in_14 (by decide) ?_
      exact x_ireturn dX7_in_18 rfl rfl ⟨by rw [show inI x lo hi = 1 from if_pos ⟨not_lt64 (fun h => c3 ((lg_cmp_lt _ _).mpr h)), not_lt64 (fun h => c10 ((lg_cmp_gt _ _).mpr h))⟩], rfl⟩
theorem c_X7_flag (g : xG) (A : xA) (z : Int32) : xC g iX7_flag 0 [.int z] A (xRet (some (.int (if z = 0 then 0 else 1))) A) := by
  show xW g _ _ 0 [some (.int z)] [] _ _
  refine x_iload_n dX7_flag_0 rfl ?_
  refine x_if_eq 8 dX7_flag_1 (by decide) (fun c1 => ?_) (fun c1 => ?_)
  · refine x_iconst (v := 0) dX7_flag_8 rfl ?_
    exact x_ireturn dX7_flag_9 rfl rfl ⟨by simp [c1], rfl⟩
  · refine x_iconst (v := 1) dX7_flag_4 rfl ?_
    refine x_goto (tgt := 9) dX7_flag_5 (by decide) ?_
    exact x_ireturn dX7_flag_9 rfl rfl ⟨by simp [c1], rfl⟩
theorem c_X7_bare (g : xG) (A : xA) (v : Int32) : xC g iX7_bare 0 [.int v] A (xRet (some (.int (bI v))) A) := by
  show xW g _ _ 0 [some (.int v)] [] _ _
  refine x_iload_n dX7_bare_0 rfl ?_
  refine x_if_ge 9 dX7_bare_1 (by decide) (fun c1 => ?_) (fun c1 => ?_)
  · refine x_iload_n dX7_bare_9 rfl ?_
    exact x_ireturn dX7_bare_10 rfl rfl ⟨by first | rfl | (simp only [bI, ← Int32.not_le] at *; simp [*]), by first | rfl | (simp only [bI, ← Int32.not_le] at *; simp [*])⟩
  · refine x_iload_n dX7_bare_4 rfl ?_
    refine x_ineg dX7_bare_5 ?_
    refine x_goto (tgt := 10) dX7_bare_6 (by decide) ?_
    exact x_ireturn dX7_bare_10 rfl rfl ⟨by first | rfl | (simp only [bI, ← Int32.not_le] at *; simp [*]), by first | rfl | (simp only [bI, ← Int32.not_le] at *; simp [*])⟩
theorem c_X7_greater (g : xG) (A : xA) (a b : Int32) : xC g iX7_greater 0 [.int a, .int b] A (xRet (some (.int (gI a b))) A) := by
  show xW g _ _ 0 [some (.int a), some (.int b)] [] _ _
  refine x_iload_n dX7_greater_0 rfl ?_
  refine x_iload_n dX7_greater_1 rfl ?_
  refine x_icmp_le 9 dX7_greater_2 (by decide) (fun c2 => ?_) (fun c2 => ?_)
  · refine x_iload_n dX7_greater_9 rfl ?_
    exact x_ireturn dX7_greater_10 rfl rfl ⟨by first | rfl | (simp only [gI, ← Int32.not_le] at *; simp [*]), by first | rfl | (simp only [gI, ← Int32.not_le] at *; simp [*])⟩
  · refine x_iload_n dX7_greater_5 rfl ?_
    refine x_goto (tgt := 10) dX7_greater_6 (by decide) ?_
    exact x_ireturn dX7_greater_10 rfl rfl ⟨by first | rfl | (simp only [gI, ← Int32.not_le] at *; simp [*]), by first | rfl | (simp only [gI, ← Int32.not_le] at *; simp [*])⟩
theorem c_X7_stops (g : xG) (B : xA) (m : Nat) (F : Nat → Int32) (W : Int64) (S : Nat → Int32) (Z : Nat → Nat → Int32) (z code : Int32) (hc : code ≠ 0) : xC g iX7_stops 0 [.ref m, .int z, .int code] (tA B m F W S Z) (xRet (some (.int (if F 6 = 0 ∧ z = 0 then 0 else 1))) (tA B m (upd F 6 (if F 6 = 0 ∧ z ≠ 0 then code else F 6)) W S Z)) := by
  show xW g _ _ 0 [some (.ref m), some (.int z), some (.int code)] [] _ _
  refine x_aload_n dX7_stops_0 rfl ?_
  refine t_get fgX7_72_6 dX7_stops_1 rfl ?_
  refine x_if_ne 16 dX7_stops_4 (by decide) (fun c4 => ?_) (fun c4 => ?_)
  · refine x_aload_n dX7_stops_16 rfl ?_
    refine t_get fgX7_72_6 dX7_stops_17 rfl ?_
    refine x_if_eq 27 dX7_stops_20 (by decide) (fun c20 => ?_) (fun c20 => ?_)
    · refine x_iconst (v := 0) dX7_stops_27 rfl ?_
      exact x_ireturn dX7_stops_28 rfl rfl ⟨by simp_all [upd], by congr 1; funext i; simp_all [upd]⟩
    · refine x_iconst (v := 1) dX7_stops_23 rfl ?_
      refine x_goto (tgt := 28) dX7_stops_24 (by decide) ?_
      exact x_ireturn dX7_stops_28 rfl rfl ⟨by simp_all [upd], by congr 1; funext i; simp_all [upd]⟩
  · refine x_iload_n dX7_stops_7 rfl ?_
    refine x_if_eq 16 dX7_stops_8 (by decide) (fun c8 => ?_) (fun c8 => ?_)
    · refine x_aload_n dX7_stops_16 rfl ?_
      refine t_get fgX7_72_6 dX7_stops_17 rfl ?_
      refine x_if_eq 27 dX7_stops_20 (by decide) (fun c20 => ?_) (fun c20 => ?_)
      · refine x_iconst (v := 0) dX7_stops_27 rfl ?_
        exact x_ireturn dX7_stops_28 rfl rfl ⟨by simp_all [upd], by congr 1; funext i; simp_all [upd]⟩
      · refine x_iconst (v := 1) dX7_stops_23 rfl ?_
        refine x_goto (tgt := 28) dX7_stops_24 (by decide) ?_
        exact x_ireturn dX7_stops_28 rfl rfl ⟨by simp_all [upd], by congr 1; funext i; simp_all [upd]⟩
    · refine x_aload_n dX7_stops_11 rfl ?_
      refine x_iload_n dX7_stops_12 rfl ?_
      refine t_put fpX7_72_6 dX7_stops_13 (by decide) ⟨rfl, rfl⟩ ?_
      refine x_aload_n dX7_stops_16 rfl ?_
      refine t_get fgX7_72_6 dX7_stops_17 rfl ?_
      refine x_if_eq 27 dX7_stops_20 (by decide) (fun c20 => ?_) (fun c20 => ?_)
      · refine x_iconst (v := 0) dX7_stops_27 rfl ?_
        exact x_ireturn dX7_stops_28 rfl rfl ⟨by simp_all [upd], by congr 1; funext i; simp_all [upd]⟩
      · refine x_iconst (v := 1) dX7_stops_23 rfl ?_
        refine x_goto (tgt := 28) dX7_stops_24 (by decide) ?_
        exact x_ireturn dX7_stops_28 rfl rfl ⟨by simp_all [upd], by congr 1; funext i; simp_all [upd]⟩
theorem c_X7_isOff (g : xG) (B : xA) (m : Nat) (F : Nat → Int32) (W : Int64) (S : Nat → Int32) (Z : Nat → Nat → Int32) (f k : Nat) (hf : f < 10) (hk : k < 4) : xC g iX7_isOff 2 [.ref m, .int (nI f), .int (nI k)] (tA B m F W S Z) (xRet (some (.int (flI (hs S f (13 + k) = 1)))) (tA B m F W S Z)) := by
  show xW g _ _ 0 [some (.ref m), some (.int (nI f)), some (.int (nI k))] [] _ _
  refine x_aload_n dX7_isOff_0 rfl ?_
  refine x_iload_n dX7_isOff_1 rfl ?_
  refine x_bipush (v := 13) dX7_isOff_2 (by decide) ?_
  refine x_iload_n dX7_isOff_4 rfl ?_
  refine x_iadd dX7_isOff_5 ?_
  refine x_top (y := nI (13 + k)) (nI_add 13 k) ?_
  refine t_cvV cvX7_75_X7 dX7_isOff_6 (c_X7_has _ _ _ _ _ _ _ f (13 + k) (by omega) (by omega)) rfl ?_
  refine x_iconst (v := 1) dX7_isOff_9 rfl ?_
  refine x_icmp_ne 17 dX7_isOff_10 (by decide) (fun c10 => ?_) (fun c10 => ?_)
  · refine x_iconst (v := 0) dX7_isOff_17 rfl ?_
    exact x_ireturn dX7_isOff_18 rfl rfl ⟨by rw [flI]; simp [c10], rfl⟩
  · refine x_iconst (v := 1) dX7_isOff_13 rfl ?_
    refine x_goto (tgt := 18) dX7_isOff_14 (by decide) ?_
    exact x_ireturn dX7_isOff_18 rfl rfl ⟨by rw [flI]; simp [c10], rfl⟩
theorem c_X7_shifts (g : xG) (B : xA) (m : Nat) (F : Nat → Int32) (W : Int64) (S : Nat → Int32) (Z : Nat → Nat → Int32) (f k : Nat) (c : Int32) (hf : f < 10) (hk : k < 4) : xC g iX7_shifts 2 [.ref m, .int (nI f), .int (nI k), .int c] (tA B m F W S Z) (xRet none (tA B m F W (shiftsS S f k c) Z)) := by
  show xW g _ _ 0 [some (.ref m), some (.int (nI f)), some (.int (nI k)), some (.int c), none] [] _ _
  refine x_aload_n dX7_shifts_0 rfl ?_
  refine x_iload_n dX7_shifts_1 rfl ?_
  refine x_bipush (v := 9) dX7_shifts_2 (by decide) ?_
  refine x_iload_n dX7_shifts_4 rfl ?_
  refine x_iadd dX7_shifts_5 ?_
  refine x_top (y := nI (9 + k)) (nI_add 9 k) ?_
  refine t_cvV cvX7_75_X7 dX7_shifts_6 (c_X7_has _ _ _ _ _ _ _ f (9 + k) (by omega) (by omega)) rfl ?_
  refine x_iload_n dX7_shifts_9 rfl ?_
  refine x_iadd dX7_shifts_10 ?_
  refine x_istore dX7_shifts_11 (by decide) rfl ?_
  refine x_aload_n dX7_shifts_13 rfl ?_
  refine t_get fgX7_7_6 dX7_shifts_14 rfl ?_
  refine x_iload_n dX7_shifts_17 rfl ?_
  refine x_bipush (v := 9) dX7_shifts_18 (by decide) ?_
  refine x_iload_n dX7_shifts_20 rfl ?_
  refine x_iadd dX7_shifts_21 ?_
  refine x_top (y := nI (9 + k)) (nI_add 9 k) ?_
  refine x_csV csX7_65 dX7_shifts_22 (c_X7_at _ _ f (9 + k)) rfl ?_
  refine x_iload dX7_shifts_25 rfl ?_
  refine x_sipush (v := 999) dX7_shifts_27 (by decide) ?_
  refine x_icmp_le 39 dX7_shifts_30 (by decide) (fun c30 => ?_) (fun c30 => ?_)
  · refine x_iload dX7_shifts_39 rfl ?_
    refine x_sipush (v := (-999)) dX7_shifts_41 (by decide) ?_
    refine x_icmp_ge 53 dX7_shifts_44 (by decide) (fun c44 => ?_) (fun c44 => ?_)
    · refine x_iload dX7_shifts_53 rfl ?_
      refine t_astS (70 + 21 * f + (9 + k)) dX7_shifts_55 rfl (by omega) ?_
      exact x_return dX7_shifts_56 rfl ⟨by first | rfl | (simp only [shiftsS, su, clI, ← Int32.not_le] at *; simp [*]), by first | rfl | (simp only [shiftsS, su, clI, ← Int32.not_le] at *; simp [*])⟩
    · refine x_sipush (v := (-999)) dX7_shifts_47 (by decide) ?_
      refine x_goto (tgt := 55) dX7_shifts_50 (by decide) ?_
      refine t_astS (70 + 21 * f + (9 + k)) dX7_shifts_55 rfl (by omega) ?_
      exact x_return dX7_shifts_56 rfl ⟨by first | rfl | (simp only [shiftsS, su, clI, ← Int32.not_le] at *; simp [*]), by first | rfl | (simp only [shiftsS, su, clI, ← Int32.not_le] at *; simp [*])⟩
  · refine x_sipush (v := 999) dX7_shifts_33 (by decide) ?_
    refine x_goto (tgt := 55) dX7_shifts_36 (by decide) ?_
    refine t_astS (70 + 21 * f + (9 + k)) dX7_shifts_55 rfl (by omega) ?_
    exact x_return dX7_shifts_56 rfl ⟨by first | rfl | (simp only [shiftsS, su, clI, ← Int32.not_le] at *; simp [*]), by first | rfl | (simp only [shiftsS, su, clI, ← Int32.not_le] at *; simp [*])⟩
theorem c_X7_turns (g : xG) (B : xA) (m : Nat) (F : Nat → Int32) (W : Int64) (S : Nat → Int32) (Z : Nat → Nat → Int32) (f k : Nat) (c : Int32) (hf : f < 10) (hk : k < 4) : xC g iX7_turns 3 [.ref m, .int (nI f), .int (nI k), .int c] (tA B m F W S Z) (xRet none (tA B m F W (turnsS S f k c) Z)) := by
  show xW g _ _ 0 [some (.ref m), some (.int (nI f)), some (.int (nI k)), some (.int c), none] [] _ _
  refine x_aload_n dX7_turns_0 rfl ?_
  refine x_iload_n dX7_turns_1 rfl ?_
  refine x_bipush (v := 17) dX7_turns_2 (by decide) ?_
  refine x_iload_n dX7_turns_4 rfl ?_
  refine x_iadd dX7_turns_5 ?_
  refine x_top (y := nI (17 + k)) (nI_add 17 k) ?_
  refine t_cvV cvX7_75_X7 dX7_turns_6 (c_X7_has _ _ _ _ _ _ _ f (17 + k) (by omega) (by omega)) rfl ?_
  refine x_istore dX7_turns_9 (by decide) rfl ?_
  refine x_aload_n dX7_turns_11 rfl ?_
  refine t_get fgX7_7_6 dX7_turns_12 rfl ?_
  refine x_bipush (v := 16) dX7_turns_15 (by decide) ?_
  refine x_dup2 dX7_turns_17 rfl rfl ?_
  refine t_aldS 16 dX7_turns_18 rfl (by decide) ?_
  refine x_iconst (v := 1) dX7_turns_19 rfl ?_
  refine x_iadd dX7_turns_20 ?_
  refine t_astS 16 dX7_turns_21 rfl (by decide) ?_
  refine x_iload_n dX7_turns_22 rfl ?_
  refine x_sipush (v := 150) dX7_turns_23 (by decide) ?_
  refine x_icmp_le 57 dX7_turns_26 (by decide) (fun c26 => ?_) (fun c26 => ?_)
  · refine x_aload_n dX7_turns_57 rfl ?_
    refine x_iload_n dX7_turns_58 rfl ?_
    refine x_iload_n dX7_turns_59 rfl ?_
    refine x_iload_n dX7_turns_60 rfl ?_
    refine t_cvN cvX7_78_X7 dX7_turns_61 (c_X7_shifts _ _ _ _ _ _ _ f k _ (by omega) (by omega)) rfl ?_
    refine x_aload_n dX7_turns_64 rfl ?_
    refine x_iload_n dX7_turns_65 rfl ?_
    refine x_iload_n dX7_turns_66 rfl ?_
    refine x_iconst (v := 0) dX7_turns_67 rfl ?_
    refine x_iconst (v := 3) dX7_turns_68 rfl ?_
    refine x_iload dX7_turns_69 rfl ?_
    refine x_isub dX7_turns_71 ?_
    refine x_csV csX7_82 dX7_turns_72 (c_X7_greater _ _ _ _) rfl ?_
    refine x_ineg dX7_turns_75 ?_
    refine t_cvN cvX7_78_X7 dX7_turns_76 (c_X7_shifts _ _ _ _ _ _ _ f k _ (by omega) (by omega)) rfl ?_
    refine x_aload_n dX7_turns_79 rfl ?_
    refine t_get fgX7_7_6 dX7_turns_80 rfl ?_
    refine x_iload_n dX7_turns_83 rfl ?_
    refine x_bipush (v := 17) dX7_turns_84 (by decide) ?_
    refine x_iload_n dX7_turns_86 rfl ?_
    refine x_iadd dX7_turns_87 ?_
    refine x_top (y := nI (17 + k)) (nI_add 17 k) ?_
    refine x_csV csX7_65 dX7_turns_88 (c_X7_at _ _ f (17 + k)) rfl ?_
    refine x_iconst (v := 0) dX7_turns_91 rfl ?_
    refine x_iload dX7_turns_92 rfl ?_
    refine x_iconst (v := 1) dX7_turns_94 rfl ?_
    refine x_isub dX7_turns_95 ?_
    refine x_csV csX7_82 dX7_turns_96 (c_X7_greater _ _ _ _) rfl ?_
    refine t_astS (70 + 21 * f + (17 + k)) dX7_turns_99 rfl (by omega) ?_
    exact x_return dX7_turns_100 rfl ⟨by first | rfl | (simp only [turnsS, su, ← Int32.not_le] at *; simp [*]), by first | rfl | (simp only [turnsS, su, ← Int32.not_le] at *; simp [*])⟩
  · refine x_aload_n dX7_turns_29 rfl ?_
    refine t_get fgX7_7_6 dX7_turns_30 rfl ?_
    refine x_iload_n dX7_turns_33 rfl ?_
    refine x_bipush (v := 13) dX7_turns_34 (by decide) ?_
    refine x_iload_n dX7_turns_36 rfl ?_
    refine x_iadd dX7_turns_37 ?_
    refine x_top (y := nI (13 + k)) (nI_add 13 k) ?_
    refine x_csV csX7_65 dX7_turns_38 (c_X7_at _ _ f (13 + k)) rfl ?_
    refine x_iconst (v := 1) dX7_turns_41 rfl ?_
    refine t_astS (70 + 21 * f + (13 + k)) dX7_turns_42 rfl (by omega) ?_
    refine x_aload_n dX7_turns_43 rfl ?_
    refine t_get fgX7_7_6 dX7_turns_44 rfl ?_
    refine x_bipush (v := 18) dX7_turns_47 (by decide) ?_
    refine x_dup2 dX7_turns_49 rfl rfl ?_
    refine t_aldS 18 dX7_turns_50 rfl (by decide) ?_
    refine x_iconst (v := 1) dX7_turns_51 rfl ?_
    refine x_iadd dX7_turns_52 ?_
    refine t_astS 18 dX7_turns_53 rfl (by decide) ?_
    refine x_goto (tgt := 79) dX7_turns_54 (by decide) ?_
    refine x_aload_n dX7_turns_79 rfl ?_
    refine t_get fgX7_7_6 dX7_turns_80 rfl ?_
    refine x_iload_n dX7_turns_83 rfl ?_
    refine x_bipush (v := 17) dX7_turns_84 (by decide) ?_
    refine x_iload_n dX7_turns_86 rfl ?_
    refine x_iadd dX7_turns_87 ?_
    refine x_top (y := nI (17 + k)) (nI_add 17 k) ?_
    refine x_csV csX7_65 dX7_turns_88 (c_X7_at _ _ f (17 + k)) rfl ?_
    refine x_iconst (v := 0) dX7_turns_91 rfl ?_
    refine x_iload dX7_turns_92 rfl ?_
    refine x_iconst (v := 1) dX7_turns_94 rfl ?_
    refine x_isub dX7_turns_95 ?_
    refine x_csV csX7_82 dX7_turns_96 (c_X7_greater _ _ _ _) rfl ?_
    refine t_astS (70 + 21 * f + (17 + k)) dX7_turns_99 rfl (by omega) ?_
    exact x_return dX7_turns_100 rfl ⟨by first | rfl | (simp only [turnsS, su, ← Int32.not_le] at *; simp [*]), by first | rfl | (simp only [turnsS, su, ← Int32.not_le] at *; simp [*])⟩
