set_option maxRecDepth 100000
theorem c_X7_difference_n (g : xG) (B : xA) (m : Nat) (F : Nat → Int32) (W : Int64) (S : Nat → Int32) (Z : Nat → Nat → Int32) (f k : Nat) (hf : f < 10) (hk : k < 4) : xC g iX7_difference 2 [.ref m, .int (nI f), .int (nI k), .int (-2)] (tA B m F W S Z) (xRet (some (.int (difS S f k none))) (tA B m F W S Z)) := by
  show xW g _ _ 0 [some (.ref m), some (.int (nI f)), some (.int (nI k)), some (.int (-2))] [] _ _
  refine x_aload_n dX7_difference_0 rfl ?_
  refine x_iload_n dX7_difference_1 rfl ?_
  refine x_bipush (v := 9) dX7_difference_2 (by decide) ?_
  refine x_iload_n dX7_difference_4 rfl ?_
  refine x_iadd dX7_difference_5 ?_
  refine x_top (y := nI (9 + k)) (nI_add 9 k) ?_
  refine t_cvV cvX7_75_X7 dX7_difference_6 (c_X7_has _ _ _ _ _ _ _ f (9 + k) (by omega) (by omega)) rfl ?_
  refine x_iload_n dX7_difference_9 rfl ?_
  refine x_bipush (v := (-2)) dX7_difference_10 (by decide) ?_
  refine x_icmp_neF dX7_difference_12 19 (by decide) (by decide) ?_
  refine x_iconst (v := 0) dX7_difference_15 rfl ?_
  refine x_goto (tgt := 28) dX7_difference_16 (by decide) ?_
  refine x_isub dX7_difference_28 ?_
  exact x_ireturn dX7_difference_29 rfl rfl ⟨by first | rfl | (simp only [difS, Int32.sub_zero]; done) | (simp [difS]), rfl⟩
theorem c_X7_difference_s (g : xG) (B : xA) (m : Nat) (F : Nat → Int32) (W : Int64) (S : Nat → Int32) (Z : Nat → Nat → Int32) (f k : Nat) (q : Nat) (hf : f < 10) (hk : k < 4) (hq : q < 10) : xC g iX7_difference 2 [.ref m, .int (nI f), .int (nI k), .int (nI q)] (tA B m F W S Z) (xRet (some (.int (difS S f k (some q)))) (tA B m F W S Z)) := by
  show xW g _ _ 0 [some (.ref m), some (.int (nI f)), some (.int (nI k)), some (.int (nI q))] [] _ _
  refine x_aload_n dX7_difference_0 rfl ?_
  refine x_iload_n dX7_difference_1 rfl ?_
  refine x_bipush (v := 9) dX7_difference_2 (by decide) ?_
  refine x_iload_n dX7_difference_4 rfl ?_
  refine x_iadd dX7_difference_5 ?_
  refine x_top (y := nI (9 + k)) (nI_add 9 k) ?_
  refine t_cvV cvX7_75_X7 dX7_difference_6 (c_X7_has _ _ _ _ _ _ _ f (9 + k) (by omega) (by omega)) rfl ?_
  refine x_iload_n dX7_difference_9 rfl ?_
  refine x_bipush (v := (-2)) dX7_difference_10 (by decide) ?_
  refine x_icmp_neT (tgt := 19) dX7_difference_12 (by decide) (nI_m2 (by omega)) ?_
  refine x_aload_n dX7_difference_19 rfl ?_
  refine x_iload_n dX7_difference_20 rfl ?_
  refine x_bipush (v := 9) dX7_difference_21 (by decide) ?_
  refine x_iload_n dX7_difference_23 rfl ?_
  refine x_iadd dX7_difference_24 ?_
  refine x_top (y := nI (9 + k)) (nI_add 9 k) ?_
  refine t_cvV cvX7_75_X7 dX7_difference_25 (c_X7_has _ _ _ _ _ _ _ q (9 + k) (by omega) (by omega)) rfl ?_
  refine x_isub dX7_difference_28 ?_
  exact x_ireturn dX7_difference_29 rfl rfl ⟨by first | rfl | (simp only [difS, Int32.sub_zero]; done) | (simp [difS]), rfl⟩
theorem c_X7_difference (g : xG) (B : xA) (m : Nat) (F : Nat → Int32) (W : Int64) (S : Nat → Int32) (Z : Nat → Nat → Int32) (f k : Nat) (r : Option Nat) (hf : f < 10) (hk : k < 4) (hr : ∀ q, r = some q → q < 10) : xC g iX7_difference 2 [.ref m, .int (nI f), .int (nI k), .int (rI r)] (tA B m F W S Z) (xRet (some (.int (difS S f k r))) (tA B m F W S Z)) := by
  cases r with
  | none => exact c_X7_difference_n g B m F W S Z f k hf hk
  | some q => exact c_X7_difference_s g B m F W S Z f k q hf hk (hr q rfl)
theorem c_X7_forgives (g : xG) (B : xA) (m : Nat) (F : Nat → Int32) (W : Int64) (S : Nat → Int32) (Z : Nat → Nat → Int32) (f k : Nat) (hj : ixl (S 19) 40) (hf : f < 10) (hk : k < 4) : xC g iX7_forgives 0 [.ref m, .int (nI f), .int (nI k)] (tA B m F W S Z) (xRet none (tA B m F W (forgivesS S f k) Z)) := by
  show xW g _ _ 0 [some (.ref m), some (.int (nI f)), some (.int (nI k))] [] _ _
  refine x_aload_n dX7_forgives_0 rfl ?_
  refine t_get fgX7_7_6 dX7_forgives_1 rfl ?_
  refine x_bipush (v := 30) dX7_forgives_4 (by decide) ?_
  refine x_aload_n dX7_forgives_6 rfl ?_
  refine t_get fgX7_7_6 dX7_forgives_7 rfl ?_
  refine x_bipush (v := 19) dX7_forgives_10 (by decide) ?_
  refine t_aldS 19 dX7_forgives_12 rfl (by decide) ?_
  refine x_top hj.1 ?_
  refine x_iadd dX7_forgives_13 ?_
  refine x_top (y := nI (30 + (S 19).toNatClampNeg)) (nI_add 30 ((S 19).toNatClampNeg)) ?_
  refine x_iconst (v := 4) dX7_forgives_14 rfl ?_
  refine x_iload_n dX7_forgives_15 rfl ?_
  refine x_imul dX7_forgives_16 ?_
  refine x_top (y := nI (4 * f)) (pk_mul 4 f) ?_
  refine x_iload_n dX7_forgives_17 rfl ?_
  refine x_iadd dX7_forgives_18 ?_
  refine x_top (y := nI (4 * f + k)) (nI_add (4 * f) k) ?_
  refine t_astS (30 + (S 19).toNatClampNeg) dX7_forgives_19 rfl (by have := hj.2; omega) ?_
  refine x_aload_n dX7_forgives_20 rfl ?_
  refine t_get fgX7_7_6 dX7_forgives_21 rfl ?_
  refine x_bipush (v := 19) dX7_forgives_24 (by decide) ?_
  refine x_dup2 dX7_forgives_26 rfl rfl ?_
  refine t_aldS 19 dX7_forgives_27 rfl (by decide) ?_
  refine x_iconst (v := 1) dX7_forgives_28 rfl ?_
  refine x_iadd dX7_forgives_29 ?_
  refine t_astS 19 dX7_forgives_30 rfl (by have := hj.2; omega) ?_
  refine x_aload_n dX7_forgives_31 rfl ?_
  refine t_get fgX7_7_6 dX7_forgives_32 rfl ?_
  refine x_bipush (v := 17) dX7_forgives_35 (by decide) ?_
  refine x_dup2 dX7_forgives_37 rfl rfl ?_
  refine t_aldS 17 dX7_forgives_38 rfl (by decide) ?_
  refine x_iconst (v := 1) dX7_forgives_39 rfl ?_
  refine x_iadd dX7_forgives_40 ?_
  refine t_astS 17 dX7_forgives_41 rfl (by have := hj.2; omega) ?_
  exact x_return dX7_forgives_42 rfl ⟨rfl, rfl⟩
theorem c_X7_behindTurn (g : xG) (B : xA) (m : Nat) (F : Nat → Int32) (W : Int64) (S : Nat → Int32) (Z : Nat → Nat → Int32) (f k : Nat) (r : Option Nat) (hf : f < 10) (hk : k < 4) (hr : ∀ q, r = some q → q < 10) : xC g iX7_behindTurn 3 [.ref m, .int (nI f), .int (nI k), .int (rI r)] (tA B m F W S Z) (xRet (some (.int (behS S f k r))) (tA B m F W S Z)) := by
  show xW g _ _ 0 [some (.ref m), some (.int (nI f)), some (.int (nI k)), some (.int (rI r))] [] _ _
  refine x_aload_n dX7_behindTurn_0 rfl ?_
  refine x_iload_n dX7_behindTurn_1 rfl ?_
  refine x_iload_n dX7_behindTurn_2 rfl ?_
  refine t_cvV cvX7_85_X7 dX7_behindTurn_3 (c_X7_isOff _ _ _ _ _ _ _ f k (by omega) (by omega)) rfl ?_
  refine x_if_eq 11 dX7_behindTurn_6 (by decide) (fun c6 => ?_) (fun c6 => ?_)
  · refine x_aload_n dX7_behindTurn_11 rfl ?_
    refine x_iload_n dX7_behindTurn_12 rfl ?_
    refine x_iload_n dX7_behindTurn_13 rfl ?_
    refine x_iload_n dX7_behindTurn_14 rfl ?_
    refine t_cvV cvX7_89_X7 dX7_behindTurn_15 (c_X7_difference _ _ _ _ _ _ _ f k _ (by omega) (by omega) hr) rfl ?_
    refine x_csV csX7_93 dX7_behindTurn_18 (c_X7_bare _ _ _) rfl ?_
    refine x_iconst (v := 2) dX7_behindTurn_21 rfl ?_
    refine x_icmp_le 29 dX7_behindTurn_22 (by decide) (fun c22 => ?_) (fun c22 => ?_)
    · refine x_iconst (v := 0) dX7_behindTurn_29 rfl ?_
      exact x_ireturn dX7_behindTurn_30 rfl rfl ⟨by first | rfl | (simp only [behS, flI_0, Decidable.not_not, ← Int32.not_le] at *; simp [*]; done) | (simp_all [behS, flI_0, Decidable.not_not, ← Int32.not_le]; done), by first | rfl | (simp only [behS, flI_0, Decidable.not_not, ← Int32.not_le] at *; simp [*]; done) | (simp_all [behS, flI_0, Decidable.not_not, ← Int32.not_le]; done)⟩
    · refine x_iconst (v := 5) dX7_behindTurn_25 rfl ?_
      refine x_goto (tgt := 30) dX7_behindTurn_26 (by decide) ?_
      exact x_ireturn dX7_behindTurn_30 rfl rfl ⟨by first | rfl | (simp only [behS, flI_0, Decidable.not_not, ← Int32.not_le] at *; simp [*]; done) | (simp_all [behS, flI_0, Decidable.not_not, ← Int32.not_le]; done), by first | rfl | (simp only [behS, flI_0, Decidable.not_not, ← Int32.not_le] at *; simp [*]; done) | (simp_all [behS, flI_0, Decidable.not_not, ← Int32.not_le]; done)⟩
  · refine x_iconst (v := 4) dX7_behindTurn_9 rfl ?_
    exact x_ireturn dX7_behindTurn_10 rfl rfl ⟨by first | rfl | (simp only [behS, flI_0, Decidable.not_not, ← Int32.not_le] at *; simp [*]; done) | (simp_all [behS, flI_0, Decidable.not_not, ← Int32.not_le]; done), by first | rfl | (simp only [behS, flI_0, Decidable.not_not, ← Int32.not_le] at *; simp [*]; done) | (simp_all [behS, flI_0, Decidable.not_not, ← Int32.not_le]; done)⟩
theorem c_X7_tunes (g : xG) (B : xA) (m : Nat) (F : Nat → Int32) (W : Int64) (S : Nat → Int32) (Z : Nat → Nat → Int32) (f k : Nat) (r : Option Nat) (left : Int32) (hj : ixl (S 19) 40) (hf : f < 10) (hk : k < 4) (hr : ∀ q, r = some q → q < 10) : xC g iX7_tunes 4 [.ref m, .int (nI f), .int (nI k), .int (rI r), .int left] (tA B m F W S Z) (xRet (some (.int (tunesS S f k r left).1)) (tA B m F W ((tunesS S f k r left).2) Z)) := by
  show xW g _ _ 0 [some (.ref m), some (.int (nI f)), some (.int (nI k)), some (.int (rI r)), some (.int left), none] [] _ _
  refine x_aload_n dX7_tunes_0 rfl ?_
  refine x_iload_n dX7_tunes_1 rfl ?_
  refine x_iload_n dX7_tunes_2 rfl ?_
  refine t_cvV cvX7_85_X7 dX7_tunes_3 (c_X7_isOff _ _ _ _ _ _ _ f k (by omega) (by omega)) rfl ?_
  refine x_if_eq 11 dX7_tunes_6 (by decide) (fun c6 => ?_) (fun c6 => ?_)
  · refine x_aload_n dX7_tunes_11 rfl ?_
    refine x_iload_n dX7_tunes_12 rfl ?_
    refine x_iload_n dX7_tunes_13 rfl ?_
    refine x_iload_n dX7_tunes_14 rfl ?_
    refine t_cvV cvX7_89_X7 dX7_tunes_15 (c_X7_difference _ _ _ _ _ _ _ f k _ (by omega) (by omega) hr) rfl ?_
    refine x_istore dX7_tunes_18 (by decide) rfl ?_
    refine x_iload dX7_tunes_20 rfl ?_
    refine x_csV csX7_93 dX7_tunes_22 (c_X7_bare _ _ _) rfl ?_
    refine x_iconst (v := 2) dX7_tunes_25 rfl ?_
    refine x_icmp_gt 42 dX7_tunes_26 (by decide) (fun c26 => ?_) (fun c26 => ?_)
    · refine x_iload dX7_tunes_42 rfl ?_
      refine x_if_gt 49 dX7_tunes_44 (by decide) (fun c44 => ?_) (fun c44 => ?_)
      · refine x_aload_n dX7_tunes_49 rfl ?_
        refine x_iload_n dX7_tunes_50 rfl ?_
        refine x_iload_n dX7_tunes_51 rfl ?_
        refine x_iload dX7_tunes_52 rfl ?_
        refine x_ineg dX7_tunes_54 ?_
        refine t_cvN cvX7_100_X7 dX7_tunes_55 (c_X7_turns _ _ _ _ _ _ _ f k _ (by omega) (by omega)) rfl ?_
        refine x_aload_n dX7_tunes_58 rfl ?_
        refine x_iload_n dX7_tunes_59 rfl ?_
        refine x_iload_n dX7_tunes_60 rfl ?_
        refine x_iload_n dX7_tunes_61 rfl ?_
        refine t_cvV cvX7_103_X7 dX7_tunes_62 (c_X7_behindTurn _ _ _ _ _ _ _ f k _ (by omega) (by omega) hr) rfl ?_
        exact x_ireturn dX7_tunes_65 rfl rfl ⟨by first | rfl | (simp only [tunesS, bI_00, flI_0, Decidable.not_not, ← Int32.not_le] at *; simp [*]; done) | (simp_all [tunesS, bI_00, flI_0, Decidable.not_not, ← Int32.not_le]; done), by first | rfl | (simp only [tunesS, bI_00, flI_0, Decidable.not_not, ← Int32.not_le] at *; simp [*]; done) | (simp_all [tunesS, bI_00, flI_0, Decidable.not_not, ← Int32.not_le]; done)⟩
      · refine x_iconst (v := 3) dX7_tunes_47 rfl ?_
        exact x_ireturn dX7_tunes_48 rfl rfl ⟨by first | rfl | (simp only [tunesS, bI_00, flI_0, Decidable.not_not, ← Int32.not_le] at *; simp [*]; done) | (simp_all [tunesS, bI_00, flI_0, Decidable.not_not, ← Int32.not_le]; done), by first | rfl | (simp only [tunesS, bI_00, flI_0, Decidable.not_not, ← Int32.not_le] at *; simp [*]; done) | (simp_all [tunesS, bI_00, flI_0, Decidable.not_not, ← Int32.not_le]; done)⟩
    · refine x_iload dX7_tunes_29 rfl ?_
      refine x_if_eq 40 dX7_tunes_31 (by decide) (fun c31 => ?_) (fun c31 => ?_)
      · refine x_iconst (v := 0) dX7_tunes_40 rfl ?_
        exact x_ireturn dX7_tunes_41 rfl rfl ⟨by first | rfl | (simp only [tunesS, bI_00, flI_0, Decidable.not_not, ← Int32.not_le] at *; simp [*]; done) | (simp_all [tunesS, bI_00, flI_0, Decidable.not_not, ← Int32.not_le]; done), by first | rfl | (simp only [tunesS, bI_00, flI_0, Decidable.not_not, ← Int32.not_le] at *; simp [*]; done) | (simp_all [tunesS, bI_00, flI_0, Decidable.not_not, ← Int32.not_le]; done)⟩
      · refine x_aload_n dX7_tunes_34 rfl ?_
        refine x_iload_n dX7_tunes_35 rfl ?_
        refine x_iload_n dX7_tunes_36 rfl ?_
        refine t_cvN cvX7_97_X7 dX7_tunes_37 (c_X7_forgives _ _ _ _ _ _ _ f k hj (by omega) (by omega)) rfl ?_
        refine x_iconst (v := 0) dX7_tunes_40 rfl ?_
        exact x_ireturn dX7_tunes_41 rfl rfl ⟨by first | rfl | (simp only [tunesS, bI_00, flI_0, Decidable.not_not, ← Int32.not_le] at *; simp [*]; done) | (simp_all [tunesS, bI_00, flI_0, Decidable.not_not, ← Int32.not_le]; done), by first | rfl | (simp only [tunesS, bI_00, flI_0, Decidable.not_not, ← Int32.not_le] at *; simp [*]; done) | (simp_all [tunesS, bI_00, flI_0, Decidable.not_not, ← Int32.not_le]; done)⟩
  · refine x_iconst (v := 2) dX7_tunes_9 rfl ?_
    exact x_ireturn dX7_tunes_10 rfl rfl ⟨by first | rfl | (simp only [tunesS, bI_00, flI_0, Decidable.not_not, ← Int32.not_le] at *; simp [*]; done) | (simp_all [tunesS, bI_00, flI_0, Decidable.not_not, ← Int32.not_le]; done), by first | rfl | (simp only [tunesS, bI_00, flI_0, Decidable.not_not, ← Int32.not_le] at *; simp [*]; done) | (simp_all [tunesS, bI_00, flI_0, Decidable.not_not, ← Int32.not_le]; done)⟩
theorem tf_l1 {g : xG} {B : xA} {m : Nat} {F : Nat → Int32} {W : Int64} {S : Nat → Int32} {Z : Nat → Nat → Int32} {Q : Outcome → xA → Prop} {L5 : Option Value} (f k : Nat) (r : Option Nat) (b : Int32) (y : Int32) (Y : Nat → Int32) (hj : ixl (S 19) 40) (hf : f < 10) (hk : k < 4) (hr : ∀ q, r = some q → q < 10)
    (kont : xW g iX7_tunesFiddler 5 18 [some (.ref m), some (.int (nI f)), some (.int (rI r)), some (.int b), some (.int (nI (k + 1))), none] [] (tA B m F W (tfK f r b k (S, y)).1 (zup Z 8 (upd Y f (tfK f r b k (S, y)).2))) Q) :
    xW g iX7_tunesFiddler 5 18 [some (.ref m), some (.int (nI f)), some (.int (rI r)), some (.int b), some (.int (nI k)), L5] [] (tA B m F W S (zup Z 8 (upd Y f y))) Q := by
  refine x_iload dX7_tunesFiddler_18 rfl ?_
  refine x_iconst (v := 4) dX7_tunesFiddler_20 rfl ?_
  refine x_icmp_geF dX7_tunesFiddler_21 82 (by decide) (nI_ge (a := k) (b := 4) hk (by omega)) ?_
  refine x_aload_n dX7_tunesFiddler_24 rfl ?_
  refine x_iload_n dX7_tunesFiddler_25 rfl ?_
  refine x_iload dX7_tunesFiddler_26 rfl ?_
  refine x_iload_n dX7_tunesFiddler_28 rfl ?_
  refine x_aload_n dX7_tunesFiddler_29 rfl ?_
  refine x_iload_n dX7_tunesFiddler_30 rfl ?_
  refine x_iconst (v := 1) dX7_tunesFiddler_31 rfl ?_
  refine t_cvV cvX7_75_X7 dX7_tunesFiddler_32 (c_X7_has _ _ _ _ _ _ _ f 1 (by omega) (by omega)) rfl ?_
  refine x_aload_n dX7_tunesFiddler_35 rfl ?_
  refine t_get fgX7_7_6 dX7_tunesFiddler_36 rfl ?_
  refine x_bipush (v := 16) dX7_tunesFiddler_39 (by decide) ?_
  refine t_aldS 16 dX7_tunesFiddler_41 rfl (by decide) ?_
  refine x_isub dX7_tunesFiddler_42 ?_
  refine x_iload_n dX7_tunesFiddler_43 rfl ?_
  refine x_iadd dX7_tunesFiddler_44 ?_
  refine t_cvV cvX7_106_X7 dX7_tunesFiddler_45 (c_X7_tunes _ _ _ _ _ _ _ f k _ _ hj (by omega) (by omega) hr) rfl ?_
  refine x_istore dX7_tunesFiddler_48 (by decide) rfl ?_
  refine x_aload_n dX7_tunesFiddler_50 rfl ?_
  refine t_get fgX7_29_6 dX7_tunesFiddler_51 rfl ?_
  refine x_iload_n dX7_tunesFiddler_54 rfl ?_
  refine x_aload_n dX7_tunesFiddler_55 rfl ?_
  refine t_get fgX7_29_6 dX7_tunesFiddler_56 rfl ?_
  refine x_iload_n dX7_tunesFiddler_59 rfl ?_
  refine t_aldZ tz8 f dX7_tunesFiddler_60 rfl (by omega) ?_
  refine x_top (by rw [zup_self, upd_self] : zup Z 8 (upd Y f y) 8 f = y) ?_
  refine x_if_ne 69 dX7_tunesFiddler_61 (by decide) (fun c61 => ?_) (fun c61 => ?_)
  · refine x_aload_n dX7_tunesFiddler_69 rfl ?_
    refine t_get fgX7_29_6 dX7_tunesFiddler_70 rfl ?_
    refine x_iload_n dX7_tunesFiddler_73 rfl ?_
    refine t_aldZ tz8 f dX7_tunesFiddler_74 rfl (by omega) ?_
    refine x_top (by rw [zup_self, upd_self] : zup Z 8 (upd Y f y) 8 f = y) ?_
    refine t_astZ tz8 f dX7_tunesFiddler_75 rfl (by omega) ?_
    refine x_iinc (v := nI (k + 1)) dX7_tunesFiddler_76 rfl (nI_1 _) (by decide) rfl ?_
    refine x_goto (tgt := 18) dX7_tunesFiddler_79 (by decide) ?_
    refine xW.loc (L' := [some (.ref m), some (.int (nI f)), some (.int (rI r)), some (.int b), some (.int (nI (k + 1))), none]) ⟨rfl, rfl, rfl, rfl, rfl, trivial⟩ ?_
    rw [zuu, upd_upd]
    simp only [tfK, c61] at kont
    first | exact kont | simpa using kont
  · refine x_iload dX7_tunesFiddler_64 rfl ?_
    refine x_goto (tgt := 75) dX7_tunesFiddler_66 (by decide) ?_
    refine t_astZ tz8 f dX7_tunesFiddler_75 rfl (by omega) ?_
    refine x_iinc (v := nI (k + 1)) dX7_tunesFiddler_76 rfl (nI_1 _) (by decide) rfl ?_
    refine x_goto (tgt := 18) dX7_tunesFiddler_79 (by decide) ?_
    refine xW.loc (L' := [some (.ref m), some (.int (nI f)), some (.int (rI r)), some (.int b), some (.int (nI (k + 1))), none]) ⟨rfl, rfl, rfl, rfl, rfl, trivial⟩ ?_
    rw [zuu, upd_upd]
    simp only [tfK, c61] at kont
    first | exact kont | simpa using kont
theorem tf_l2 {g : xG} {B : xA} {m : Nat} {F : Nat → Int32} {W : Int64} {S : Nat → Int32} {Z : Nat → Nat → Int32} {Q : Outcome → xA → Prop} (f k : Nat) (r : Option Nat) (hf : f < 10) (hk : k < 4)
    (kont : xW g iX7_tunesFiddler 5 164 [some (.ref m), some (.int (nI f)), some (.int (rI r)), none, none, some (.int (nI (k + 1)))] [] (tA B m F W (cpK f k S) Z) Q) :
    xW g iX7_tunesFiddler 5 164 [some (.ref m), some (.int (nI f)), some (.int (rI r)), none, none, some (.int (nI k))] [] (tA B m F W S Z) Q := by
  refine x_iload dX7_tunesFiddler_164 rfl ?_
  refine x_iconst (v := 4) dX7_tunesFiddler_166 rfl ?_
  refine x_icmp_geF dX7_tunesFiddler_167 199 (by decide) (nI_ge (a := k) (b := 4) hk (by omega)) ?_
  refine x_aload_n dX7_tunesFiddler_170 rfl ?_
  refine t_get fgX7_7_6 dX7_tunesFiddler_171 rfl ?_
  refine x_iload_n dX7_tunesFiddler_174 rfl ?_
  refine x_iconst (v := 5) dX7_tunesFiddler_175 rfl ?_
  refine x_iload dX7_tunesFiddler_176 rfl ?_
  refine x_iadd dX7_tunesFiddler_178 ?_
  refine x_top (y := nI (5 + k)) (nI_add 5 k) ?_
  refine x_csV csX7_65 dX7_tunesFiddler_179 (c_X7_at _ _ f (5 + k)) rfl ?_
  refine x_aload_n dX7_tunesFiddler_182 rfl ?_
  refine x_iload_n dX7_tunesFiddler_183 rfl ?_
  refine x_bipush (v := 9) dX7_tunesFiddler_184 (by decide) ?_
  refine x_iload dX7_tunesFiddler_186 rfl ?_
  refine x_iadd dX7_tunesFiddler_188 ?_
  refine x_top (y := nI (9 + k)) (nI_add 9 k) ?_
  refine t_cvV cvX7_75_X7 dX7_tunesFiddler_189 (c_X7_has _ _ _ _ _ _ _ f (9 + k) (by omega) (by omega)) rfl ?_
  refine t_astS (70 + 21 * f + (5 + k)) dX7_tunesFiddler_192 rfl (by omega) ?_
  refine x_iinc (v := nI (k + 1)) dX7_tunesFiddler_193 rfl (nI_1 _) (by decide) rfl ?_
  refine x_goto (tgt := 164) dX7_tunesFiddler_196 (by decide) ?_
  exact xW.loc (L' := [some (.ref m), some (.int (nI f)), some (.int (rI r)), none, none, some (.int (nI (k + 1)))]) ⟨rfl, rfl, rfl, rfl, trivial⟩ kont
theorem tf_m_n {g : xG} {B : xA} {m : Nat} {F : Nat → Int32} {W : Int64} {S : Nat → Int32} {Z : Nat → Nat → Int32} {Q : Outcome → xA → Prop} (f : Nat) (y : Int32) (Y : Nat → Int32) (hf : f < 10)
    (kont : xW g iX7_tunesFiddler 5 164 [some (.ref m), some (.int (nI f)), some (.int (rI none)), none, none, some (.int (nI 0))] [] (tA B m F W (let S2 := su (su S f 2 (if y = 0 then 1 else 0)) f 3 (rI none); su S2 f 4 (chS S2 none y)) (zup Z 8 (upd Y f y))) Q) :
    xW g iX7_tunesFiddler 5 82 [some (.ref m), some (.int (nI f)), some (.int (rI none)), none, none, none] [] (tA B m F W S (zup Z 8 (upd Y f y))) Q := by
  refine x_aload_n dX7_tunesFiddler_82 rfl ?_
  refine t_get fgX7_29_6 dX7_tunesFiddler_83 rfl ?_
  refine x_iload_n dX7_tunesFiddler_86 rfl ?_
  refine t_aldZ tz8 f dX7_tunesFiddler_87 rfl (by omega) ?_
  refine x_top (by rw [zup_self, upd_self] : zup Z 8 (upd Y f y) 8 f = y) ?_
  refine x_if_ne 95 dX7_tunesFiddler_88 (by decide) (fun c88 => ?_) (fun c88 => ?_)
  · refine x_iconst (v := 0) dX7_tunesFiddler_95 rfl ?_
    refine x_istore dX7_tunesFiddler_96 (by decide) rfl ?_
    refine x_aload_n dX7_tunesFiddler_98 rfl ?_
    refine t_get fgX7_7_6 dX7_tunesFiddler_99 rfl ?_
    refine x_iload_n dX7_tunesFiddler_102 rfl ?_
    refine x_iconst (v := 2) dX7_tunesFiddler_103 rfl ?_
    refine x_csV csX7_65 dX7_tunesFiddler_104 (c_X7_at _ _ f 2) rfl ?_
    refine x_iload dX7_tunesFiddler_107 rfl ?_
    refine x_csV csX7_110 dX7_tunesFiddler_109 (c_X7_flag _ _ _) rfl ?_
    refine t_astS (70 + 21 * f + 2) dX7_tunesFiddler_112 rfl (by omega) ?_
    refine x_aload_n dX7_tunesFiddler_113 rfl ?_
    refine t_get fgX7_7_6 dX7_tunesFiddler_114 rfl ?_
    refine x_iload_n dX7_tunesFiddler_117 rfl ?_
    refine x_iconst (v := 3) dX7_tunesFiddler_118 rfl ?_
    refine x_csV csX7_65 dX7_tunesFiddler_119 (c_X7_at _ _ f 3) rfl ?_
    refine x_iload_n dX7_tunesFiddler_122 rfl ?_
    refine t_astS (70 + 21 * f + 3) dX7_tunesFiddler_123 rfl (by omega) ?_
    refine x_aload_n dX7_tunesFiddler_124 rfl ?_
    refine t_get fgX7_7_6 dX7_tunesFiddler_125 rfl ?_
    refine x_iload_n dX7_tunesFiddler_128 rfl ?_
    refine x_iconst (v := 4) dX7_tunesFiddler_129 rfl ?_
    refine x_csV csX7_65 dX7_tunesFiddler_130 (c_X7_at _ _ f 4) rfl ?_
    refine x_iload dX7_tunesFiddler_133 rfl ?_
    refine x_if_neF dX7_tunesFiddler_135 142 (by decide) (by decide) ?_
    refine x_iconst (v := 0) dX7_tunesFiddler_138 rfl ?_
    refine x_goto (tgt := 160) dX7_tunesFiddler_139 (by decide) ?_
    refine t_astS (70 + 21 * f + 4) dX7_tunesFiddler_160 rfl (by omega) ?_
    refine x_iconst (v := 0) dX7_tunesFiddler_161 rfl ?_
    refine x_istore dX7_tunesFiddler_162 (by decide) rfl ?_
    refine xW.loc (L' := [some (.ref m), some (.int (nI f)), some (.int (rI none)), none, none, some (.int (nI 0))]) ⟨rfl, rfl, rfl, rfl, trivial⟩ ?_
    simp only [chS, c88] at kont
    first | exact kont | simpa [su, c88] using kont
  · refine x_iconst (v := 1) dX7_tunesFiddler_91 rfl ?_
    refine x_goto (tgt := 96) dX7_tunesFiddler_92 (by decide) ?_
    refine x_istore dX7_tunesFiddler_96 (by decide) rfl ?_
    refine x_aload_n dX7_tunesFiddler_98 rfl ?_
    refine t_get fgX7_7_6 dX7_tunesFiddler_99 rfl ?_
    refine x_iload_n dX7_tunesFiddler_102 rfl ?_
    refine x_iconst (v := 2) dX7_tunesFiddler_103 rfl ?_
    refine x_csV csX7_65 dX7_tunesFiddler_104 (c_X7_at _ _ f 2) rfl ?_
    refine x_iload dX7_tunesFiddler_107 rfl ?_
    refine x_csV csX7_110 dX7_tunesFiddler_109 (c_X7_flag _ _ _) rfl ?_
    refine t_astS (70 + 21 * f + 2) dX7_tunesFiddler_112 rfl (by omega) ?_
    refine x_aload_n dX7_tunesFiddler_113 rfl ?_
    refine t_get fgX7_7_6 dX7_tunesFiddler_114 rfl ?_
    refine x_iload_n dX7_tunesFiddler_117 rfl ?_
    refine x_iconst (v := 3) dX7_tunesFiddler_118 rfl ?_
    refine x_csV csX7_65 dX7_tunesFiddler_119 (c_X7_at _ _ f 3) rfl ?_
    refine x_iload_n dX7_tunesFiddler_122 rfl ?_
    refine t_astS (70 + 21 * f + 3) dX7_tunesFiddler_123 rfl (by omega) ?_
    refine x_aload_n dX7_tunesFiddler_124 rfl ?_
    refine t_get fgX7_7_6 dX7_tunesFiddler_125 rfl ?_
    refine x_iload_n dX7_tunesFiddler_128 rfl ?_
    refine x_iconst (v := 4) dX7_tunesFiddler_129 rfl ?_
    refine x_csV csX7_65 dX7_tunesFiddler_130 (c_X7_at _ _ f 4) rfl ?_
    refine x_iload dX7_tunesFiddler_133 rfl ?_
    refine x_if_neT (tgt := 142) dX7_tunesFiddler_135 (by decide) (by decide) ?_
    refine x_iload_n dX7_tunesFiddler_142 rfl ?_
    refine x_bipush (v := (-2)) dX7_tunesFiddler_143 (by decide) ?_
    refine x_icmp_neF dX7_tunesFiddler_145 152 (by decide) (by decide) ?_
    refine x_iconst (v := 1) dX7_tunesFiddler_148 rfl ?_
    refine x_goto (tgt := 160) dX7_tunesFiddler_149 (by decide) ?_
    refine t_astS (70 + 21 * f + 4) dX7_tunesFiddler_160 rfl (by omega) ?_
    refine x_iconst (v := 0) dX7_tunesFiddler_161 rfl ?_
    refine x_istore dX7_tunesFiddler_162 (by decide) rfl ?_
    refine xW.loc (L' := [some (.ref m), some (.int (nI f)), some (.int (rI none)), none, none, some (.int (nI 0))]) ⟨rfl, rfl, rfl, rfl, trivial⟩ ?_
    simp only [chS, c88] at kont
    first | exact kont | simpa [su, c88] using kont
theorem tf_m_s {g : xG} {B : xA} {m : Nat} {F : Nat → Int32} {W : Int64} {S : Nat → Int32} {Z : Nat → Nat → Int32} {Q : Outcome → xA → Prop} (f : Nat) (q : Nat) (y : Int32) (Y : Nat → Int32) (hf : f < 10) (hq : q < 10)
    (kont : xW g iX7_tunesFiddler 5 164 [some (.ref m), some (.int (nI f)), some (.int (rI (some q))), none, none, some (.int (nI 0))] [] (tA B m F W (let S2 := su (su S f 2 (if y = 0 then 1 else 0)) f 3 (rI (some q)); su S2 f 4 (chS S2 (some q) y)) (zup Z 8 (upd Y f y))) Q) :
    xW g iX7_tunesFiddler 5 82 [some (.ref m), some (.int (nI f)), some (.int (rI (some q))), none, none, none] [] (tA B m F W S (zup Z 8 (upd Y f y))) Q := by
  refine x_aload_n dX7_tunesFiddler_82 rfl ?_
  refine t_get fgX7_29_6 dX7_tunesFiddler_83 rfl ?_
  refine x_iload_n dX7_tunesFiddler_86 rfl ?_
  refine t_aldZ tz8 f dX7_tunesFiddler_87 rfl (by omega) ?_
  refine x_top (by rw [zup_self, upd_self] : zup Z 8 (upd Y f y) 8 f = y) ?_
  refine x_if_ne 95 dX7_tunesFiddler_88 (by decide) (fun c88 => ?_) (fun c88 => ?_)
  · refine x_iconst (v := 0) dX7_tunesFiddler_95 rfl ?_
    refine x_istore dX7_tunesFiddler_96 (by decide) rfl ?_
    refine x_aload_n dX7_tunesFiddler_98 rfl ?_
    refine t_get fgX7_7_6 dX7_tunesFiddler_99 rfl ?_
    refine x_iload_n dX7_tunesFiddler_102 rfl ?_
    refine x_iconst (v := 2) dX7_tunesFiddler_103 rfl ?_
    refine x_csV csX7_65 dX7_tunesFiddler_104 (c_X7_at _ _ f 2) rfl ?_
    refine x_iload dX7_tunesFiddler_107 rfl ?_
    refine x_csV csX7_110 dX7_tunesFiddler_109 (c_X7_flag _ _ _) rfl ?_
    refine t_astS (70 + 21 * f + 2) dX7_tunesFiddler_112 rfl (by omega) ?_
    refine x_aload_n dX7_tunesFiddler_113 rfl ?_
    refine t_get fgX7_7_6 dX7_tunesFiddler_114 rfl ?_
    refine x_iload_n dX7_tunesFiddler_117 rfl ?_
    refine x_iconst (v := 3) dX7_tunesFiddler_118 rfl ?_
    refine x_csV csX7_65 dX7_tunesFiddler_119 (c_X7_at _ _ f 3) rfl ?_
    refine x_iload_n dX7_tunesFiddler_122 rfl ?_
    refine t_astS (70 + 21 * f + 3) dX7_tunesFiddler_123 rfl (by omega) ?_
    refine x_aload_n dX7_tunesFiddler_124 rfl ?_
    refine t_get fgX7_7_6 dX7_tunesFiddler_125 rfl ?_
    refine x_iload_n dX7_tunesFiddler_128 rfl ?_
    refine x_iconst (v := 4) dX7_tunesFiddler_129 rfl ?_
    refine x_csV csX7_65 dX7_tunesFiddler_130 (c_X7_at _ _ f 4) rfl ?_
    refine x_iload dX7_tunesFiddler_133 rfl ?_
    refine x_if_neF dX7_tunesFiddler_135 142 (by decide) (by decide) ?_
    refine x_iconst (v := 0) dX7_tunesFiddler_138 rfl ?_
    refine x_goto (tgt := 160) dX7_tunesFiddler_139 (by decide) ?_
    refine t_astS (70 + 21 * f + 4) dX7_tunesFiddler_160 rfl (by omega) ?_
    refine x_iconst (v := 0) dX7_tunesFiddler_161 rfl ?_
    refine x_istore dX7_tunesFiddler_162 (by decide) rfl ?_
    refine xW.loc (L' := [some (.ref m), some (.int (nI f)), some (.int (rI (some q))), none, none, some (.int (nI 0))]) ⟨rfl, rfl, rfl, rfl, trivial⟩ ?_
    simp only [chS, c88] at kont
    first | exact kont | simpa [su, c88] using kont
  · refine x_iconst (v := 1) dX7_tunesFiddler_91 rfl ?_
    refine x_goto (tgt := 96) dX7_tunesFiddler_92 (by decide) ?_
    refine x_istore dX7_tunesFiddler_96 (by decide) rfl ?_
    refine x_aload_n dX7_tunesFiddler_98 rfl ?_
    refine t_get fgX7_7_6 dX7_tunesFiddler_99 rfl ?_
    refine x_iload_n dX7_tunesFiddler_102 rfl ?_
    refine x_iconst (v := 2) dX7_tunesFiddler_103 rfl ?_
    refine x_csV csX7_65 dX7_tunesFiddler_104 (c_X7_at _ _ f 2) rfl ?_
    refine x_iload dX7_tunesFiddler_107 rfl ?_
    refine x_csV csX7_110 dX7_tunesFiddler_109 (c_X7_flag _ _ _) rfl ?_
    refine t_astS (70 + 21 * f + 2) dX7_tunesFiddler_112 rfl (by omega) ?_
    refine x_aload_n dX7_tunesFiddler_113 rfl ?_
    refine t_get fgX7_7_6 dX7_tunesFiddler_114 rfl ?_
    refine x_iload_n dX7_tunesFiddler_117 rfl ?_
    refine x_iconst (v := 3) dX7_tunesFiddler_118 rfl ?_
    refine x_csV csX7_65 dX7_tunesFiddler_119 (c_X7_at _ _ f 3) rfl ?_
    refine x_iload_n dX7_tunesFiddler_122 rfl ?_
    refine t_astS (70 + 21 * f + 3) dX7_tunesFiddler_123 rfl (by omega) ?_
    refine x_aload_n dX7_tunesFiddler_124 rfl ?_
    refine t_get fgX7_7_6 dX7_tunesFiddler_125 rfl ?_
    refine x_iload_n dX7_tunesFiddler_128 rfl ?_
    refine x_iconst (v := 4) dX7_tunesFiddler_129 rfl ?_
    refine x_csV csX7_65 dX7_tunesFiddler_130 (c_X7_at _ _ f 4) rfl ?_
    refine x_iload dX7_tunesFiddler_133 rfl ?_
    refine x_if_neT (tgt := 142) dX7_tunesFiddler_135 (by decide) (by decide) ?_
    refine x_iload_n dX7_tunesFiddler_142 rfl ?_
    refine x_bipush (v := (-2)) dX7_tunesFiddler_143 (by decide) ?_
    refine x_icmp_neT (tgt := 152) dX7_tunesFiddler_145 (by decide) (nI_m2 (by omega)) ?_
    refine x_iconst (v := 1) dX7_tunesFiddler_152 rfl ?_
    refine x_aload_n dX7_tunesFiddler_153 rfl ?_
    refine x_iload_n dX7_tunesFiddler_154 rfl ?_
    refine x_iconst (v := 4) dX7_tunesFiddler_155 rfl ?_
    refine t_cvV cvX7_75_X7 dX7_tunesFiddler_156 (c_X7_has _ _ _ _ _ _ _ q 4 (by omega) (by omega)) rfl ?_
    refine x_iadd dX7_tunesFiddler_159 ?_
    refine t_astS (70 + 21 * f + 4) dX7_tunesFiddler_160 rfl (by omega) ?_
    refine x_iconst (v := 0) dX7_tunesFiddler_161 rfl ?_
    refine x_istore dX7_tunesFiddler_162 (by decide) rfl ?_
    refine xW.loc (L' := [some (.ref m), some (.int (nI f)), some (.int (rI (some q))), none, none, some (.int (nI 0))]) ⟨rfl, rfl, rfl, rfl, trivial⟩ ?_
    simp only [chS, c88] at kont
    first | exact kont | simpa [su, c88] using kont
theorem tf_m {g : xG} {B : xA} {m : Nat} {F : Nat → Int32} {W : Int64} {S : Nat → Int32} {Z : Nat → Nat → Int32} {Q : Outcome → xA → Prop} (f : Nat) (r : Option Nat) (y : Int32) (Y : Nat → Int32) (hf : f < 10) (hr : ∀ q, r = some q → q < 10)
    (kont : xW g iX7_tunesFiddler 5 164 [some (.ref m), some (.int (nI f)), some (.int (rI r)), none, none, some (.int (nI 0))] [] (tA B m F W (let S2 := su (su S f 2 (if y = 0 then 1 else 0)) f 3 (rI r); su S2 f 4 (chS S2 r y)) (zup Z 8 (upd Y f y))) Q) :
    xW g iX7_tunesFiddler 5 82 [some (.ref m), some (.int (nI f)), some (.int (rI r)), none, none, none] [] (tA B m F W S (zup Z 8 (upd Y f y))) Q := by
  cases r with
  | none => exact tf_m_n f y Y hf kont
  | some q => exact tf_m_s f q y Y hf (hr q rfl) kont
theorem c_X7_tunesFiddler (g : xG) (B : xA) (m : Nat) (F : Nat → Int32) (W : Int64) (S : Nat → Int32) (Z : Nat → Nat → Int32) (f : Nat) (r : Option Nat) (hj : ixl (S 19) 37) (hf : f < 10) (hr : ∀ q, r = some q → q < 10) : xC g iX7_tunesFiddler 5 [.ref m, .int (nI f), .int (rI r)] (tA B m F W S Z) (xRet none (tA B m F W (tfS S f r).1 (zup Z 8 (upd (Z 8) f (tfS S f r).2)))) := by
  show xW g _ _ 0 [some (.ref m), some (.int (nI f)), some (.int (rI r)), none, none, none] [] _ _
  refine x_aload_n dX7_tunesFiddler_0 rfl ?_
  refine t_get fgX7_7_6 dX7_tunesFiddler_1 rfl ?_
  refine x_bipush (v := 16) dX7_tunesFiddler_4 (by decide) ?_
  refine t_aldS 16 dX7_tunesFiddler_6 rfl (by decide) ?_
  refine x_istore_n dX7_tunesFiddler_7 (by decide) rfl ?_
  refine x_aload_n dX7_tunesFiddler_8 rfl ?_
  refine t_get fgX7_29_6 dX7_tunesFiddler_9 rfl ?_
  refine x_iload_n dX7_tunesFiddler_12 rfl ?_
  refine x_iconst (v := 0) dX7_tunesFiddler_13 rfl ?_
  refine t_astZ tz8 f dX7_tunesFiddler_14 rfl (by omega) ?_
  refine x_iconst (v := 0) dX7_tunesFiddler_15 rfl ?_
  refine x_istore dX7_tunesFiddler_16 (by decide) rfl ?_
  have h40 : ∀ {x : Int32} {M : Nat}, ixl x M → M ≤ 40 → ixl x 40 := fun a b => ⟨a.1, Nat.lt_of_lt_of_le a.2 b⟩
  have k0 : ixl ((tfK f r (S 16) 0 (S, 0)).1 19) 38 := (le1_tunes f 0 r _ (h40 hj (by omega))).ixl hj (by omega)
  refine tf_l1 f 0 r (S 16) 0 (Z 8) (h40 hj (by omega)) hf (by omega) hr ?_
  have e : tfS S f r = tfS S f r := rfl
  revert e
  generalize hq0 : tfK f r (S 16) 0 (S, 0) = q0 at k0 ⊢
  have k1 : ixl ((tfK f r (S 16) 1 q0).1 19) 39 := (le1_tunes f 1 r _ (h40 k0 (by omega))).ixl k0 (by omega)
  refine fun _ => tf_l1 f 1 r (S 16) q0.2 (Z 8) (h40 k0 (by omega)) hf (by omega) hr ?_
  generalize hq1 : tfK f r (S 16) 1 q0 = q1 at k1
  have k2 : ixl ((tfK f r (S 16) 2 q1).1 19) 40 := (le1_tunes f 2 r _ (h40 k1 (by omega))).ixl k1 (by omega)
  refine tf_l1 f 2 r (S 16) q1.2 (Z 8) (h40 k1 (by omega)) hf (by omega) hr ?_
  generalize hq2 : tfK f r (S 16) 2 q1 = q2 at k2
  refine tf_l1 f 3 r (S 16) q2.2 (Z 8) (h40 k2 (by omega)) hf (by omega) hr ?_
  generalize hq3 : tfK f r (S 16) 3 (q2.1, q2.2) = q3
  have eT : tfS S f r = (cpK f 3 (cpK f 2 (cpK f 1 (cpK f 0 (let S2 := su (su q3.1 f 2 (if q3.2 = 0 then 1 else 0)) f 3 (rI r); su S2 f 4 (chS S2 r q3.2))))), q3.2) := by
    unfold tfS
    rw [hq0, hq1, hq2, show tfK f r (S 16) 3 q2 = q3 from hq3]
  rw [eT]
  refine x_iload dX7_tunesFiddler_18 rfl ?_
  refine x_iconst (v := 4) dX7_tunesFiddler_20 rfl ?_
  refine x_icmp_geT (tgt := 82) dX7_tunesFiddler_21 (by decide) (nI_le (a := 4) (b := 4) (by omega) (by omega)) ?_
  refine xW.loc (L' := [some (.ref m), some (.int (nI f)), some (.int (rI r)), none, none, none]) ⟨rfl, rfl, rfl, trivial⟩ ?_
  refine tf_m f r q3.2 (Z 8) hf hr ?_
  refine tf_l2 f 0 r hf (by omega) ?_
  refine tf_l2 f 1 r hf (by omega) ?_
  refine tf_l2 f 2 r hf (by omega) ?_
  refine tf_l2 f 3 r hf (by omega) ?_
  refine x_iload dX7_tunesFiddler_164 rfl ?_
  refine x_iconst (v := 4) dX7_tunesFiddler_166 rfl ?_
  refine x_icmp_geT (tgt := 199) dX7_tunesFiddler_167 (by decide) (nI_le (a := 4) (b := 4) (by omega) (by omega)) ?_
  exact x_return dX7_tunesFiddler_199 rfl ⟨rfl, rfl⟩
