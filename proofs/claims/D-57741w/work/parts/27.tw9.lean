set_option maxRecDepth 100000
theorem ite_fit {P : Prop} [Decidable P] : xfit FieldType.boolean (Value.int (if P then 1 else 0)) := by
  split <;> exact ⟨rfl, rfl⟩
theorem c_X7_isActive (g : xG) (B : xA) (m : Nat) (F : Nat → Int32) (W : Int64) (S : Nat → Int32) (Z : Nat → Nat → Int32)  : xC g iX7_isActive 0 [.ref m] (tA B m F W S Z) (xRet (some (.int (acI F))) (tA B m F W S Z)) := by
  show xW g _ _ 0 [some (.ref m)] [] _ _
  refine x_aload_n dX7_isActive_0 rfl ?_
  refine t_get fgX7_274_6 dX7_isActive_1 rfl ?_
  refine x_if_eq 25 dX7_isActive_4 (by decide) (fun c4 => ?_) (fun c4 => ?_)
  · refine x_iconst (v := 0) dX7_isActive_25 rfl ?_
    exact x_ireturn dX7_isActive_26 rfl (by first | rfl | exact ite_nar | exact itn_nar) ⟨by simp only [acI, flI] at *; simp [*], rfl⟩
  · refine x_aload_n dX7_isActive_7 rfl ?_
    refine t_get fgX7_189_6 dX7_isActive_8 rfl ?_
    refine x_if_ne 25 dX7_isActive_11 (by decide) (fun c11 => ?_) (fun c11 => ?_)
    · refine x_iconst (v := 0) dX7_isActive_25 rfl ?_
      exact x_ireturn dX7_isActive_26 rfl (by first | rfl | exact ite_nar | exact itn_nar) ⟨by simp only [acI, flI] at *; simp [*], rfl⟩
    · refine x_aload_n dX7_isActive_14 rfl ?_
      refine t_get fgX7_278_6 dX7_isActive_15 rfl ?_
      refine x_diaN (vt := 0) (vf := 1) (j := 26) (fun h k => x_if_neT (tgt := 25) dX7_isActive_18 (by decide) h k) (fun h k => x_if_neF dX7_isActive_18 25 (by decide) h k) (x_ic dX7_isActive_25 rfl (by decide)) (x_icg dX7_isActive_21 rfl dX7_isActive_22 (by decide)) ?_
      exact x_ireturn dX7_isActive_26 rfl (by first | rfl | exact ite_nar | exact itn_nar) ⟨by simp only [acI, flI] at *; simp [*], rfl⟩
theorem c_X7_came (g : xG) (B : xA) (m : Nat) (F : Nat → Int32) (W : Int64) (S : Nat → Int32) (Z : Nat → Nat → Int32) (z : Int32) : xC g iX7_came 1 [.ref m, .int z] (tA B m F W S Z) (xRet none (tA B m (caF F z) W S Z)) := by
  show xW g _ _ 0 [some (.ref m), some (.int z)] [] _ _
  refine x_aload_n dX7_came_0 rfl ?_
  refine x_dup dX7_came_1 rfl ?_
  refine t_get fgX7_281_6 dX7_came_2 rfl ?_
  refine x_iload_n dX7_came_5 rfl ?_
  refine x_csV csX7_110 dX7_came_6 (c_X7_flag _ _ _) rfl ?_
  refine x_iadd dX7_came_9 ?_
  refine t_put fpX7_281_6 dX7_came_10 (by decide) ⟨rfl, rfl⟩ ?_
  refine x_aload_n dX7_came_13 rfl ?_
  refine x_iload_n dX7_came_14 rfl ?_
  refine x_if_eq 27 dX7_came_15 (by decide) (fun c15 => ?_) (fun c15 => ?_)
  · refine x_iconst (v := 1) dX7_came_27 rfl ?_
    refine x_goto (tgt := 32) dX7_came_28 (by decide) ?_
    refine t_put fpX7_278_6 dX7_came_32 (by decide) (by first | exact ⟨rfl, rfl⟩ | exact ite_fit) ?_
    exact x_return dX7_came_35 rfl ⟨rfl, by show _ = tA B m (upd (upd F 27 (F 27 + (if z = 0 then 0 else 1))) 24 (flI (z = 0 ∨ upd F 27 (F 27 + (if z = 0 then 0 else 1)) 27 = 40))) W S Z; simp only [flI]; simp [*]⟩
  · refine x_aload_n dX7_came_18 rfl ?_
    refine t_get fgX7_281_6 dX7_came_19 rfl ?_
    refine x_bipush (v := 40) dX7_came_22 (by decide) ?_
    refine x_diaN (vt := 0) (vf := 1) (j := 32) (fun h k => x_icmp_neT (tgt := 31) dX7_came_24 (by decide) h k) (fun h k => x_icmp_neF dX7_came_24 31 (by decide) h k) (x_ic dX7_came_31 rfl (by decide)) (x_icg dX7_came_27 rfl dX7_came_28 (by decide)) ?_
    refine t_put fpX7_278_6 dX7_came_32 (by decide) (by first | exact ⟨rfl, rfl⟩ | exact ite_fit) ?_
    exact x_return dX7_came_35 rfl ⟨rfl, by show _ = tA B m (upd (upd F 27 (F 27 + (if z = 0 then 0 else 1))) 24 (flI (z = 0 ∨ upd F 27 (F 27 + (if z = 0 then 0 else 1)) 27 = 40))) W S Z; simp only [flI]; simp [*]⟩
theorem c_X7_nameText (g : xG) (B : xA) (m : Nat) (F : Nat → Int32) (W : Int64) (S : Nat → Int32) (Z : Nat → Nat → Int32) (h : TI F) : xC g iX7_nameText 4 [.ref m] (tA B m F W S Z) (xRet (some (.int (ntI (F, W)))) (tA B m ((ntX (Z 11) (F, W)).1) ((ntX (Z 11) (F, W)).2) S Z)) := by
  show xW g _ _ 0 [some (.ref m), none] [] _ _
  refine x_aload_n dX7_nameText_0 rfl ?_
  refine x_aload_n dX7_nameText_1 rfl ?_
  refine t_cvV cvX7_211_X7 dX7_nameText_2 (c_X7_isNameHere _ _ _ _ _ _ _ ) rfl ?_
  refine x_iconst (v := 1) dX7_nameText_5 rfl ?_
  refine t_cvN cvX7_201_X7 dX7_nameText_6 (c_X7_must _ _ _ _ _ _ _ _ _) rfl ?_
  refine x_aload_n dX7_nameText_9 rfl ?_
  refine t_cvV cvX7_215_X7 dX7_nameText_10 (c_X7_isGood _ _ _ _ _ _ _ ) rfl ?_
  refine x_if_eq 24 dX7_nameText_13 (by decide) (fun c13 => ?_) (fun c13 => ?_)
  · have h0 : ¬ muF F (nhI F) 1 18 = 0 := flI_0.mp c13
    refine x_iconst (v := 0) dX7_nameText_24 rfl ?_
    refine x_istore_n dX7_nameText_25 (by decide) rfl ?_
    refine x_aload_n dX7_nameText_26 rfl ?_
    refine t_cvN cvX7_205_X7 dX7_nameText_27 (c_X7_goesOn _ _ _ _ _ _ _  (by apply_rules [TI.j, TI_sc, TI_mu, TI_go, TI_sg, TI_rdF, TI_rd, TI_cm0, TI_cm, TI_nt, TI_swF, TI_swT, TI_sx, TI_soT, TI_woT])) rfl ?_
    refine x_iload_n dX7_nameText_30 rfl ?_
    exact x_ireturn dX7_nameText_31 rfl (by first | rfl | exact ite_nar | exact itn_nar) ⟨by rw [show ntI (F, W) = _ from if_neg h0], rfl⟩
  · have h0 : muF F (nhI F) 1 18 = 0 := flI_n.mp c13
    refine x_aload_n dX7_nameText_16 rfl ?_
    refine t_get fgX7_174_6 dX7_nameText_17 rfl ?_
    refine x_l2i dX7_nameText_20 ?_
    refine x_goto (tgt := 25) dX7_nameText_21 (by decide) ?_
    refine x_istore_n dX7_nameText_25 (by decide) rfl ?_
    refine x_aload_n dX7_nameText_26 rfl ?_
    refine t_cvN cvX7_205_X7 dX7_nameText_27 (c_X7_goesOn _ _ _ _ _ _ _  (by apply_rules [TI.j, TI_sc, TI_mu, TI_go, TI_sg, TI_rdF, TI_rd, TI_cm0, TI_cm, TI_nt, TI_swF, TI_swT, TI_sx, TI_soT, TI_woT])) rfl ?_
    refine x_iload_n dX7_nameText_30 rfl ?_
    exact x_ireturn dX7_nameText_31 rfl (by first | rfl | exact ite_nar | exact itn_nar) ⟨by rw [show ntI (F, W) = _ from if_pos h0], rfl⟩
theorem c_X7_isOfName (g : xG) (B : xA) (m : Nat) (F : Nat → Int32) (W : Int64) (S : Nat → Int32) (Z : Nat → Nat → Int32)  : xC g iX7_isOfName 1 [.ref m] (tA B m F W S Z) (xRet (some (.int (ofI (F, W)))) (tA B m F W S Z)) := by
  show xW g _ _ 0 [some (.ref m)] [] _ _
  refine x_aload_n dX7_isOfName_0 rfl ?_
  refine x_ldc2 (v := 677454) q3767 dX7_isOfName_1 ?_
  refine t_cvV cvX7_226_X7 dX7_isOfName_4 (c_X7_isWord _ _ _ _ _ _ _ _) rfl ?_
  refine x_if_ne 60 dX7_isOfName_7 (by decide) (fun c7 => ?_) (fun c7 => ?_)
  · refine x_iconst (v := 1) dX7_isOfName_60 rfl ?_
    refine x_goto (tgt := 65) dX7_isOfName_61 (by decide) ?_
    exact x_ireturn dX7_isOfName_65 rfl (by first | rfl | exact ite_nar | exact itn_nar) ⟨by simp only [ofI, flI] at *; simp [*], rfl⟩
  · refine x_aload_n dX7_isOfName_10 rfl ?_
    refine x_ldc2 (v := 3409291) q3768 dX7_isOfName_11 ?_
    refine t_cvV cvX7_226_X7 dX7_isOfName_14 (c_X7_isWord _ _ _ _ _ _ _ _) rfl ?_
    refine x_if_ne 60 dX7_isOfName_17 (by decide) (fun c17 => ?_) (fun c17 => ?_)
    · refine x_iconst (v := 1) dX7_isOfName_60 rfl ?_
      refine x_goto (tgt := 65) dX7_isOfName_61 (by decide) ?_
      exact x_ireturn dX7_isOfName_65 rfl (by first | rfl | exact ite_nar | exact itn_nar) ⟨by simp only [ofI, flI] at *; simp [*], rfl⟩
    · refine x_aload_n dX7_isOfName_20 rfl ?_
      refine x_ldc2 (v := 19512296549) q3769 dX7_isOfName_21 ?_
      refine t_cvV cvX7_226_X7 dX7_isOfName_24 (c_X7_isWord _ _ _ _ _ _ _ _) rfl ?_
      refine x_if_ne 60 dX7_isOfName_27 (by decide) (fun c27 => ?_) (fun c27 => ?_)
      · refine x_iconst (v := 1) dX7_isOfName_60 rfl ?_
        refine x_goto (tgt := 65) dX7_isOfName_61 (by decide) ?_
        exact x_ireturn dX7_isOfName_65 rfl (by first | rfl | exact ite_nar | exact itn_nar) ⟨by simp only [ofI, flI] at *; simp [*], rfl⟩
      · refine x_aload_n dX7_isOfName_30 rfl ?_
        refine x_ldc2 (v := 646192) q3770 dX7_isOfName_31 ?_
        refine t_cvV cvX7_226_X7 dX7_isOfName_34 (c_X7_isWord _ _ _ _ _ _ _ _) rfl ?_
        refine x_if_ne 60 dX7_isOfName_37 (by decide) (fun c37 => ?_) (fun c37 => ?_)
        · refine x_iconst (v := 1) dX7_isOfName_60 rfl ?_
          refine x_goto (tgt := 65) dX7_isOfName_61 (by decide) ?_
          exact x_ireturn dX7_isOfName_65 rfl (by first | rfl | exact ite_nar | exact itn_nar) ⟨by simp only [ofI, flI] at *; simp [*], rfl⟩
        · refine x_aload_n dX7_isOfName_40 rfl ?_
          refine x_ldc2 (v := 12748485) q3771 dX7_isOfName_41 ?_
          refine t_cvV cvX7_226_X7 dX7_isOfName_44 (c_X7_isWord _ _ _ _ _ _ _ _) rfl ?_
          refine x_if_ne 60 dX7_isOfName_47 (by decide) (fun c47 => ?_) (fun c47 => ?_)
          · refine x_iconst (v := 1) dX7_isOfName_60 rfl ?_
            refine x_goto (tgt := 65) dX7_isOfName_61 (by decide) ?_
            exact x_ireturn dX7_isOfName_65 rfl (by first | rfl | exact ite_nar | exact itn_nar) ⟨by simp only [ofI, flI] at *; simp [*], rfl⟩
          · refine x_aload_n dX7_isOfName_50 rfl ?_
            refine x_ldc2 (v := 343342) q3772 dX7_isOfName_51 ?_
            refine t_cvV cvX7_226_X7 dX7_isOfName_54 (c_X7_isWord _ _ _ _ _ _ _ _) rfl ?_
            refine x_if_eq 64 dX7_isOfName_57 (by decide) (fun c57 => ?_) (fun c57 => ?_)
            · refine x_iconst (v := 0) dX7_isOfName_64 rfl ?_
              exact x_ireturn dX7_isOfName_65 rfl (by first | rfl | exact ite_nar | exact itn_nar) ⟨by simp only [ofI, flI] at *; simp [*], rfl⟩
            · refine x_iconst (v := 1) dX7_isOfName_60 rfl ?_
              refine x_goto (tgt := 65) dX7_isOfName_61 (by decide) ?_
              exact x_ireturn dX7_isOfName_65 rfl (by first | rfl | exact ite_nar | exact itn_nar) ⟨by simp only [ofI, flI] at *; simp [*], rfl⟩
theorem st_l {g : xG} {B : xA} {m : Nat} {F : Nat → Int32} {W : Int64} {S : Nat → Int32} {Z : Nat → Nat → Int32} {Q : Outcome → xA → Prop} (k : Nat) (o : Option Nat) (hk : k < 4)
    (kont : xW g iX7_stringText 5 4 [some (.ref m), some (.int (oI (stK (F, W) k o))), some (.int (nI (k + 1)))] [] (tA B m F W S Z) Q) : xW g iX7_stringText 5 4 [some (.ref m), some (.int (oI o)), some (.int (nI k))] [] (tA B m F W S Z) Q := by
  refine x_iload_n dX7_stringText_4 rfl ?_
  refine x_iconst (v := 4) dX7_stringText_5 rfl ?_
  refine x_icmp_geF dX7_stringText_6 34 (by decide) (nI_ge (a := k) (b := 4) hk (by omega)) ?_
  refine x_aload_n dX7_stringText_9 rfl ?_
  refine x_aload_n dX7_stringText_10 rfl ?_
  refine t_get fgX7_38_6 dX7_stringText_11 rfl ?_
  refine x_iload_n dX7_stringText_14 rfl ?_
  refine t_aldW k dX7_stringText_15 rfl (by omega) ?_
  refine t_cvV cvX7_226_X7 dX7_stringText_16 (c_X7_isWord _ _ _ _ _ _ _ _) rfl ?_
  refine x_if_eq 26 dX7_stringText_19 (by decide) (fun c19 => ?_) (fun c19 => ?_)
  · rw [show stK (F, W) k o = o from if_pos c19] at kont
    refine x_iload_n dX7_stringText_26 rfl ?_
    refine x_istore_n dX7_stringText_27 (by decide) rfl ?_
    refine x_iinc (v := nI (k + 1)) dX7_stringText_28 rfl (nI_1 _) (by decide) rfl ?_
    refine x_goto (tgt := 4) dX7_stringText_31 (by decide) ?_
    exact kont
  · rw [show stK (F, W) k o = some k from if_neg c19] at kont
    refine x_iload_n dX7_stringText_22 rfl ?_
    refine x_goto (tgt := 27) dX7_stringText_23 (by decide) ?_
    refine x_istore_n dX7_stringText_27 (by decide) rfl ?_
    refine x_iinc (v := nI (k + 1)) dX7_stringText_28 rfl (nI_1 _) (by decide) rfl ?_
    refine x_goto (tgt := 4) dX7_stringText_31 (by decide) ?_
    exact kont
theorem c_X7_stringText (g : xG) (B : xA) (m : Nat) (F : Nat → Int32) (W : Int64) (S : Nat → Int32) (Z : Nat → Nat → Int32) (h : TI F) : xC g iX7_stringText 5 [.ref m] (tA B m F W S Z) (xRet (some (.int (nI (sxN (Z 11) (F, W))))) (tA B m (sxT (Z 11) (F, W)).1 (sxT (Z 11) (F, W)).2 S Z)) := by
  show xW g iX7_stringText 5 0 [some (.ref m), none, none] [] (tA B m F W S Z) (xRet (some (.int (nI (sxN (Z 11) (F, W))))) (tA B m (sxT (Z 11) (F, W)).1 (sxT (Z 11) (F, W)).2 S Z))
  have hN : sxN (Z 11) (F, W) = (if (sxT (Z 11) (F, W)).1 18 = 0 then (stO (F, W)).getD 0 else 0) := rfl
  have hl := stO_lt (q := (F, W))
  refine x_iconst (v := (-1)) dX7_stringText_0 rfl ?_
  refine x_istore_n dX7_stringText_1 (by decide) rfl ?_
  refine x_iconst (v := 0) dX7_stringText_2 rfl ?_
  refine x_istore_n dX7_stringText_3 (by decide) rfl ?_
  refine st_l 0 none (by omega) ?_
  refine st_l 1 _ (by omega) ?_
  refine st_l 2 _ (by omega) ?_
  refine st_l 3 _ (by omega) ?_
  change xW g iX7_stringText 5 4 [some (.ref m), some (.int (oI (stO (F, W)))), some (.int (nI 4))] [] _ _
  refine x_iload_n dX7_stringText_4 rfl ?_
  refine x_iconst (v := 4) dX7_stringText_5 rfl ?_
  refine x_icmp_geT (tgt := 34) dX7_stringText_6 (by decide) (by decide) ?_
  refine x_aload_n dX7_stringText_34 rfl ?_
  refine x_iload_n dX7_stringText_35 rfl ?_
  refine x_iconst (v := (-1)) dX7_stringText_36 rfl ?_
  refine x_dia (vt := 0) (vf := 1) (j := 45) (fun h k => x_icmp_eqT (tgt := 44) dX7_stringText_37 (by decide) h k) (fun h k => x_icmp_eqF dX7_stringText_37 44 (by decide) h k) (x_ic dX7_stringText_44 rfl (by decide)) (x_icg dX7_stringText_40 rfl dX7_stringText_41 (by decide)) ?_
  refine x_iconst (v := 1) dX7_stringText_45 rfl ?_
  refine t_cvN cvX7_201_X7 dX7_stringText_46 (c_X7_must _ _ _ _ _ _ _ _ _) rfl ?_
  refine x_aload_n dX7_stringText_49 rfl ?_
  refine t_cvN cvX7_205_X7 dX7_stringText_50 (c_X7_goesOn _ _ _ _ _ _ _  (by apply_rules [TI.j, TI_sc, TI_mu, TI_go, TI_sg, TI_rdF, TI_rd, TI_cm0, TI_cm, TI_nt, TI_swF, TI_swT, TI_sx, TI_soT, TI_woT])) rfl ?_
  change xW g iX7_stringText 5 53 _ _ (tA B m (sxT (Z 11) (F, W)).1 (sxT (Z 11) (F, W)).2 S Z) _
  have key : (sxT (Z 11) (F, W)).1 18 = 0 → ¬ oI (stO (F, W)) = -1 := fun e => by
    unfold sxT at e
    rw [go_18] at e
    have := (mu_0 (by decide) e).2.1
    intro k
    rw [if_pos k] at this
    exact this rfl
  revert hN key
  generalize sxT (Z 11) (F, W) = q
  intro hN key
  refine x_aload_n dX7_stringText_53 rfl ?_
  refine t_cvV cvX7_215_X7 dX7_stringText_54 (c_X7_isGood _ _ _ _ _ _ _ ) rfl ?_
  refine x_if_eq 64 dX7_stringText_57 (by decide) (fun c57 => ?_) (fun c57 => ?_)
  · have h0 : ¬ q.1 18 = 0 := flI_0.mp c57
    refine x_iconst (v := 0) dX7_stringText_64 rfl ?_
    exact x_ireturn dX7_stringText_65 rfl (by first | rfl | exact ite_nar | exact itn_nar) ⟨by rw [hN, if_neg h0]; rfl, rfl⟩
  · have h0 : q.1 18 = 0 := flI_n.mp c57
    refine x_iload_n dX7_stringText_60 rfl ?_
    refine x_goto (tgt := 65) dX7_stringText_61 (by decide) ?_
    exact x_ireturn dX7_stringText_65 rfl (by first | rfl | exact ite_nar | exact itn_nar) ⟨by rw [hN, if_pos h0]; obtain ⟨i, hi⟩ := oI_y (key h0); rw [hi]; rfl, rfl⟩
theorem swO_n {h : tH} {x y : Nat} (k : ¬ (plO h.1 x ≠ none ∧ plO h.1 y ≠ none)) : swO h (some x) (some y) = none := by
  unfold swO
  simp only
  cases hx : plO h.1 x with
  | none => rfl
  | some p =>
    cases hy : plO h.1 y with
    | none => rfl
    | some r => exact absurd ⟨by rw [hx]; exact Option.some_ne_none _, by rw [hy]; exact Option.some_ne_none _⟩ k
theorem swO_s {h : tH} {x y p r : Nat} (hp : plO h.1 x = some p) (hr : plO h.1 y = some r) : swO h (some x) (some y) = some (swapS h.1 p r (nI x) (nI y), h.2) := by
  unfold swO
  simp only [hp, hr]
theorem sw_b {g : xG} {B : xA} {m : Nat} {F : Nat → Int32} {W : Int64} {S : Nat → Int32} {Z : Nat → Nat → Int32} (n1 : Int32) (a : Option Nat) (R : tQ × tH) (hR : R = doX (ntX (Z 11) (F, W)) (S, Z 8) (swO (S, Z 8) a (nmO S (ntI (F, W))))) (h : TI F) (hk : tOk S) (ha : ∀ i, a = some i → i < 10) : xW g iX7_swapText 6 41 [some (.ref m), some (.int n1), some (.int (oI a)), none, none, none] [] (tA B m F W S Z) (xRet none (tA B m R.1.1 R.1.2 R.2.1 (zup Z 8 R.2.2))) := by
  refine x_aload_n dX7_swapText_41 rfl ?_
  refine x_aload_n dX7_swapText_42 rfl ?_
  refine t_cvV cvX7_284_X7 dX7_swapText_43 (c_X7_nameText _ _ _ _ _ _ _  (by apply_rules [TI.j, TI_sc, TI_mu, TI_go, TI_sg, TI_rdF, TI_rd, TI_cm0, TI_cm, TI_nt, TI_swF, TI_swT, TI_sx, TI_soT, TI_woT])) rfl ?_
  have hq : TI (ntX (Z 11) (F, W)).1 := TI_nt h
  generalize ntX (Z 11) (F, W) = q at hR hq ⊢
  generalize ntI (F, W) = n2 at hR ⊢
  refine t_cvV cvX7_218_X7 dX7_swapText_46 (c_X7_namedFiddler _ _ _ _ _ _ _ _ hk) rfl ?_
  change xW g iX7_swapText 6 49 _ (.int (oI (nmO S n2)) :: _) _ _
  have hb : ∀ i, nmO S n2 = some i → i < 10 := fun i hi => by have := nmO_lt hi; have := hk.1.2; omega
  generalize nmO S n2 = b at hR hb ⊢
  refine x_istore_n dX7_swapText_49 (by decide) rfl ?_
  refine x_aload_n dX7_swapText_50 rfl ?_
  refine t_cvV cvX7_287_X7 dX7_swapText_51 (c_X7_isActive _ _ _ _ _ _ _ ) rfl ?_
  refine x_if_eq 106 dX7_swapText_54 (by decide) (fun c54 => ?_) (fun c54 => ?_)
  · rw [doX_0 c54] at hR
    exact x_return dX7_swapText_106 rfl ⟨rfl, by rw [hR]; simp only [zup_id]⟩
  · have hac : ¬ acI q.1 = 0 := c54
    refine x_iload_n dX7_swapText_57 rfl ?_
    refine x_iconst (v := (-1)) dX7_swapText_58 rfl ?_
    refine x_icmp_eq 80 dX7_swapText_59 (by decide) (fun c59 => ?_) (fun c59 => ?_)
    · rw [(oI_m ha).mp c59, show swO (S, Z 8) none b = none from rfl, doX_n hac] at hR
      refine x_iconst (v := 0) dX7_swapText_80 rfl ?_
      refine x_istore dX7_swapText_81 (by decide) rfl ?_
      refine x_iload dX7_swapText_83 rfl ?_
      refine x_if_eqT (tgt := 97) dX7_swapText_85 (by decide) (by decide) ?_
      refine x_iconst (v := (-1)) dX7_swapText_97 rfl ?_
      refine x_istore dX7_swapText_98 (by decide) rfl ?_
      refine x_aload_n dX7_swapText_100 rfl ?_
      refine x_iload dX7_swapText_101 rfl ?_
      refine t_cvN cvX7_296_X7 dX7_swapText_103 (c_X7_came _ _ _ _ _ _ _ _) rfl ?_
      exact x_return dX7_swapText_106 rfl ⟨rfl, by rw [hR]; simp only [zup_id]⟩
    · obtain ⟨x, rfl⟩ := oI_y c59
      refine x_iload_n dX7_swapText_62 rfl ?_
      refine x_iconst (v := (-1)) dX7_swapText_63 rfl ?_
      refine x_icmp_eq 80 dX7_swapText_64 (by decide) (fun c64 => ?_) (fun c64 => ?_)
      · rw [(oI_m hb).mp c64, show swO (S, Z 8) (some x) none = none from rfl, doX_n hac] at hR
        refine x_iconst (v := 0) dX7_swapText_80 rfl ?_
        refine x_istore dX7_swapText_81 (by decide) rfl ?_
        refine x_iload dX7_swapText_83 rfl ?_
        refine x_if_eqT (tgt := 97) dX7_swapText_85 (by decide) (by decide) ?_
        refine x_iconst (v := (-1)) dX7_swapText_97 rfl ?_
        refine x_istore dX7_swapText_98 (by decide) rfl ?_
        refine x_aload_n dX7_swapText_100 rfl ?_
        refine x_iload dX7_swapText_101 rfl ?_
        refine t_cvN cvX7_296_X7 dX7_swapText_103 (c_X7_came _ _ _ _ _ _ _ _) rfl ?_
        exact x_return dX7_swapText_106 rfl ⟨rfl, by rw [hR]; simp only [zup_id]⟩
      · obtain ⟨y, rfl⟩ := oI_y c64
        refine x_aload_n dX7_swapText_67 rfl ?_
        refine x_iload_n dX7_swapText_68 rfl ?_
        refine x_iload_n dX7_swapText_69 rfl ?_
        refine t_cvV cvX7_290_X7 dX7_swapText_70 (c_X7_canSwap _ _ _ _ _ _ _ (nI x) (nI y) hk) rfl ?_
        refine x_if_eq 80 dX7_swapText_73 (by decide) (fun c73 => ?_) (fun c73 => ?_)
        · rw [swO_n (h := (S, Z 8)) (x := x) (y := y) (flI_0.mp c73), doX_n hac] at hR
          refine x_iconst (v := 0) dX7_swapText_80 rfl ?_
          refine x_istore dX7_swapText_81 (by decide) rfl ?_
          refine x_iload dX7_swapText_83 rfl ?_
          refine x_if_eqT (tgt := 97) dX7_swapText_85 (by decide) (by decide) ?_
          refine x_iconst (v := (-1)) dX7_swapText_97 rfl ?_
          refine x_istore dX7_swapText_98 (by decide) rfl ?_
          refine x_aload_n dX7_swapText_100 rfl ?_
          refine x_iload dX7_swapText_101 rfl ?_
          refine t_cvN cvX7_296_X7 dX7_swapText_103 (c_X7_came _ _ _ _ _ _ _ _) rfl ?_
          exact x_return dX7_swapText_106 rfl ⟨rfl, by rw [hR]; simp only [zup_id]⟩
        · obtain ⟨hx, hy⟩ := flI_n.mp c73
          obtain ⟨p, hp⟩ := nn_y hx
          obtain ⟨r, hr⟩ := nn_y hy
          rw [swO_s (h := (S, Z 8)) (x := x) (y := y) hp hr, doX_s hac] at hR
          refine x_iconst (v := 1) dX7_swapText_76 rfl ?_
          refine x_goto (tgt := 81) dX7_swapText_77 (by decide) ?_
          refine x_istore dX7_swapText_81 (by decide) rfl ?_
          refine x_iload dX7_swapText_83 rfl ?_
          refine x_if_eqF dX7_swapText_85 97 (by decide) (by decide) ?_
          refine x_aload_n dX7_swapText_88 rfl ?_
          refine x_iload_n dX7_swapText_89 rfl ?_
          refine x_iload_n dX7_swapText_90 rfl ?_
          refine t_cvV cvX7_293_X7 dX7_swapText_91 (c_X7_swaps _ _ _ _ _ _ _ (nI x) (nI y) p r hk hp hr) rfl ?_
          refine x_goto (tgt := 98) dX7_swapText_94 (by decide) ?_
          refine x_istore dX7_swapText_98 (by decide) rfl ?_
          refine x_aload_n dX7_swapText_100 rfl ?_
          refine x_iload dX7_swapText_101 rfl ?_
          refine t_cvN cvX7_296_X7 dX7_swapText_103 (c_X7_came _ _ _ _ _ _ _ _) rfl ?_
          exact x_return dX7_swapText_106 rfl ⟨rfl, by rw [hR]; simp only [zup_id]⟩
theorem c_X7_swapText (g : xG) (B : xA) (m : Nat) (F : Nat → Int32) (W : Int64) (S : Nat → Int32) (Z : Nat → Nat → Int32) (n1 : Int32) (R : tQ × tH) (hR : R = swX (Z 11) n1 (F, W) (S, Z 8)) (h : TI F) (hk : tOk S) : xC g iX7_swapText 6 [.ref m, .int n1] (tA B m F W S Z) (xRet none (tA B m R.1.1 R.1.2 R.2.1 (zup Z 8 R.2.2))) := by
  show xW g iX7_swapText 6 0 [some (.ref m), some (.int n1), none, none, none, none] [] (tA B m F W S Z) (xRet none (tA B m R.1.1 R.1.2 R.2.1 (zup Z 8 R.2.2)))
  have ha : ∀ i, nmO S n1 = some i → i < 10 := fun i hi => by have := nmO_lt hi; have := hk.1.2; omega
  have hF : TI (swF n1 (F, W)) := TI_swF h
  have k := fun R hR => sw_b (g := g) (B := B) (m := m) (S := S) (Z := Z) (F := swF n1 (F, W)) (W := W) n1 (nmO S n1) R hR hF hk ha
  have k2 := k R hR
  clear k hF hR
  refine x_aload_n dX7_swapText_0 rfl ?_
  refine x_iload_n dX7_swapText_1 rfl ?_
  refine t_cvV cvX7_218_X7 dX7_swapText_2 (c_X7_namedFiddler _ _ _ _ _ _ _ _ hk) rfl ?_
  refine x_istore_n dX7_swapText_5 (by decide) rfl ?_
  refine x_aload_n dX7_swapText_6 rfl ?_
  refine x_aload_n dX7_swapText_7 rfl ?_
  refine t_cvV cvX7_211_X7 dX7_swapText_8 (c_X7_isNameHere _ _ _ _ _ _ _ ) rfl ?_
  refine x_iconst (v := 1) dX7_swapText_11 rfl ?_
  refine t_cvN cvX7_201_X7 dX7_swapText_12 (c_X7_must _ _ _ _ _ _ _ _ _) rfl ?_
  refine x_aload_n dX7_swapText_15 rfl ?_
  refine x_aload_n dX7_swapText_16 rfl ?_
  refine t_cvV cvX7_215_X7 dX7_swapText_17 (c_X7_isGood _ _ _ _ _ _ _ ) rfl ?_
  refine x_if_eq 32 dX7_swapText_20 (by decide) (fun c20 => ?_) (fun c20 => ?_)
  · have hbd : ¬ muF F (nhI F) 1 18 = 0 := flI_0.mp c20
    refine x_iconst (v := 1) dX7_swapText_32 rfl ?_
    refine x_goto (tgt := 37) dX7_swapText_33 (by decide) ?_
    refine x_iconst (v := 3) dX7_swapText_37 rfl ?_
    refine t_cvN cvX7_201_X7 dX7_swapText_38 (c_X7_must _ _ _ _ _ _ _ _ _) rfl ?_
    have e : swF n1 (F, W) = muF (muF F (nhI F) 1) 1 3 := congrArg (fun z => muF (muF F (nhI F) 1) z 3) (if_pos (Or.inl hbd) : flI (¬ muF F (nhI F) 1 18 = 0 ∨ ¬ W.toInt32 = n1) = 1)
    rw [e] at k2
    exact k2
  · have hbd : muF F (nhI F) 1 18 = 0 := flI_n.mp c20
    refine x_aload_n dX7_swapText_23 rfl ?_
    refine t_get fgX7_174_6 dX7_swapText_24 rfl ?_
    refine x_l2i dX7_swapText_27 ?_
    refine x_iload_n dX7_swapText_28 rfl ?_
    refine x_dia (vt := 0) (vf := 1) (j := 37) (fun h k => x_icmp_eqT (tgt := 36) dX7_swapText_29 (by decide) h k) (fun h k => x_icmp_eqF dX7_swapText_29 36 (by decide) h k) (x_ic dX7_swapText_36 rfl (by decide)) (x_icg dX7_swapText_32 rfl dX7_swapText_33 (by decide)) ?_
    refine x_iconst (v := 3) dX7_swapText_37 rfl ?_
    refine t_cvN cvX7_201_X7 dX7_swapText_38 (c_X7_must _ _ _ _ _ _ _ _ _) rfl ?_
    have e : swF n1 (F, W) = muF (muF F (nhI F) 1) (if W.toInt32 = n1 then 0 else 1) 3 := congrArg (fun z => muF (muF F (nhI F) 1) z 3) (by unfold flI; simp only [hbd, not_true_eq_false, false_or]; split <;> simp_all : flI (¬ muF F (nhI F) 1 18 = 0 ∨ ¬ W.toInt32 = n1) = (if W.toInt32 = n1 then 0 else 1))
    rw [e] at k2
    exact k2
theorem c_X7_rowText_0 (g : xG) (B : xA) (m : Nat) (F : Nat → Int32) (W : Int64) (S : Nat → Int32) (Z : Nat → Nat → Int32) (a : Option Nat) (R : tQ × tH) (hR : R = rwX (F, W) (S, Z 8) a 0) (hk : rOk S) (ha : ∀ i, a = some i → i < manyS S) : xC g iX7_rowText 3 [.ref m, .int (oI a), .int 0] (tA B m F W S Z) (xRet none (tA B m R.1.1 R.1.2 R.2.1 (zup Z 8 R.2.2))) := by
  show xW g iX7_rowText 3 0 [some (.ref m), some (.int (oI a)), some (.int 0), none, none] [] (tA B m F W S Z) (xRet none (tA B m R.1.1 R.1.2 R.2.1 (zup Z 8 R.2.2)))
  have ht := hk.1
  have hm := hk.1.1.2
  unfold rwX at hR
  refine x_aload_n dX7_rowText_0 rfl ?_
  refine t_cvV cvX7_287_X7 dX7_rowText_1 (c_X7_isActive _ _ _ _ _ _ _ ) rfl ?_
  refine x_if_eq 68 dX7_rowText_4 (by decide) (fun c4 => ?_) (fun c4 => ?_)
  · rw [doX_0 c4] at hR
    exact x_return dX7_rowText_68 rfl ⟨rfl, by rw [hR]; simp only [zup_id]⟩
  · have hac : ¬ acI F = 0 := c4
    refine x_iload_n dX7_rowText_7 rfl ?_
    refine x_iconst (v := (-1)) dX7_rowText_8 rfl ?_
    refine x_icmp_eq 34 dX7_rowText_9 (by decide) (fun c9 => ?_) (fun c9 => ?_)
    · rw [(oI_1 (fun i hi => by have := ha i hi; omega)).mp c9, show rwO (S, Z 8) none 0 = none from rfl, doX_n hac] at hR
      refine x_iconst (v := 0) dX7_rowText_34 rfl ?_
      refine x_istore_n dX7_rowText_35 (by decide) rfl ?_
      refine x_iload_n dX7_rowText_36 rfl ?_
      refine x_if_neF dX7_rowText_37 44 (by decide) (by decide) ?_
      refine x_iconst (v := (-1)) dX7_rowText_40 rfl ?_
      refine x_goto (tgt := 61) dX7_rowText_41 (by decide) ?_
      refine x_istore dX7_rowText_61 (by decide) rfl ?_
      refine x_aload_n dX7_rowText_63 rfl ?_
      refine x_iload_n dX7_rowText_64 rfl ?_
      refine t_cvN cvX7_296_X7 dX7_rowText_65 (c_X7_came _ _ _ _ _ _ _ _) rfl ?_
      exact x_return dX7_rowText_68 rfl ⟨rfl, by rw [hR]; simp only [zup_id]⟩
    · obtain ⟨f, rfl⟩ := oI_y c9
      have hf := ha f rfl
      refine x_aload_n dX7_rowText_12 rfl ?_
      refine x_iload_n dX7_rowText_13 rfl ?_
      refine t_cvV cvX7_127_X7 dX7_rowText_14 (c_X7_place _ _ _ _ _ _ _ (nI f) ht) rfl ?_
      refine x_iconst (v := (-1)) dX7_rowText_17 rfl ?_
      refine x_icmp_eq 25 dX7_rowText_18 (by decide) (fun c18 => ?_) (fun c18 => ?_)
      · have hn : plO S f = none := (oI_pl ht).mp c18
        have hr := plO_row hk hf hn
        rw [show rwO (S, Z 8) (some f) 0 = some (joS S f, Z 8) by unfold rwO; simp only [hn]; rfl, doX_s hac] at hR
        refine x_iconst (v := 0) dX7_rowText_25 rfl ?_
        refine x_iload_n dX7_rowText_26 rfl ?_
        refine x_icmp_neF dX7_rowText_27 34 (by decide) (by decide) ?_
        refine x_iconst (v := 1) dX7_rowText_30 rfl ?_
        refine x_goto (tgt := 35) dX7_rowText_31 (by decide) ?_
        refine x_istore_n dX7_rowText_35 (by decide) rfl ?_
        refine x_iload_n dX7_rowText_36 rfl ?_
        refine x_if_neT (tgt := 44) dX7_rowText_37 (by decide) (by decide) ?_
        refine x_iload_n dX7_rowText_44 rfl ?_
        refine x_if_eqT (tgt := 56) dX7_rowText_45 (by decide) (by decide) ?_
        refine x_aload_n dX7_rowText_56 rfl ?_
        refine x_iload_n dX7_rowText_57 rfl ?_
        refine t_cvV cvX7_303_X7 dX7_rowText_58 (c_X7_joins _ _ _ _ _ _ _ f ht hr) rfl ?_
        refine x_istore dX7_rowText_61 (by decide) rfl ?_
        refine x_aload_n dX7_rowText_63 rfl ?_
        refine x_iload_n dX7_rowText_64 rfl ?_
        refine t_cvN cvX7_296_X7 dX7_rowText_65 (c_X7_came _ _ _ _ _ _ _ _) rfl ?_
        exact x_return dX7_rowText_68 rfl ⟨rfl, by rw [hR]; simp only [zup_id]⟩
      · obtain ⟨p, hp⟩ := oI_y (a := plO S f) c18
        rw [show rwO (S, Z 8) (some f) 0 = none by unfold rwO; simp only [hp]; rfl, doX_n hac] at hR
        refine x_iconst (v := 1) dX7_rowText_21 rfl ?_
        refine x_goto (tgt := 26) dX7_rowText_22 (by decide) ?_
        refine x_iload_n dX7_rowText_26 rfl ?_
        refine x_icmp_neT (tgt := 34) dX7_rowText_27 (by decide) (by decide) ?_
        refine x_iconst (v := 0) dX7_rowText_34 rfl ?_
        refine x_istore_n dX7_rowText_35 (by decide) rfl ?_
        refine x_iload_n dX7_rowText_36 rfl ?_
        refine x_if_neF dX7_rowText_37 44 (by decide) (by decide) ?_
        refine x_iconst (v := (-1)) dX7_rowText_40 rfl ?_
        refine x_goto (tgt := 61) dX7_rowText_41 (by decide) ?_
        refine x_istore dX7_rowText_61 (by decide) rfl ?_
        refine x_aload_n dX7_rowText_63 rfl ?_
        refine x_iload_n dX7_rowText_64 rfl ?_
        refine t_cvN cvX7_296_X7 dX7_rowText_65 (c_X7_came _ _ _ _ _ _ _ _) rfl ?_
        exact x_return dX7_rowText_68 rfl ⟨rfl, by rw [hR]; simp only [zup_id]⟩
theorem c_X7_rowText_1 (g : xG) (B : xA) (m : Nat) (F : Nat → Int32) (W : Int64) (S : Nat → Int32) (Z : Nat → Nat → Int32) (a : Option Nat) (R : tQ × tH) (hR : R = rwX (F, W) (S, Z 8) a 1) (hk : rOk S) (ha : ∀ i, a = some i → i < manyS S) : xC g iX7_rowText 3 [.ref m, .int (oI a), .int 1] (tA B m F W S Z) (xRet none (tA B m R.1.1 R.1.2 R.2.1 (zup Z 8 R.2.2))) := by
  show xW g iX7_rowText 3 0 [some (.ref m), some (.int (oI a)), some (.int 1), none, none] [] (tA B m F W S Z) (xRet none (tA B m R.1.1 R.1.2 R.2.1 (zup Z 8 R.2.2)))
  have ht := hk.1
  have hm := hk.1.1.2
  unfold rwX at hR
  refine x_aload_n dX7_rowText_0 rfl ?_
  refine t_cvV cvX7_287_X7 dX7_rowText_1 (c_X7_isActive _ _ _ _ _ _ _ ) rfl ?_
  refine x_if_eq 68 dX7_rowText_4 (by decide) (fun c4 => ?_) (fun c4 => ?_)
  · rw [doX_0 c4] at hR
    exact x_return dX7_rowText_68 rfl ⟨rfl, by rw [hR]; simp only [zup_id]⟩
  · have hac : ¬ acI F = 0 := c4
    refine x_iload_n dX7_rowText_7 rfl ?_
    refine x_iconst (v := (-1)) dX7_rowText_8 rfl ?_
    refine x_icmp_eq 34 dX7_rowText_9 (by decide) (fun c9 => ?_) (fun c9 => ?_)
    · rw [(oI_1 (fun i hi => by have := ha i hi; omega)).mp c9, show rwO (S, Z 8) none 1 = none from rfl, doX_n hac] at hR
      refine x_iconst (v := 0) dX7_rowText_34 rfl ?_
      refine x_istore_n dX7_rowText_35 (by decide) rfl ?_
      refine x_iload_n dX7_rowText_36 rfl ?_
      refine x_if_neF dX7_rowText_37 44 (by decide) (by decide) ?_
      refine x_iconst (v := (-1)) dX7_rowText_40 rfl ?_
      refine x_goto (tgt := 61) dX7_rowText_41 (by decide) ?_
      refine x_istore dX7_rowText_61 (by decide) rfl ?_
      refine x_aload_n dX7_rowText_63 rfl ?_
      refine x_iload_n dX7_rowText_64 rfl ?_
      refine t_cvN cvX7_296_X7 dX7_rowText_65 (c_X7_came _ _ _ _ _ _ _ _) rfl ?_
      exact x_return dX7_rowText_68 rfl ⟨rfl, by rw [hR]; simp only [zup_id]⟩
    · obtain ⟨f, rfl⟩ := oI_y c9
      have hf := ha f rfl
      refine x_aload_n dX7_rowText_12 rfl ?_
      refine x_iload_n dX7_rowText_13 rfl ?_
      refine t_cvV cvX7_127_X7 dX7_rowText_14 (c_X7_place _ _ _ _ _ _ _ (nI f) ht) rfl ?_
      refine x_iconst (v := (-1)) dX7_rowText_17 rfl ?_
      refine x_icmp_eq 25 dX7_rowText_18 (by decide) (fun c18 => ?_) (fun c18 => ?_)
      · have hn : plO S f = none := (oI_pl ht).mp c18
        rw [show rwO (S, Z 8) (some f) 1 = none by unfold rwO; simp only [hn]; rfl, doX_n hac] at hR
        refine x_iconst (v := 0) dX7_rowText_25 rfl ?_
        refine x_iload_n dX7_rowText_26 rfl ?_
        refine x_icmp_neT (tgt := 34) dX7_rowText_27 (by decide) (by decide) ?_
        refine x_iconst (v := 0) dX7_rowText_34 rfl ?_
        refine x_istore_n dX7_rowText_35 (by decide) rfl ?_
        refine x_iload_n dX7_rowText_36 rfl ?_
        refine x_if_neF dX7_rowText_37 44 (by decide) (by decide) ?_
        refine x_iconst (v := (-1)) dX7_rowText_40 rfl ?_
        refine x_goto (tgt := 61) dX7_rowText_41 (by decide) ?_
        refine x_istore dX7_rowText_61 (by decide) rfl ?_
        refine x_aload_n dX7_rowText_63 rfl ?_
        refine x_iload_n dX7_rowText_64 rfl ?_
        refine t_cvN cvX7_296_X7 dX7_rowText_65 (c_X7_came _ _ _ _ _ _ _ _) rfl ?_
        exact x_return dX7_rowText_68 rfl ⟨rfl, by rw [hR]; simp only [zup_id]⟩
      · obtain ⟨p, hp⟩ := oI_y (a := plO S f) c18
        rw [show rwO (S, Z 8) (some f) 1 = some (leS S p, Z 8) by unfold rwO; simp only [hp]; rfl, doX_s hac] at hR
        refine x_iconst (v := 1) dX7_rowText_21 rfl ?_
        refine x_goto (tgt := 26) dX7_rowText_22 (by decide) ?_
        refine x_iload_n dX7_rowText_26 rfl ?_
        refine x_icmp_neF dX7_rowText_27 34 (by decide) (by decide) ?_
        refine x_iconst (v := 1) dX7_rowText_30 rfl ?_
        refine x_goto (tgt := 35) dX7_rowText_31 (by decide) ?_
        refine x_istore_n dX7_rowText_35 (by decide) rfl ?_
        refine x_iload_n dX7_rowText_36 rfl ?_
        refine x_if_neT (tgt := 44) dX7_rowText_37 (by decide) (by decide) ?_
        refine x_iload_n dX7_rowText_44 rfl ?_
        refine x_if_eqF dX7_rowText_45 56 (by decide) (by decide) ?_
        refine x_aload_n dX7_rowText_48 rfl ?_
        refine x_iload_n dX7_rowText_49 rfl ?_
        refine t_cvV cvX7_300_X7 dX7_rowText_50 (c_X7_leaves _ _ _ _ _ _ _ (nI f) p ht hp) rfl ?_
        refine x_goto (tgt := 61) dX7_rowText_53 (by decide) ?_
        refine x_istore dX7_rowText_61 (by decide) rfl ?_
        refine x_aload_n dX7_rowText_63 rfl ?_
        refine x_iload_n dX7_rowText_64 rfl ?_
        refine t_cvN cvX7_296_X7 dX7_rowText_65 (c_X7_came _ _ _ _ _ _ _ _) rfl ?_
        exact x_return dX7_rowText_68 rfl ⟨rfl, by rw [hR]; simp only [zup_id]⟩
