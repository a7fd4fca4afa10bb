set_option maxRecDepth 100000
/-- the cents of the first four fiddlers' strings -/
def firstC : Nat → Int32 := (upd (upd (upd (upd (upd (upd (upd (upd (upd (upd (upd (upd (upd (upd (upd (upd (fun _ => 0) 0 0) 1 1) 2 (-3)) 3 2) 4 5) 5 2) 6 (-4)) 7 12) 8 (-1)) 9 (-30)) 10 2) 11 1) 12 (-180)) 13 0) 14 3) 15 0)
def iniZ : Nat → Nat → Int32 := fun j => if j = 7 then firstC else fun _ => 0
def iniF : Nat → Int32 := fun j => if j = 21 then -1 else 0
def iniK (f : Nat → Int32) (k : Nat) (S : Nat → Int32) : Nat → Int32 := upd S (70 + 21 * (k / 4) + (9 + k % 4)) (f k)
def iniL (f : Nat → Int32) : Nat → (Nat → Int32) → (Nat → Int32)
  | 0, S => S
  | n + 1, S => iniK f n (iniL f n S)
def ini0 : Nat → Int32 := upd (upd (upd (upd (upd (upd (upd (upd (fun _ => 0) 1 18) 2 21) 3 3) 4 2) 9 1) 10 1) 11 2) 12 3
def ini4 : Nat → Int32 := comesS (comesS (comesS (comesS ini0 1486 4) 2530 2) 3124 4) 4142 4
def iniS : Nat → Int32 := storesS (upd (upd (upd (iniL firstC 16 ini4) 109 8) 110 2) 111 4)
theorem tW_eq : vp_updL (vp_updL (vp_updL (vp_updL (fun _ => 0) 0 7) 1 4) 2 1) 3 5 = tWords := by
  funext j
  match j with
  | 0 | 1 | 2 | 3 => rfl
  | j + 4 =>
    show vp_updL _ _ _ _ = (0 : Int64)
    unfold vp_updL
    simp
theorem in_l {g : xG} {B : xA} {m : Nat} {F : Nat → Int32} {W : Int64} {Z : Nat → Nat → Int32} {Q : Outcome → xA → Prop} (S0 : Nat → Int32) (kont : xW g iX7_init 3 348 [some (.ref m), some (.int (nI 16))] [] (tA B m F W (iniL (Z 7) 16 S0) Z) Q) : ∀ f k, f + k = 16 → xW g iX7_init 3 313 [some (.ref m), some (.int (nI k))] [] (tA B m F W (iniL (Z 7) k S0) Z) Q := by
  intro f
  induction f with
  | zero =>
    intro k hk
    have e : k = 16 := by omega
    subst e
    refine x_iload_n dX7_init_313 rfl ?_
    refine x_bipush (v := 16) dX7_init_314 (by decide) ?_
    refine x_icmp_geT (tgt := 348) dX7_init_316 (by decide) (by decide) ?_
    exact kont
  | succ f ih =>
    intro k hk
    refine x_iload_n dX7_init_313 rfl ?_
    refine x_bipush (v := 16) dX7_init_314 (by decide) ?_
    refine x_icmp_geF dX7_init_316 348 (by decide) (nI_ge (a := k) (b := 16) (by omega) (by omega)) ?_
    refine x_aload_n dX7_init_319 rfl ?_
    refine t_get fgX7_7_6 dX7_init_320 rfl ?_
    refine x_iload_n dX7_init_323 rfl ?_
    refine x_iconst (v := 4) dX7_init_324 rfl ?_
    refine x_idiv dX7_init_325 (by decide) ?_
    refine x_top (y := nI (k / 4)) (div4 k (by omega)) ?_
    refine x_bipush (v := 9) dX7_init_326 (by decide) ?_
    refine x_iload_n dX7_init_328 rfl ?_
    refine x_iconst (v := 4) dX7_init_329 rfl ?_
    refine x_irem dX7_init_330 (by decide) ?_
    refine x_top (y := nI (k % 4)) (rem4 k (by omega)) ?_
    refine x_iadd dX7_init_331 ?_
    refine x_top (y := nI (9 + k % 4)) (nI_add 9 (k % 4)) ?_
    refine x_csV csX7_65 dX7_init_332 (c_X7_at _ _ (k / 4) (9 + k % 4)) rfl ?_
    refine x_aload_n dX7_init_335 rfl ?_
    refine t_get fgX7_26_6 dX7_init_336 rfl ?_
    refine x_iload_n dX7_init_339 rfl ?_
    refine t_aldZ tz7 k dX7_init_340 rfl (by omega) ?_
    refine t_astS (70 + 21 * (k / 4) + (9 + k % 4)) dX7_init_341 rfl (by omega) ?_
    refine x_iinc (v := nI (k + 1)) dX7_init_342 rfl (nI_1 _) (by decide) rfl ?_
    refine x_goto (tgt := 313) dX7_init_345 (by decide) ?_
    exact ih (k + 1) (by omega)
theorem c_X7_init (g : xG) (B : xA) (m sl : Nat) : xC g iX7_init 3 [.ref m] (xl B m [.inr (6, [.null, .null, .null, .null, .null, .int 0, .int 0, .null, .null, .null, .null, .null, .int 0, .int 0, .int 0, .int 0, .int 0, .int 0, .int 0, .int 0, .int 0, .int 0, .long 0, .int 0, .int 0, .int 0, .int 0, .int 0, .null, .null, .null, .int 0])] sl) (xRet none (tA (B.1, m + 14, sl + 5120) m iniF 0 iniS iniZ)) := by
  show xW g iX7_init 3 0 [some (.ref m), none] [] _ _
  refine x_aload_n dX7_init_0 rfl ?_
  refine x_objInit q3510 q204 q205 dX7_init_1 (by decide) (by exact Nat.le_of_ble_eq_true rfl) ?_
  refine x_aload_n dX7_init_4 rfl ?_
  refine x_sipush (v := 280) dX7_init_5 (by decide) ?_
  refine x_newL (k := 1) (N' := 280) (Or.inl ⟨rfl, rfl, rfl⟩) q246 dX7_init_8 (by decide) (by decide) (by decide) rfl ?_
  change xW g iX7_init 3 10 _ _ (xl B m [.inr (6, [.null, .null, .null, .null, .null, .int 0, .int 0, .null, .null, .null, .null, .null, .int 0, .int 0, .int 0, .int 0, .int 0, .int 0, .int 0, .int 0, .int 0, .int 0, .long 0, .int 0, .int 0, .int 0, .int 0, .int 0, .null, .null, .null, .int 0]), .inl (0, 280, .inl fun _ => 0)] (sl + 280)) _
  refine x_putFL 0 fFX7_7_6 rfl dX7_init_10 rfl ⟨rfl, rfl⟩ (by exact Nat.le_of_ble_eq_true rfl) (Nat.add_zero m) ?_
  change xW g iX7_init 3 13 _ _ (xl B m [.inr (6, [.ref (m + 1), .null, .null, .null, .null, .int 0, .int 0, .null, .null, .null, .null, .null, .int 0, .int 0, .int 0, .int 0, .int 0, .int 0, .int 0, .int 0, .int 0, .int 0, .long 0, .int 0, .int 0, .int 0, .int 0, .int 0, .null, .null, .null, .int 0]), .inl (0, 280, .inl fun _ => 0)] (sl + 280)) _
  refine x_aload_n dX7_init_13 rfl ?_
  refine x_sipush (v := 280) dX7_init_14 (by decide) ?_
  refine x_newL (k := 2) (N' := 280) (Or.inl ⟨rfl, rfl, rfl⟩) q246 dX7_init_17 (by decide) (by decide) (by decide) rfl ?_
  change xW g iX7_init 3 19 _ _ (xl B m [.inr (6, [.ref (m + 1), .null, .null, .null, .null, .int 0, .int 0, .null, .null, .null, .null, .null, .int 0, .int 0, .int 0, .int 0, .int 0, .int 0, .int 0, .int 0, .int 0, .int 0, .long 0, .int 0, .int 0, .int 0, .int 0, .int 0, .null, .null, .null, .int 0]), .inl (0, 280, .inl fun _ => 0), .inl (0, 280, .inl fun _ => 0)] (sl + 280 + 280)) _
  refine x_putFL 0 fFX7_13_6 rfl dX7_init_19 rfl ⟨rfl, rfl⟩ (by exact Nat.le_of_ble_eq_true rfl) (Nat.add_zero m) ?_
  change xW g iX7_init 3 22 _ _ (xl B m [.inr (6, [.ref (m + 1), .ref (m + 2), .null, .null, .null, .int 0, .int 0, .null, .null, .null, .null, .null, .int 0, .int 0, .int 0, .int 0, .int 0, .int 0, .int 0, .int 0, .int 0, .int 0, .long 0, .int 0, .int 0, .int 0, .int 0, .int 0, .null, .null, .null, .int 0]), .inl (0, 280, .inl fun _ => 0), .inl (0, 280, .inl fun _ => 0)] (sl + 280 + 280)) _
  refine x_aload_n dX7_init_22 rfl ?_
  refine x_sipush (v := 2240) dX7_init_23 (by decide) ?_
  refine x_newL (k := 3) (N' := 2240) (Or.inl ⟨rfl, rfl, rfl⟩) q246 dX7_init_26 (by decide) (by decide) (by decide) rfl ?_
  change xW g iX7_init 3 28 _ _ (xl B m [.inr (6, [.ref (m + 1), .ref (m + 2), .null, .null, .null, .int 0, .int 0, .null, .null, .null, .null, .null, .int 0, .int 0, .int 0, .int 0, .int 0, .int 0, .int 0, .int 0, .int 0, .int 0, .long 0, .int 0, .int 0, .int 0, .int 0, .int 0, .null, .null, .null, .int 0]), .inl (0, 280, .inl fun _ => 0), .inl (0, 280, .inl fun _ => 0), .inl (0, 2240, .inl fun _ => 0)] (sl + 280 + 280 + 2240)) _
  refine x_putFL 0 fFX7_16_6 rfl dX7_init_28 rfl ⟨rfl, rfl⟩ (by exact Nat.le_of_ble_eq_true rfl) (Nat.add_zero m) ?_
  change xW g iX7_init 3 31 _ _ (xl B m [.inr (6, [.ref (m + 1), .ref (m + 2), .ref (m + 3), .null, .null, .int 0, .int 0, .null, .null, .null, .null, .null, .int 0, .int 0, .int 0, .int 0, .int 0, .int 0, .int 0, .int 0, .int 0, .int 0, .long 0, .int 0, .int 0, .int 0, .int 0, .int 0, .null, .null, .null, .int 0]), .inl (0, 280, .inl fun _ => 0), .inl (0, 280, .inl fun _ => 0), .inl (0, 2240, .inl fun _ => 0)] (sl + 280 + 280 + 2240)) _
  refine x_aload_n dX7_init_31 rfl ?_
  refine x_sipush (v := 560) dX7_init_32 (by decide) ?_
  refine x_newL (k := 4) (N' := 560) (Or.inl ⟨rfl, rfl, rfl⟩) q246 dX7_init_35 (by decide) (by decide) (by decide) rfl ?_
  change xW g iX7_init 3 37 _ _ (xl B m [.inr (6, [.ref (m + 1), .ref (m + 2), .ref (m + 3), .null, .null, .int 0, .int 0, .null, .null, .null, .null, .null, .int 0, .int 0, .int 0, .int 0, .int 0, .int 0, .int 0, .int 0, .int 0, .int 0, .long 0, .int 0, .int 0, .int 0, .int 0, .int 0, .null, .null, .null, .int 0]), .inl (0, 280, .inl fun _ => 0), .inl (0, 280, .inl fun _ => 0), .inl (0, 2240, .inl fun _ => 0), .inl (0, 560, .inl fun _ => 0)] (sl + 280 + 280 + 2240 + 560)) _
  refine x_putFL 0 fFX7_19_6 rfl dX7_init_37 rfl ⟨rfl, rfl⟩ (by exact Nat.le_of_ble_eq_true rfl) (Nat.add_zero m) ?_
  change xW g iX7_init 3 40 _ _ (xl B m [.inr (6, [.ref (m + 1), .ref (m + 2), .ref (m + 3), .ref (m + 4), .null, .int 0, .int 0, .null, .null, .null, .null, .null, .int 0, .int 0, .int 0, .int 0, .int 0, .int 0, .int 0, .int 0, .int 0, .int 0, .long 0, .int 0, .int 0, .int 0, .int 0, .int 0, .null, .null, .null, .int 0]), .inl (0, 280, .inl fun _ => 0), .inl (0, 280, .inl fun _ => 0), .inl (0, 2240, .inl fun _ => 0), .inl (0, 560, .inl fun _ => 0)] (sl + 280 + 280 + 2240 + 560)) _
  refine x_aload_n dX7_init_40 rfl ?_
  refine x_iconst (v := 2) dX7_init_41 rfl ?_
  refine x_newL (k := 5) (N' := 2) (Or.inr (Or.inr (Or.inl ⟨rfl, rfl, rfl⟩))) q3622 dX7_init_42 (by decide) (by decide) (by decide) rfl ?_
  change xW g iX7_init 3 44 _ _ (xl B m [.inr (6, [.ref (m + 1), .ref (m + 2), .ref (m + 3), .ref (m + 4), .null, .int 0, .int 0, .null, .null, .null, .null, .null, .int 0, .int 0, .int 0, .int 0, .int 0, .int 0, .int 0, .int 0, .int 0, .int 0, .long 0, .int 0, .int 0, .int 0, .int 0, .int 0, .null, .null, .null, .int 0]), .inl (0, 280, .inl fun _ => 0), .inl (0, 280, .inl fun _ => 0), .inl (0, 2240, .inl fun _ => 0), .inl (0, 560, .inl fun _ => 0), .inl (2, 2, .inl fun _ => 0)] (sl + 280 + 280 + 2240 + 560 + 2)) _
  refine x_putFL 0 fFX7_22_6 rfl dX7_init_44 rfl ⟨rfl, rfl⟩ (by exact Nat.le_of_ble_eq_true rfl) (Nat.add_zero m) ?_
  change xW g iX7_init 3 47 _ _ (xl B m [.inr (6, [.ref (m + 1), .ref (m + 2), .ref (m + 3), .ref (m + 4), .ref (m + 5), .int 0, .int 0, .null, .null, .null, .null, .null, .int 0, .int 0, .int 0, .int 0, .int 0, .int 0, .int 0, .int 0, .int 0, .int 0, .long 0, .int 0, .int 0, .int 0, .int 0, .int 0, .null, .null, .null, .int 0]), .inl (0, 280, .inl fun _ => 0), .inl (0, 280, .inl fun _ => 0), .inl (0, 2240, .inl fun _ => 0), .inl (0, 560, .inl fun _ => 0), .inl (2, 2, .inl fun _ => 0)] (sl + 280 + 280 + 2240 + 560 + 2)) _
  refine x_aload_n dX7_init_47 rfl ?_
  refine x_bipush (v := 16) dX7_init_48 (by decide) ?_
  refine x_newL (k := 6) (N' := 16) (Or.inl ⟨rfl, rfl, rfl⟩) q246 dX7_init_50 (by decide) (by decide) (by decide) rfl ?_
  change xW g iX7_init 3 52 _ _ (xl B m [.inr (6, [.ref (m + 1), .ref (m + 2), .ref (m + 3), .ref (m + 4), .ref (m + 5), .int 0, .int 0, .null, .null, .null, .null, .null, .int 0, .int 0, .int 0, .int 0, .int 0, .int 0, .int 0, .int 0, .int 0, .int 0, .long 0, .int 0, .int 0, .int 0, .int 0, .int 0, .null, .null, .null, .int 0]), .inl (0, 280, .inl fun _ => 0), .inl (0, 280, .inl fun _ => 0), .inl (0, 2240, .inl fun _ => 0), .inl (0, 560, .inl fun _ => 0), .inl (2, 2, .inl fun _ => 0), .inl (0, 16, .inl fun _ => 0)] (sl + 280 + 280 + 2240 + 560 + 2 + 16)) _
  refine x_dup dX7_init_52 rfl ?_
  refine x_iconst (v := 0) dX7_init_53 rfl ?_
  refine x_iconst (v := 0) dX7_init_54 rfl ?_
  refine x_iastL 6 0 dX7_init_55 rfl (by unfold vp_in; decide) (by decide) rfl ?_
  change xW g iX7_init 3 56 _ _ (xl B m [.inr (6, [.ref (m + 1), .ref (m + 2), .ref (m + 3), .ref (m + 4), .ref (m + 5), .int 0, .int 0, .null, .null, .null, .null, .null, .int 0, .int 0, .int 0, .int 0, .int 0, .int 0, .int 0, .int 0, .int 0, .int 0, .long 0, .int 0, .int 0, .int 0, .int 0, .int 0, .null, .null, .null, .int 0]), .inl (0, 280, .inl fun _ => 0), .inl (0, 280, .inl fun _ => 0), .inl (0, 2240, .inl fun _ => 0), .inl (0, 560, .inl fun _ => 0), .inl (2, 2, .inl fun _ => 0), .inl (0, 16, .inl (upd (fun _ => 0) 0 0))] (sl + 280 + 280 + 2240 + 560 + 2 + 16)) _
  refine x_dup dX7_init_56 rfl ?_
  refine x_iconst (v := 1) dX7_init_57 rfl ?_
  refine x_iconst (v := 1) dX7_init_58 rfl ?_
  refine x_iastL 6 1 dX7_init_59 rfl (by unfold vp_in; decide) (by decide) rfl ?_
  change xW g iX7_init 3 60 _ _ (xl B m [.inr (6, [.ref (m + 1), .ref (m + 2), .ref (m + 3), .ref (m + 4), .ref (m + 5), .int 0, .int 0, .null, .null, .null, .null, .null, .int 0, .int 0, .int 0, .int 0, .int 0, .int 0, .int 0, .int 0, .int 0, .int 0, .long 0, .int 0, .int 0, .int 0, .int 0, .int 0, .null, .null, .null, .int 0]), .inl (0, 280, .inl fun _ => 0), .inl (0, 280, .inl fun _ => 0), .inl (0, 2240, .inl fun _ => 0), .inl (0, 560, .inl fun _ => 0), .inl (2, 2, .inl fun _ => 0), .inl (0, 16, .inl (upd (upd (fun _ => 0) 0 0) 1 1))] (sl + 280 + 280 + 2240 + 560 + 2 + 16)) _
  refine x_dup dX7_init_60 rfl ?_
  refine x_iconst (v := 2) dX7_init_61 rfl ?_
  refine x_bipush (v := (-3)) dX7_init_62 (by decide) ?_
  refine x_iastL 6 2 dX7_init_64 rfl (by unfold vp_in; decide) (by decide) rfl ?_
  change xW g iX7_init 3 65 _ _ (xl B m [.inr (6, [.ref (m + 1), .ref (m + 2), .ref (m + 3), .ref (m + 4), .ref (m + 5), .int 0, .int 0, .null, .null, .null, .null, .null, .int 0, .int 0, .int 0, .int 0, .int 0, .int 0, .int 0, .int 0, .int 0, .int 0, .long 0, .int 0, .int 0, .int 0, .int 0, .int 0, .null, .null, .null, .int 0]), .inl (0, 280, .inl fun _ => 0), .inl (0, 280, .inl fun _ => 0), .inl (0, 2240, .inl fun _ => 0), .inl (0, 560, .inl fun _ => 0), .inl (2, 2, .inl fun _ => 0), .inl (0, 16, .inl (upd (upd (upd (fun _ => 0) 0 0) 1 1) 2 (-3)))] (sl + 280 + 280 + 2240 + 560 + 2 + 16)) _
  refine x_dup dX7_init_65 rfl ?_
  refine x_iconst (v := 3) dX7_init_66 rfl ?_
  refine x_iconst (v := 2) dX7_init_67 rfl ?_
  refine x_iastL 6 3 dX7_init_68 rfl (by unfold vp_in; decide) (by decide) rfl ?_
  change xW g iX7_init 3 69 _ _ (xl B m [.inr (6, [.ref (m + 1), .ref (m + 2), .ref (m + 3), .ref (m + 4), .ref (m + 5), .int 0, .int 0, .null, .null, .null, .null, .null, .int 0, .int 0, .int 0, .int 0, .int 0, .int 0, .int 0, .int 0, .int 0, .int 0, .long 0, .int 0, .int 0, .int 0, .int 0, .int 0, .null, .null, .null, .int 0]), .inl (0, 280, .inl fun _ => 0), .inl (0, 280, .inl fun _ => 0), .inl (0, 2240, .inl fun _ => 0), .inl (0, 560, .inl fun _ => 0), .inl (2, 2, .inl fun _ => 0), .inl (0, 16, .inl (upd (upd (upd (upd (fun _ => 0) 0 0) 1 1) 2 (-3)) 3 2))] (sl + 280 + 280 + 2240 + 560 + 2 + 16)) _
  refine x_dup dX7_init_69 rfl ?_
  refine x_iconst (v := 4) dX7_init_70 rfl ?_
  refine x_iconst (v := 5) dX7_init_71 rfl ?_
  refine x_iastL 6 4 dX7_init_72 rfl (by unfold vp_in; decide) (by decide) rfl ?_
  change xW g iX7_init 3 73 _ _ (xl B m [.inr (6, [.ref (m + 1), .ref (m + 2), .ref (m + 3), .ref (m + 4), .ref (m + 5), .int 0, .int 0, .null, .null, .null, .null, .null, .int 0, .int 0, .int 0, .int 0, .int 0, .int 0, .int 0, .int 0, .int 0, .int 0, .long 0, .int 0, .int 0, .int 0, .int 0, .int 0, .null, .null, .null, .int 0]), .inl (0, 280, .inl fun _ => 0), .inl (0, 280, .inl fun _ => 0), .inl (0, 2240, .inl fun _ => 0), .inl (0, 560, .inl fun _ => 0), .inl (2, 2, .inl fun _ => 0), .inl (0, 16, .inl (upd (upd (upd (upd (upd (fun _ => 0) 0 0) 1 1) 2 (-3)) 3 2) 4 5))] (sl + 280 + 280 + 2240 + 560 + 2 + 16)) _
  refine x_dup dX7_init_73 rfl ?_
  refine x_iconst (v := 5) dX7_init_74 rfl ?_
  refine x_iconst (v := 2) dX7_init_75 rfl ?_
  refine x_iastL 6 5 dX7_init_76 rfl (by unfold vp_in; decide) (by decide) rfl ?_
  change xW g iX7_init 3 77 _ _ (xl B m [.inr (6, [.ref (m + 1), .ref (m + 2), .ref (m + 3), .ref (m + 4), .ref (m + 5), .int 0, .int 0, .null, .null, .null, .null, .null, .int 0, .int 0, .int 0, .int 0, .int 0, .int 0, .int 0, .int 0, .int 0, .int 0, .long 0, .int 0, .int 0, .int 0, .int 0, .int 0, .null, .null, .null, .int 0]), .inl (0, 280, .inl fun _ => 0), .inl (0, 280, .inl fun _ => 0), .inl (0, 2240, .inl fun _ => 0), .inl (0, 560, .inl fun _ => 0), .inl (2, 2, .inl fun _ => 0), .inl (0, 16, .inl (upd (upd (upd (upd (upd (upd (fun _ => 0) 0 0) 1 1) 2 (-3)) 3 2) 4 5) 5 2))] (sl + 280 + 280 + 2240 + 560 + 2 + 16)) _
  refine x_dup dX7_init_77 rfl ?_
  refine x_bipush (v := 6) dX7_init_78 (by decide) ?_
  refine x_bipush (v := (-4)) dX7_init_80 (by decide) ?_
  refine x_iastL 6 6 dX7_init_82 rfl (by unfold vp_in; decide) (by decide) rfl ?_
  change xW g iX7_init 3 83 _ _ (xl B m [.inr (6, [.ref (m + 1), .ref (m + 2), .ref (m + 3), .ref (m + 4), .ref (m + 5), .int 0, .int 0, .null, .null, .null, .null, .null, .int 0, .int 0, .int 0, .int 0, .int 0, .int 0, .int 0, .int 0, .int 0, .int 0, .long 0, .int 0, .int 0, .int 0, .int 0, .int 0, .null, .null, .null, .int 0]), .inl (0, 280, .inl fun _ => 0), .inl (0, 280, .inl fun _ => 0), .inl (0, 2240, .inl fun _ => 0), .inl (0, 560, .inl fun _ => 0), .inl (2, 2, .inl fun _ => 0), .inl (0, 16, .inl (upd (upd (upd (upd (upd (upd (upd (fun _ => 0) 0 0) 1 1) 2 (-3)) 3 2) 4 5) 5 2) 6 (-4)))] (sl + 280 + 280 + 2240 + 560 + 2 + 16)) _
  refine x_dup dX7_init_83 rfl ?_
  refine x_bipush (v := 7) dX7_init_84 (by decide) ?_
  refine x_bipush (v := 12) dX7_init_86 (by decide) ?_
  refine x_iastL 6 7 dX7_init_88 rfl (by unfold vp_in; decide) (by decide) rfl ?_
  change xW g iX7_init 3 89 _ _ (xl B m [.inr (6, [.ref (m + 1), .ref (m + 2), .ref (m + 3), .ref (m + 4), .ref (m + 5), .int 0, .int 0, .null, .null, .null, .null, .null, .int 0, .int 0, .int 0, .int 0, .int 0, .int 0, .int 0, .int 0, .int 0, .int 0, .long 0, .int 0, .int 0, .int 0, .int 0, .int 0, .null, .null, .null, .int 0]), .inl (0, 280, .inl fun _ => 0), .inl (0, 280, .inl fun _ => 0), .inl (0, 2240, .inl fun _ => 0), .inl (0, 560, .inl fun _ => 0), .inl (2, 2, .inl fun _ => 0), .inl (0, 16, .inl (upd (upd (upd (upd (upd (upd (upd (upd (fun _ => 0) 0 0) 1 1) 2 (-3)) 3 2) 4 5) 5 2) 6 (-4)) 7 12))] (sl + 280 + 280 + 2240 + 560 + 2 + 16)) _
  refine x_dup dX7_init_89 rfl ?_
  refine x_bipush (v := 8) dX7_init_90 (by decide) ?_
  refine x_iconst (v := (-1)) dX7_init_92 rfl ?_
  refine x_iastL 6 8 dX7_init_93 rfl (by unfold vp_in; decide) (by decide) rfl ?_
  change xW g iX7_init 3 94 _ _ (xl B m [.inr (6, [.ref (m + 1), .ref (m + 2), .ref (m + 3), .ref (m + 4), .ref (m + 5), .int 0, .int 0, .null, .null, .null, .null, .null, .int 0, .int 0, .int 0, .int 0, .int 0, .int 0, .int 0, .int 0, .int 0, .int 0, .long 0, .int 0, .int 0, .int 0, .int 0, .int 0, .null, .null, .null, .int 0]), .inl (0, 280, .inl fun _ => 0), .inl (0, 280, .inl fun _ => 0), .inl (0, 2240, .inl fun _ => 0), .inl (0, 560, .inl fun _ => 0), .inl (2, 2, .inl fun _ => 0), .inl (0, 16, .inl (upd (upd (upd (upd (upd (upd (upd (upd (upd (fun _ => 0) 0 0) 1 1) 2 (-3)) 3 2) 4 5) 5 2) 6 (-4)) 7 12) 8 (-1)))] (sl + 280 + 280 + 2240 + 560 + 2 + 16)) _
  refine x_dup dX7_init_94 rfl ?_
  refine x_bipush (v := 9) dX7_init_95 (by decide) ?_
  refine x_bipush (v := (-30)) dX7_init_97 (by decide) ?_
  refine x_iastL 6 9 dX7_init_99 rfl (by unfold vp_in; decide) (by decide) rfl ?_
  change xW g iX7_init 3 100 _ _ (xl B m [.inr (6, [.ref (m + 1), .ref (m + 2), .ref (m + 3), .ref (m + 4), .ref (m + 5), .int 0, .int 0, .null, .null, .null, .null, .null, .int 0, .int 0, .int 0, .int 0, .int 0, .int 0, .int 0, .int 0, .int 0, .int 0, .long 0, .int 0, .int 0, .int 0, .int 0, .int 0, .null, .null, .null, .int 0]), .inl (0, 280, .inl fun _ => 0), .inl (0, 280, .inl fun _ => 0), .inl (0, 2240, .inl fun _ => 0), .inl (0, 560, .inl fun _ => 0), .inl (2, 2, .inl fun _ => 0), .inl (0, 16, .inl (upd (upd (upd (upd (upd (upd (upd (upd (upd (upd (fun _ => 0) 0 0) 1 1) 2 (-3)) 3 2) 4 5) 5 2) 6 (-4)) 7 12) 8 (-1)) 9 (-30)))] (sl + 280 + 280 + 2240 + 560 + 2 + 16)) _
  refine x_dup dX7_init_100 rfl ?_
  refine x_bipush (v := 10) dX7_init_101 (by decide) ?_
  refine x_iconst (v := 2) dX7_init_103 rfl ?_
  refine x_iastL 6 10 dX7_init_104 rfl (by unfold vp_in; decide) (by decide) rfl ?_
  change xW g iX7_init 3 105 _ _ (xl B m [.inr (6, [.ref (m + 1), .ref (m + 2), .ref (m + 3), .ref (m + 4), .ref (m + 5), .int 0, .int 0, .null, .null, .null, .null, .null, .int 0, .int 0, .int 0, .int 0, .int 0, .int 0, .int 0, .int 0, .int 0, .int 0, .long 0, .int 0, .int 0, .int 0, .int 0, .int 0, .null, .null, .null, .int 0]), .inl (0, 280, .inl fun _ => 0), .inl (0, 280, .inl fun _ => 0), .inl (0, 2240, .inl fun _ => 0), .inl (0, 560, .inl fun _ => 0), .inl (2, 2, .inl fun _ => 0), .inl (0, 16, .inl (upd (upd (upd (upd (upd (upd (upd (upd (upd (upd (upd (fun _ => 0) 0 0) 1 1) 2 (-3)) 3 2) 4 5) 5 2) 6 (-4)) 7 12) 8 (-1)) 9 (-30)) 10 2))] (sl + 280 + 280 + 2240 + 560 + 2 + 16)) _
  refine x_dup dX7_init_105 rfl ?_
  refine x_bipush (v := 11) dX7_init_106 (by decide) ?_
  refine x_iconst (v := 1) dX7_init_108 rfl ?_
  refine x_iastL 6 11 dX7_init_109 rfl (by unfold vp_in; decide) (by decide) rfl ?_
  change xW g iX7_init 3 110 _ _ (xl B m [.inr (6, [.ref (m + 1), .ref (m + 2), .ref (m + 3), .ref (m + 4), .ref (m + 5), .int 0, .int 0, .null, .null, .null, .null, .null, .int 0, .int 0, .int 0, .int 0, .int 0, .int 0, .int 0, .int 0, .int 0, .int 0, .long 0, .int 0, .int 0, .int 0, .int 0, .int 0, .null, .null, .null, .int 0]), .inl (0, 280, .inl fun _ => 0), .inl (0, 280, .inl fun _ => 0), .inl (0, 2240, .inl fun _ => 0), .inl (0, 560, .inl fun _ => 0), .inl (2, 2, .inl fun _ => 0), .inl (0, 16, .inl (upd (upd (upd (upd (upd (upd (upd (upd (upd (upd (upd (upd (fun _ => 0) 0 0) 1 1) 2 (-3)) 3 2) 4 5) 5 2) 6 (-4)) 7 12) 8 (-1)) 9 (-30)) 10 2) 11 1))] (sl + 280 + 280 + 2240 + 560 + 2 + 16)) _
  refine x_dup dX7_init_110 rfl ?_
  refine x_bipush (v := 12) dX7_init_111 (by decide) ?_
  refine x_sipush (v := (-180)) dX7_init_113 (by decide) ?_
  refine x_iastL 6 12 dX7_init_116 rfl (by unfold vp_in; decide) (by decide) rfl ?_
  change xW g iX7_init 3 117 _ _ (xl B m [.inr (6, [.ref (m + 1), .ref (m + 2), .ref (m + 3), .ref (m + 4), .ref (m + 5), .int 0, .int 0, .null, .null, .null, .null, .null, .int 0, .int 0, .int 0, .int 0, .int 0, .int 0, .int 0, .int 0, .int 0, .int 0, .long 0, .int 0, .int 0, .int 0, .int 0, .int 0, .null, .null, .null, .int 0]), .inl (0, 280, .inl fun _ => 0), .inl (0, 280, .inl fun _ => 0), .inl (0, 2240, .inl fun _ => 0), .inl (0, 560, .inl fun _ => 0), .inl (2, 2, .inl fun _ => 0), .inl (0, 16, .inl (upd (upd (upd (upd (upd (upd (upd (upd (upd (upd (upd (upd (upd (fun _ => 0) 0 0) 1 1) 2 (-3)) 3 2) 4 5) 5 2) 6 (-4)) 7 12) 8 (-1)) 9 (-30)) 10 2) 11 1) 12 (-180)))] (sl + 280 + 280 + 2240 + 560 + 2 + 16)) _
  refine x_dup dX7_init_117 rfl ?_
  refine x_bipush (v := 13) dX7_init_118 (by decide) ?_
  refine x_iconst (v := 0) dX7_init_120 rfl ?_
  refine x_iastL 6 13 dX7_init_121 rfl (by unfold vp_in; decide) (by decide) rfl ?_
  change xW g iX7_init 3 122 _ _ (xl B m [.inr (6, [.ref (m + 1), .ref (m + 2), .ref (m + 3), .ref (m + 4), .ref (m + 5), .int 0, .int 0, .null, .null, .null, .null, .null, .int 0, .int 0, .int 0, .int 0, .int 0, .int 0, .int 0, .int 0, .int 0, .int 0, .long 0, .int 0, .int 0, .int 0, .int 0, .int 0, .null, .null, .null, .int 0]), .inl (0, 280, .inl fun _ => 0), .inl (0, 280, .inl fun _ => 0), .inl (0, 2240, .inl fun _ => 0), .inl (0, 560, .inl fun _ => 0), .inl (2, 2, .inl fun _ => 0), .inl (0, 16, .inl (upd (upd (upd (upd (upd (upd (upd (upd (upd (upd (upd (upd (upd (upd (fun _ => 0) 0 0) 1 1) 2 (-3)) 3 2) 4 5) 5 2) 6 (-4)) 7 12) 8 (-1)) 9 (-30)) 10 2) 11 1) 12 (-180)) 13 0))] (sl + 280 + 280 + 2240 + 560 + 2 + 16)) _
  refine x_dup dX7_init_122 rfl ?_
  refine x_bipush (v := 14) dX7_init_123 (by decide) ?_
  refine x_iconst (v := 3) dX7_init_125 rfl ?_
  refine x_iastL 6 14 dX7_init_126 rfl (by unfold vp_in; decide) (by decide) rfl ?_
  change xW g iX7_init 3 127 _ _ (xl B m [.inr (6, [.ref (m + 1), .ref (m + 2), .ref (m + 3), .ref (m + 4), .ref (m + 5), .int 0, .int 0, .null, .null, .null, .null, .null, .int 0, .int 0, .int 0, .int 0, .int 0, .int 0, .int 0, .int 0, .int 0, .int 0, .long 0, .int 0, .int 0, .int 0, .int 0, .int 0, .null, .null, .null, .int 0]), .inl (0, 280, .inl fun _ => 0), .inl (0, 280, .inl fun _ => 0), .inl (0, 2240, .inl fun _ => 0), .inl (0, 560, .inl fun _ => 0), .inl (2, 2, .inl fun _ => 0), .inl (0, 16, .inl (upd (upd (upd (upd (upd (upd (upd (upd (upd (upd (upd (upd (upd (upd (upd (fun _ => 0) 0 0) 1 1) 2 (-3)) 3 2) 4 5) 5 2) 6 (-4)) 7 12) 8 (-1)) 9 (-30)) 10 2) 11 1) 12 (-180)) 13 0) 14 3))] (sl + 280 + 280 + 2240 + 560 + 2 + 16)) _
  refine x_dup dX7_init_127 rfl ?_
  refine x_bipush (v := 15) dX7_init_128 (by decide) ?_
  refine x_iconst (v := 0) dX7_init_130 rfl ?_
  refine x_iastL 6 15 dX7_init_131 rfl (by unfold vp_in; decide) (by decide) rfl ?_
  change xW g iX7_init 3 132 _ _ (xl B m [.inr (6, [.ref (m + 1), .ref (m + 2), .ref (m + 3), .ref (m + 4), .ref (m + 5), .int 0, .int 0, .null, .null, .null, .null, .null, .int 0, .int 0, .int 0, .int 0, .int 0, .int 0, .int 0, .int 0, .int 0, .int 0, .long 0, .int 0, .int 0, .int 0, .int 0, .int 0, .null, .null, .null, .int 0]), .inl (0, 280, .inl fun _ => 0), .inl (0, 280, .inl fun _ => 0), .inl (0, 2240, .inl fun _ => 0), .inl (0, 560, .inl fun _ => 0), .inl (2, 2, .inl fun _ => 0), .inl (0, 16, .inl (upd (upd (upd (upd (upd (upd (upd (upd (upd (upd (upd (upd (upd (upd (upd (upd (fun _ => 0) 0 0) 1 1) 2 (-3)) 3 2) 4 5) 5 2) 6 (-4)) 7 12) 8 (-1)) 9 (-30)) 10 2) 11 1) 12 (-180)) 13 0) 14 3) 15 0))] (sl + 280 + 280 + 2240 + 560 + 2 + 16)) _
  refine x_putFL 0 fFX7_26_6 rfl dX7_init_132 rfl ⟨rfl, rfl⟩ (by exact Nat.le_of_ble_eq_true rfl) (Nat.add_zero m) ?_
  change xW g iX7_init 3 135 _ _ (xl B m [.inr (6, [.ref (m + 1), .ref (m + 2), .ref (m + 3), .ref (m + 4), .ref (m + 5), .int 0, .int 0, .ref (m + 6), .null, .null, .null, .null, .int 0, .int 0, .int 0, .int 0, .int 0, .int 0, .int 0, .int 0, .int 0, .int 0, .long 0, .int 0, .int 0, .int 0, .int 0, .int 0, .null, .null, .null, .int 0]), .inl (0, 280, .inl fun _ => 0), .inl (0, 280, .inl fun _ => 0), .inl (0, 2240, .inl fun _ => 0), .inl (0, 560, .inl fun _ => 0), .inl (2, 2, .inl fun _ => 0), .inl (0, 16, .inl (upd (upd (upd (upd (upd (upd (upd (upd (upd (upd (upd (upd (upd (upd (upd (upd (fun _ => 0) 0 0) 1 1) 2 (-3)) 3 2) 4 5) 5 2) 6 (-4)) 7 12) 8 (-1)) 9 (-30)) 10 2) 11 1) 12 (-180)) 13 0) 14 3) 15 0))] (sl + 280 + 280 + 2240 + 560 + 2 + 16)) _
  refine x_aload_n dX7_init_135 rfl ?_
  refine x_bipush (v := 10) dX7_init_136 (by decide) ?_
  refine x_newL (k := 7) (N' := 10) (Or.inl ⟨rfl, rfl, rfl⟩) q246 dX7_init_138 (by decide) (by decide) (by decide) rfl ?_
  change xW g iX7_init 3 140 _ _ (xl B m [.inr (6, [.ref (m + 1), .ref (m + 2), .ref (m + 3), .ref (m + 4), .ref (m + 5), .int 0, .int 0, .ref (m + 6), .null, .null, .null, .null, .int 0, .int 0, .int 0, .int 0, .int 0, .int 0, .int 0, .int 0, .int 0, .int 0, .long 0, .int 0, .int 0, .int 0, .int 0, .int 0, .null, .null, .null, .int 0]), .inl (0, 280, .inl fun _ => 0), .inl (0, 280, .inl fun _ => 0), .inl (0, 2240, .inl fun _ => 0), .inl (0, 560, .inl fun _ => 0), .inl (2, 2, .inl fun _ => 0), .inl (0, 16, .inl (upd (upd (upd (upd (upd (upd (upd (upd (upd (upd (upd (upd (upd (upd (upd (upd (fun _ => 0) 0 0) 1 1) 2 (-3)) 3 2) 4 5) 5 2) 6 (-4)) 7 12) 8 (-1)) 9 (-30)) 10 2) 11 1) 12 (-180)) 13 0) 14 3) 15 0)), .inl (0, 10, .inl fun _ => 0)] (sl + 280 + 280 + 2240 + 560 + 2 + 16 + 10)) _
  refine x_putFL 0 fFX7_29_6 rfl dX7_init_140 rfl ⟨rfl, rfl⟩ (by exact Nat.le_of_ble_eq_true rfl) (Nat.add_zero m) ?_
  change xW g iX7_init 3 143 _ _ (xl B m [.inr (6, [.ref (m + 1), .ref (m + 2), .ref (m + 3), .ref (m + 4), .ref (m + 5), .int 0, .int 0, .ref (m + 6), .ref (m + 7), .null, .null, .null, .int 0, .int 0, .int 0, .int 0, .int 0, .int 0, .int 0, .int 0, .int 0, .int 0, .long 0, .int 0, .int 0, .int 0, .int 0, .int 0, .null, .null, .null, .int 0]), .inl (0, 280, .inl fun _ => 0), .inl (0, 280, .inl fun _ => 0), .inl (0, 2240, .inl fun _ => 0), .inl (0, 560, .inl fun _ => 0), .inl (2, 2, .inl fun _ => 0), .inl (0, 16, .inl (upd (upd (upd (upd (upd (upd (upd (upd (upd (upd (upd (upd (upd (upd (upd (upd (fun _ => 0) 0 0) 1 1) 2 (-3)) 3 2) 4 5) 5 2) 6 (-4)) 7 12) 8 (-1)) 9 (-30)) 10 2) 11 1) 12 (-180)) 13 0) 14 3) 15 0)), .inl (0, 10, .inl fun _ => 0)] (sl + 280 + 280 + 2240 + 560 + 2 + 16 + 10)) _
  refine x_aload_n dX7_init_143 rfl ?_
  refine x_iconst (v := 4) dX7_init_144 rfl ?_
  refine x_newL (k := 8) (N' := 4) (Or.inr (Or.inr (Or.inr ⟨rfl, rfl, rfl⟩))) q3623 dX7_init_145 (by decide) (by decide) (by decide) rfl ?_
  change xW g iX7_init 3 147 _ _ (xl B m [.inr (6, [.ref (m + 1), .ref (m + 2), .ref (m + 3), .ref (m + 4), .ref (m + 5), .int 0, .int 0, .ref (m + 6), .ref (m + 7), .null, .null, .null, .int 0, .int 0, .int 0, .int 0, .int 0, .int 0, .int 0, .int 0, .int 0, .int 0, .long 0, .int 0, .int 0, .int 0, .int 0, .int 0, .null, .null, .null, .int 0]), .inl (0, 280, .inl fun _ => 0), .inl (0, 280, .inl fun _ => 0), .inl (0, 2240, .inl fun _ => 0), .inl (0, 560, .inl fun _ => 0), .inl (2, 2, .inl fun _ => 0), .inl (0, 16, .inl (upd (upd (upd (upd (upd (upd (upd (upd (upd (upd (upd (upd (upd (upd (upd (upd (fun _ => 0) 0 0) 1 1) 2 (-3)) 3 2) 4 5) 5 2) 6 (-4)) 7 12) 8 (-1)) 9 (-30)) 10 2) 11 1) 12 (-180)) 13 0) 14 3) 15 0)), .inl (0, 10, .inl fun _ => 0), .inl (3, 4, .inr (.inl fun _ => 0))] (sl + 280 + 280 + 2240 + 560 + 2 + 16 + 10 + 4)) _
  refine x_dup dX7_init_147 rfl ?_
  refine x_iconst (v := 0) dX7_init_148 rfl ?_
  refine x_ldc2 (v := 7) q3511 dX7_init_149 ?_
  refine x_lastL 8 0 dX7_init_152 rfl (by unfold vp_in; decide) (by decide) rfl ?_
  change xW g iX7_init 3 153 _ _ (xl B m [.inr (6, [.ref (m + 1), .ref (m + 2), .ref (m + 3), .ref (m + 4), .ref (m + 5), .int 0, .int 0, .ref (m + 6), .ref (m + 7), .null, .null, .null, .int 0, .int 0, .int 0, .int 0, .int 0, .int 0, .int 0, .int 0, .int 0, .int 0, .long 0, .int 0, .int 0, .int 0, .int 0, .int 0, .null, .null, .null, .int 0]), .inl (0, 280, .inl fun _ => 0), .inl (0, 280, .inl fun _ => 0), .inl (0, 2240, .inl fun _ => 0), .inl (0, 560, .inl fun _ => 0), .inl (2, 2, .inl fun _ => 0), .inl (0, 16, .inl (upd (upd (upd (upd (upd (upd (upd (upd (upd (upd (upd (upd (upd (upd (upd (upd (fun _ => 0) 0 0) 1 1) 2 (-3)) 3 2) 4 5) 5 2) 6 (-4)) 7 12) 8 (-1)) 9 (-30)) 10 2) 11 1) 12 (-180)) 13 0) 14 3) 15 0)), .inl (0, 10, .inl fun _ => 0), .inl (3, 4, .inr (.inl (vp_updL (fun _ => 0) 0 7)))] (sl + 280 + 280 + 2240 + 560 + 2 + 16 + 10 + 4)) _
  refine x_dup dX7_init_153 rfl ?_
  refine x_iconst (v := 1) dX7_init_154 rfl ?_
  refine x_ldc2 (v := 4) q3512 dX7_init_155 ?_
  refine x_lastL 8 1 dX7_init_158 rfl (by unfold vp_in; decide) (by decide) rfl ?_
  change xW g iX7_init 3 159 _ _ (xl B m [.inr (6, [.ref (m + 1), .ref (m + 2), .ref (m + 3), .ref (m + 4), .ref (m + 5), .int 0, .int 0, .ref (m + 6), .ref (m + 7), .null, .null, .null, .int 0, .int 0, .int 0, .int 0, .int 0, .int 0, .int 0, .int 0, .int 0, .int 0, .long 0, .int 0, .int 0, .int 0, .int 0, .int 0, .null, .null, .null, .int 0]), .inl (0, 280, .inl fun _ => 0), .inl (0, 280, .inl fun _ => 0), .inl (0, 2240, .inl fun _ => 0), .inl (0, 560, .inl fun _ => 0), .inl (2, 2, .inl fun _ => 0), .inl (0, 16, .inl (upd (upd (upd (upd (upd (upd (upd (upd (upd (upd (upd (upd (upd (upd (upd (upd (fun _ => 0) 0 0) 1 1) 2 (-3)) 3 2) 4 5) 5 2) 6 (-4)) 7 12) 8 (-1)) 9 (-30)) 10 2) 11 1) 12 (-180)) 13 0) 14 3) 15 0)), .inl (0, 10, .inl fun _ => 0), .inl (3, 4, .inr (.inl (vp_updL (vp_updL (fun _ => 0) 0 7) 1 4)))] (sl + 280 + 280 + 2240 + 560 + 2 + 16 + 10 + 4)) _
  refine x_dup dX7_init_159 rfl ?_
  refine x_iconst (v := 2) dX7_init_160 rfl ?_
  refine x_lconst (v := 1) dX7_init_161 rfl ?_
  refine x_lastL 8 2 dX7_init_162 rfl (by unfold vp_in; decide) (by decide) rfl ?_
  change xW g iX7_init 3 163 _ _ (xl B m [.inr (6, [.ref (m + 1), .ref (m + 2), .ref (m + 3), .ref (m + 4), .ref (m + 5), .int 0, .int 0, .ref (m + 6), .ref (m + 7), .null, .null, .null, .int 0, .int 0, .int 0, .int 0, .int 0, .int 0, .int 0, .int 0, .int 0, .int 0, .long 0, .int 0, .int 0, .int 0, .int 0, .int 0, .null, .null, .null, .int 0]), .inl (0, 280, .inl fun _ => 0), .inl (0, 280, .inl fun _ => 0), .inl (0, 2240, .inl fun _ => 0), .inl (0, 560, .inl fun _ => 0), .inl (2, 2, .inl fun _ => 0), .inl (0, 16, .inl (upd (upd (upd (upd (upd (upd (upd (upd (upd (upd (upd (upd (upd (upd (upd (upd (fun _ => 0) 0 0) 1 1) 2 (-3)) 3 2) 4 5) 5 2) 6 (-4)) 7 12) 8 (-1)) 9 (-30)) 10 2) 11 1) 12 (-180)) 13 0) 14 3) 15 0)), .inl (0, 10, .inl fun _ => 0), .inl (3, 4, .inr (.inl (vp_updL (vp_updL (vp_updL (fun _ => 0) 0 7) 1 4) 2 1)))] (sl + 280 + 280 + 2240 + 560 + 2 + 16 + 10 + 4)) _
  refine x_dup dX7_init_163 rfl ?_
  refine x_iconst (v := 3) dX7_init_164 rfl ?_
  refine x_ldc2 (v := 5) q3513 dX7_init_165 ?_
  refine x_lastL 8 3 dX7_init_168 rfl (by unfold vp_in; decide) (by decide) rfl ?_
  change xW g iX7_init 3 169 _ _ (xl B m [.inr (6, [.ref (m + 1), .ref (m + 2), .ref (m + 3), .ref (m + 4), .ref (m + 5), .int 0, .int 0, .ref (m + 6), .ref (m + 7), .null, .null, .null, .int 0, .int 0, .int 0, .int 0, .int 0, .int 0, .int 0, .int 0, .int 0, .int 0, .long 0, .int 0, .int 0, .int 0, .int 0, .int 0, .null, .null, .null, .int 0]), .inl (0, 280, .inl fun _ => 0), .inl (0, 280, .inl fun _ => 0), .inl (0, 2240, .inl fun _ => 0), .inl (0, 560, .inl fun _ => 0), .inl (2, 2, .inl fun _ => 0), .inl (0, 16, .inl (upd (upd (upd (upd (upd (upd (upd (upd (upd (upd (upd (upd (upd (upd (upd (upd (fun _ => 0) 0 0) 1 1) 2 (-3)) 3 2) 4 5) 5 2) 6 (-4)) 7 12) 8 (-1)) 9 (-30)) 10 2) 11 1) 12 (-180)) 13 0) 14 3) 15 0)), .inl (0, 10, .inl fun _ => 0), .inl (3, 4, .inr (.inl (vp_updL (vp_updL (vp_updL (vp_updL (fun _ => 0) 0 7) 1 4) 2 1) 3 5)))] (sl + 280 + 280 + 2240 + 560 + 2 + 16 + 10 + 4)) _
  refine x_putFL 0 fFX7_38_6 rfl dX7_init_169 rfl ⟨rfl, rfl⟩ (by exact Nat.le_of_ble_eq_true rfl) (Nat.add_zero m) ?_
  change xW g iX7_init 3 172 _ _ (xl B m [.inr (6, [.ref (m + 1), .ref (m + 2), .ref (m + 3), .ref (m + 4), .ref (m + 5), .int 0, .int 0, .ref (m + 6), .ref (m + 7), .ref (m + 8), .null, .null, .int 0, .int 0, .int 0, .int 0, .int 0, .int 0, .int 0, .int 0, .int 0, .int 0, .long 0, .int 0, .int 0, .int 0, .int 0, .int 0, .null, .null, .null, .int 0]), .inl (0, 280, .inl fun _ => 0), .inl (0, 280, .inl fun _ => 0), .inl (0, 2240, .inl fun _ => 0), .inl (0, 560, .inl fun _ => 0), .inl (2, 2, .inl fun _ => 0), .inl (0, 16, .inl (upd (upd (upd (upd (upd (upd (upd (upd (upd (upd (upd (upd (upd (upd (upd (upd (fun _ => 0) 0 0) 1 1) 2 (-3)) 3 2) 4 5) 5 2) 6 (-4)) 7 12) 8 (-1)) 9 (-30)) 10 2) 11 1) 12 (-180)) 13 0) 14 3) 15 0)), .inl (0, 10, .inl fun _ => 0), .inl (3, 4, .inr (.inl (vp_updL (vp_updL (vp_updL (vp_updL (fun _ => 0) 0 7) 1 4) 2 1) 3 5)))] (sl + 280 + 280 + 2240 + 560 + 2 + 16 + 10 + 4)) _
  refine x_aload_n dX7_init_172 rfl ?_
  refine x_sipush (v := 800) dX7_init_173 (by decide) ?_
  refine x_newL (k := 9) (N' := 800) (Or.inl ⟨rfl, rfl, rfl⟩) q246 dX7_init_176 (by decide) (by decide) (by decide) rfl ?_
  change xW g iX7_init 3 178 _ _ (xl B m [.inr (6, [.ref (m + 1), .ref (m + 2), .ref (m + 3), .ref (m + 4), .ref (m + 5), .int 0, .int 0, .ref (m + 6), .ref (m + 7), .ref (m + 8), .null, .null, .int 0, .int 0, .int 0, .int 0, .int 0, .int 0, .int 0, .int 0, .int 0, .int 0, .long 0, .int 0, .int 0, .int 0, .int 0, .int 0, .null, .null, .null, .int 0]), .inl (0, 280, .inl fun _ => 0), .inl (0, 280, .inl fun _ => 0), .inl (0, 2240, .inl fun _ => 0), .inl (0, 560, .inl fun _ => 0), .inl (2, 2, .inl fun _ => 0), .inl (0, 16, .inl (upd (upd (upd (upd (upd (upd (upd (upd (upd (upd (upd (upd (upd (upd (upd (upd (fun _ => 0) 0 0) 1 1) 2 (-3)) 3 2) 4 5) 5 2) 6 (-4)) 7 12) 8 (-1)) 9 (-30)) 10 2) 11 1) 12 (-180)) 13 0) 14 3) 15 0)), .inl (0, 10, .inl fun _ => 0), .inl (3, 4, .inr (.inl (vp_updL (vp_updL (vp_updL (vp_updL (fun _ => 0) 0 7) 1 4) 2 1) 3 5))), .inl (0, 800, .inl fun _ => 0)] (sl + 280 + 280 + 2240 + 560 + 2 + 16 + 10 + 4 + 800)) _
  refine x_putFL 0 fFX7_42_6 rfl dX7_init_178 rfl ⟨rfl, rfl⟩ (by exact Nat.le_of_ble_eq_true rfl) (Nat.add_zero m) ?_
  change xW g iX7_init 3 181 _ _ (xl B m [.inr (6, [.ref (m + 1), .ref (m + 2), .ref (m + 3), .ref (m + 4), .ref (m + 5), .int 0, .int 0, .ref (m + 6), .ref (m + 7), .ref (m + 8), .ref (m + 9), .null, .int 0, .int 0, .int 0, .int 0, .int 0, .int 0, .int 0, .int 0, .int 0, .int 0, .long 0, .int 0, .int 0, .int 0, .int 0, .int 0, .null, .null, .null, .int 0]), .inl (0, 280, .inl fun _ => 0), .inl (0, 280, .inl fun _ => 0), .inl (0, 2240, .inl fun _ => 0), .inl (0, 560, .inl fun _ => 0), .inl (2, 2, .inl fun _ => 0), .inl (0, 16, .inl (upd (upd (upd (upd (upd (upd (upd (upd (upd (upd (upd (upd (upd (upd (upd (upd (fun _ => 0) 0 0) 1 1) 2 (-3)) 3 2) 4 5) 5 2) 6 (-4)) 7 12) 8 (-1)) 9 (-30)) 10 2) 11 1) 12 (-180)) 13 0) 14 3) 15 0)), .inl (0, 10, .inl fun _ => 0), .inl (3, 4, .inr (.inl (vp_updL (vp_updL (vp_updL (vp_updL (fun _ => 0) 0 7) 1 4) 2 1) 3 5))), .inl (0, 800, .inl fun _ => 0)] (sl + 280 + 280 + 2240 + 560 + 2 + 16 + 10 + 4 + 800)) _
  refine x_aload_n dX7_init_181 rfl ?_
  refine x_sipush (v := 800) dX7_init_182 (by decide) ?_
  refine x_newL (k := 10) (N' := 800) (Or.inl ⟨rfl, rfl, rfl⟩) q246 dX7_init_185 (by decide) (by decide) (by decide) rfl ?_
  change xW g iX7_init 3 187 _ _ (xl B m [.inr (6, [.ref (m + 1), .ref (m + 2), .ref (m + 3), .ref (m + 4), .ref (m + 5), .int 0, .int 0, .ref (m + 6), .ref (m + 7), .ref (m + 8), .ref (m + 9), .null, .int 0, .int 0, .int 0, .int 0, .int 0, .int 0, .int 0, .int 0, .int 0, .int 0, .long 0, .int 0, .int 0, .int 0, .int 0, .int 0, .null, .null, .null, .int 0]), .inl (0, 280, .inl fun _ => 0), .inl (0, 280, .inl fun _ => 0), .inl (0, 2240, .inl fun _ => 0), .inl (0, 560, .inl fun _ => 0), .inl (2, 2, .inl fun _ => 0), .inl (0, 16, .inl (upd (upd (upd (upd (upd (upd (upd (upd (upd (upd (upd (upd (upd (upd (upd (upd (fun _ => 0) 0 0) 1 1) 2 (-3)) 3 2) 4 5) 5 2) 6 (-4)) 7 12) 8 (-1)) 9 (-30)) 10 2) 11 1) 12 (-180)) 13 0) 14 3) 15 0)), .inl (0, 10, .inl fun _ => 0), .inl (3, 4, .inr (.inl (vp_updL (vp_updL (vp_updL (vp_updL (fun _ => 0) 0 7) 1 4) 2 1) 3 5))), .inl (0, 800, .inl fun _ => 0), .inl (0, 800, .inl fun _ => 0)] (sl + 280 + 280 + 2240 + 560 + 2 + 16 + 10 + 4 + 800 + 800)) _
  refine x_putFL 0 fFX7_45_6 rfl dX7_init_187 rfl ⟨rfl, rfl⟩ (by exact Nat.le_of_ble_eq_true rfl) (Nat.add_zero m) ?_
  change xW g iX7_init 3 190 _ _ (xl B m [.inr (6, [.ref (m + 1), .ref (m + 2), .ref (m + 3), .ref (m + 4), .ref (m + 5), .int 0, .int 0, .ref (m + 6), .ref (m + 7), .ref (m + 8), .ref (m + 9), .ref (m + 10), .int 0, .int 0, .int 0, .int 0, .int 0, .int 0, .int 0, .int 0, .int 0, .int 0, .long 0, .int 0, .int 0, .int 0, .int 0, .int 0, .null, .null, .null, .int 0]), .inl (0, 280, .inl fun _ => 0), .inl (0, 280, .inl fun _ => 0), .inl (0, 2240, .inl fun _ => 0), .inl (0, 560, .inl fun _ => 0), .inl (2, 2, .inl fun _ => 0), .inl (0, 16, .inl (upd (upd (upd (upd (upd (upd (upd (upd (upd (upd (upd (upd (upd (upd (upd (upd (fun _ => 0) 0 0) 1 1) 2 (-3)) 3 2) 4 5) 5 2) 6 (-4)) 7 12) 8 (-1)) 9 (-30)) 10 2) 11 1) 12 (-180)) 13 0) 14 3) 15 0)), .inl (0, 10, .inl fun _ => 0), .inl (3, 4, .inr (.inl (vp_updL (vp_updL (vp_updL (vp_updL (fun _ => 0) 0 7) 1 4) 2 1) 3 5))), .inl (0, 800, .inl fun _ => 0), .inl (0, 800, .inl fun _ => 0)] (sl + 280 + 280 + 2240 + 560 + 2 + 16 + 10 + 4 + 800 + 800)) _
  refine x_aload_n dX7_init_190 rfl ?_
  refine x_iconst (v := (-1)) dX7_init_191 rfl ?_
  refine x_putL 0 fpX7_48_6 dX7_init_192 rfl ⟨rfl, rfl⟩ (by exact Nat.le_of_ble_eq_true rfl) (Nat.add_zero m) ?_
  change xW g iX7_init 3 195 _ _ (xl B m [.inr (6, [.ref (m + 1), .ref (m + 2), .ref (m + 3), .ref (m + 4), .ref (m + 5), .int 0, .int 0, .ref (m + 6), .ref (m + 7), .ref (m + 8), .ref (m + 9), .ref (m + 10), .int 0, .int 0, .int 0, .int 0, .int 0, .int 0, .int 0, .int 0, .int 0, .int (-1), .long 0, .int 0, .int 0, .int 0, .int 0, .int 0, .null, .null, .null, .int 0]), .inl (0, 280, .inl fun _ => 0), .inl (0, 280, .inl fun _ => 0), .inl (0, 2240, .inl fun _ => 0), .inl (0, 560, .inl fun _ => 0), .inl (2, 2, .inl fun _ => 0), .inl (0, 16, .inl (upd (upd (upd (upd (upd (upd (upd (upd (upd (upd (upd (upd (upd (upd (upd (upd (fun _ => 0) 0 0) 1 1) 2 (-3)) 3 2) 4 5) 5 2) 6 (-4)) 7 12) 8 (-1)) 9 (-30)) 10 2) 11 1) 12 (-180)) 13 0) 14 3) 15 0)), .inl (0, 10, .inl fun _ => 0), .inl (3, 4, .inr (.inl (vp_updL (vp_updL (vp_updL (vp_updL (fun _ => 0) 0 7) 1 4) 2 1) 3 5))), .inl (0, 800, .inl fun _ => 0), .inl (0, 800, .inl fun _ => 0)] (sl + 280 + 280 + 2240 + 560 + 2 + 16 + 10 + 4 + 800 + 800)) _
  refine x_aload_n dX7_init_195 rfl ?_
  refine x_iconst (v := 4) dX7_init_196 rfl ?_
  refine x_newL (k := 11) (N' := 4) (Or.inl ⟨rfl, rfl, rfl⟩) q246 dX7_init_197 (by decide) (by decide) (by decide) rfl ?_
  change xW g iX7_init 3 199 _ _ (xl B m [.inr (6, [.ref (m + 1), .ref (m + 2), .ref (m + 3), .ref (m + 4), .ref (m + 5), .int 0, .int 0, .ref (m + 6), .ref (m + 7), .ref (m + 8), .ref (m + 9), .ref (m + 10), .int 0, .int 0, .int 0, .int 0, .int 0, .int 0, .int 0, .int 0, .int 0, .int (-1), .long 0, .int 0, .int 0, .int 0, .int 0, .int 0, .null, .null, .null, .int 0]), .inl (0, 280, .inl fun _ => 0), .inl (0, 280, .inl fun _ => 0), .inl (0, 2240, .inl fun _ => 0), .inl (0, 560, .inl fun _ => 0), .inl (2, 2, .inl fun _ => 0), .inl (0, 16, .inl (upd (upd (upd (upd (upd (upd (upd (upd (upd (upd (upd (upd (upd (upd (upd (upd (fun _ => 0) 0 0) 1 1) 2 (-3)) 3 2) 4 5) 5 2) 6 (-4)) 7 12) 8 (-1)) 9 (-30)) 10 2) 11 1) 12 (-180)) 13 0) 14 3) 15 0)), .inl (0, 10, .inl fun _ => 0), .inl (3, 4, .inr (.inl (vp_updL (vp_updL (vp_updL (vp_updL (fun _ => 0) 0 7) 1 4) 2 1) 3 5))), .inl (0, 800, .inl fun _ => 0), .inl (0, 800, .inl fun _ => 0), .inl (0, 4, .inl fun _ => 0)] (sl + 280 + 280 + 2240 + 560 + 2 + 16 + 10 + 4 + 800 + 800 + 4)) _
  refine x_putFL 0 fFX7_52_6 rfl dX7_init_199 rfl ⟨rfl, rfl⟩ (by exact Nat.le_of_ble_eq_true rfl) (Nat.add_zero m) ?_
  change xW g iX7_init 3 202 _ _ (xl B m [.inr (6, [.ref (m + 1), .ref (m + 2), .ref (m + 3), .ref (m + 4), .ref (m + 5), .int 0, .int 0, .ref (m + 6), .ref (m + 7), .ref (m + 8), .ref (m + 9), .ref (m + 10), .int 0, .int 0, .int 0, .int 0, .int 0, .int 0, .int 0, .int 0, .int 0, .int (-1), .long 0, .int 0, .int 0, .int 0, .int 0, .int 0, .ref (m + 11), .null, .null, .int 0]), .inl (0, 280, .inl fun _ => 0), .inl (0, 280, .inl fun _ => 0), .inl (0, 2240, .inl fun _ => 0), .inl (0, 560, .inl fun _ => 0), .inl (2, 2, .inl fun _ => 0), .inl (0, 16, .inl (upd (upd (upd (upd (upd (upd (upd (upd (upd (upd (upd (upd (upd (upd (upd (upd (fun _ => 0) 0 0) 1 1) 2 (-3)) 3 2) 4 5) 5 2) 6 (-4)) 7 12) 8 (-1)) 9 (-30)) 10 2) 11 1) 12 (-180)) 13 0) 14 3) 15 0)), .inl (0, 10, .inl fun _ => 0), .inl (3, 4, .inr (.inl (vp_updL (vp_updL (vp_updL (vp_updL (fun _ => 0) 0 7) 1 4) 2 1) 3 5))), .inl (0, 800, .inl fun _ => 0), .inl (0, 800, .inl fun _ => 0), .inl (0, 4, .inl fun _ => 0)] (sl + 280 + 280 + 2240 + 560 + 2 + 16 + 10 + 4 + 800 + 800 + 4)) _
  refine x_aload_n dX7_init_202 rfl ?_
  refine x_iconst (v := 4) dX7_init_203 rfl ?_
  refine x_newL (k := 12) (N' := 4) (Or.inl ⟨rfl, rfl, rfl⟩) q246 dX7_init_204 (by decide) (by decide) (by decide) rfl ?_
  change xW g iX7_init 3 206 _ _ (xl B m [.inr (6, [.ref (m + 1), .ref (m + 2), .ref (m + 3), .ref (m + 4), .ref (m + 5), .int 0, .int 0, .ref (m + 6), .ref (m + 7), .ref (m + 8), .ref (m + 9), .ref (m + 10), .int 0, .int 0, .int 0, .int 0, .int 0, .int 0, .int 0, .int 0, .int 0, .int (-1), .long 0, .int 0, .int 0, .int 0, .int 0, .int 0, .ref (m + 11), .null, .null, .int 0]), .inl (0, 280, .inl fun _ => 0), .inl (0, 280, .inl fun _ => 0), .inl (0, 2240, .inl fun _ => 0), .inl (0, 560, .inl fun _ => 0), .inl (2, 2, .inl fun _ => 0), .inl (0, 16, .inl (upd (upd (upd (upd (upd (upd (upd (upd (upd (upd (upd (upd (upd (upd (upd (upd (fun _ => 0) 0 0) 1 1) 2 (-3)) 3 2) 4 5) 5 2) 6 (-4)) 7 12) 8 (-1)) 9 (-30)) 10 2) 11 1) 12 (-180)) 13 0) 14 3) 15 0)), .inl (0, 10, .inl fun _ => 0), .inl (3, 4, .inr (.inl (vp_updL (vp_updL (vp_updL (vp_updL (fun _ => 0) 0 7) 1 4) 2 1) 3 5))), .inl (0, 800, .inl fun _ => 0), .inl (0, 800, .inl fun _ => 0), .inl (0, 4, .inl fun _ => 0), .inl (0, 4, .inl fun _ => 0)] (sl + 280 + 280 + 2240 + 560 + 2 + 16 + 10 + 4 + 800 + 800 + 4 + 4)) _
  refine x_putFL 0 fFX7_55_6 rfl dX7_init_206 rfl ⟨rfl, rfl⟩ (by exact Nat.le_of_ble_eq_true rfl) (Nat.add_zero m) ?_
  change xW g iX7_init 3 209 _ _ (xl B m [.inr (6, [.ref (m + 1), .ref (m + 2), .ref (m + 3), .ref (m + 4), .ref (m + 5), .int 0, .int 0, .ref (m + 6), .ref (m + 7), .ref (m + 8), .ref (m + 9), .ref (m + 10), .int 0, .int 0, .int 0, .int 0, .int 0, .int 0, .int 0, .int 0, .int 0, .int (-1), .long 0, .int 0, .int 0, .int 0, .int 0, .int 0, .ref (m + 11), .ref (m + 12), .null, .int 0]), .inl (0, 280, .inl fun _ => 0), .inl (0, 280, .inl fun _ => 0), .inl (0, 2240, .inl fun _ => 0), .inl (0, 560, .inl fun _ => 0), .inl (2, 2, .inl fun _ => 0), .inl (0, 16, .inl (upd (upd (upd (upd (upd (upd (upd (upd (upd (upd (upd (upd (upd (upd (upd (upd (fun _ => 0) 0 0) 1 1) 2 (-3)) 3 2) 4 5) 5 2) 6 (-4)) 7 12) 8 (-1)) 9 (-30)) 10 2) 11 1) 12 (-180)) 13 0) 14 3) 15 0)), .inl (0, 10, .inl fun _ => 0), .inl (3, 4, .inr (.inl (vp_updL (vp_updL (vp_updL (vp_updL (fun _ => 0) 0 7) 1 4) 2 1) 3 5))), .inl (0, 800, .inl fun _ => 0), .inl (0, 800, .inl fun _ => 0), .inl (0, 4, .inl fun _ => 0), .inl (0, 4, .inl fun _ => 0)] (sl + 280 + 280 + 2240 + 560 + 2 + 16 + 10 + 4 + 800 + 800 + 4 + 4)) _
  refine x_aload_n dX7_init_209 rfl ?_
  refine x_bipush (v := 120) dX7_init_210 (by decide) ?_
  refine x_newL (k := 13) (N' := 120) (Or.inl ⟨rfl, rfl, rfl⟩) q246 dX7_init_212 (by decide) (by decide) (by decide) rfl ?_
  change xW g iX7_init 3 214 _ _ (xl B m [.inr (6, [.ref (m + 1), .ref (m + 2), .ref (m + 3), .ref (m + 4), .ref (m + 5), .int 0, .int 0, .ref (m + 6), .ref (m + 7), .ref (m + 8), .ref (m + 9), .ref (m + 10), .int 0, .int 0, .int 0, .int 0, .int 0, .int 0, .int 0, .int 0, .int 0, .int (-1), .long 0, .int 0, .int 0, .int 0, .int 0, .int 0, .ref (m + 11), .ref (m + 12), .null, .int 0]), .inl (0, 280, .inl fun _ => 0), .inl (0, 280, .inl fun _ => 0), .inl (0, 2240, .inl fun _ => 0), .inl (0, 560, .inl fun _ => 0), .inl (2, 2, .inl fun _ => 0), .inl (0, 16, .inl (upd (upd (upd (upd (upd (upd (upd (upd (upd (upd (upd (upd (upd (upd (upd (upd (fun _ => 0) 0 0) 1 1) 2 (-3)) 3 2) 4 5) 5 2) 6 (-4)) 7 12) 8 (-1)) 9 (-30)) 10 2) 11 1) 12 (-180)) 13 0) 14 3) 15 0)), .inl (0, 10, .inl fun _ => 0), .inl (3, 4, .inr (.inl (vp_updL (vp_updL (vp_updL (vp_updL (fun _ => 0) 0 7) 1 4) 2 1) 3 5))), .inl (0, 800, .inl fun _ => 0), .inl (0, 800, .inl fun _ => 0), .inl (0, 4, .inl fun _ => 0), .inl (0, 4, .inl fun _ => 0), .inl (0, 120, .inl fun _ => 0)] (sl + 280 + 280 + 2240 + 560 + 2 + 16 + 10 + 4 + 800 + 800 + 4 + 4 + 120)) _
  refine x_putFL 0 fFX7_58_6 rfl dX7_init_214 rfl ⟨rfl, rfl⟩ (by exact Nat.le_of_ble_eq_true rfl) (Nat.add_zero m) ?_
  change xW g iX7_init 3 217 _ _ (xl B m [.inr (6, [.ref (m + 1), .ref (m + 2), .ref (m + 3), .ref (m + 4), .ref (m + 5), .int 0, .int 0, .ref (m + 6), .ref (m + 7), .ref (m + 8), .ref (m + 9), .ref (m + 10), .int 0, .int 0, .int 0, .int 0, .int 0, .int 0, .int 0, .int 0, .int 0, .int (-1), .long 0, .int 0, .int 0, .int 0, .int 0, .int 0, .ref (m + 11), .ref (m + 12), .ref (m + 13), .int 0]), .inl (0, 280, .inl fun _ => 0), .inl (0, 280, .inl fun _ => 0), .inl (0, 2240, .inl fun _ => 0), .inl (0, 560, .inl fun _ => 0), .inl (2, 2, .inl fun _ => 0), .inl (0, 16, .inl (upd (upd (upd (upd (upd (upd (upd (upd (upd (upd (upd (upd (upd (upd (upd (upd (fun _ => 0) 0 0) 1 1) 2 (-3)) 3 2) 4 5) 5 2) 6 (-4)) 7 12) 8 (-1)) 9 (-30)) 10 2) 11 1) 12 (-180)) 13 0) 14 3) 15 0)), .inl (0, 10, .inl fun _ => 0), .inl (3, 4, .inr (.inl (vp_updL (vp_updL (vp_updL (vp_updL (fun _ => 0) 0 7) 1 4) 2 1) 3 5))), .inl (0, 800, .inl fun _ => 0), .inl (0, 800, .inl fun _ => 0), .inl (0, 4, .inl fun _ => 0), .inl (0, 4, .inl fun _ => 0), .inl (0, 120, .inl fun _ => 0)] (sl + 280 + 280 + 2240 + 560 + 2 + 16 + 10 + 4 + 800 + 800 + 4 + 4 + 120)) _
  rw [tA_xl (F := iniF) (W := 0) (S := fun _ => 0) (Z := iniZ) rfl (fun k hk => by
    match k, hk with
    | 8, _ => exact congrArg (fun f : Nat → Int64 => some (Sum.inl (3, 4, Sum.inr (Sum.inl f)) : xE)) tW_eq
    | 0, _ | 1, _ | 2, _ | 3, _ | 4, _ | 5, _ | 6, _ | 7, _ | 9, _ | 10, _ | 11, _ | 12, _ | 13, _ => rfl
    | k + 14, hk => omega)]
  have h0 : tOk ini0 := ⟨⟨rfl, by decide⟩, ⟨rfl, by decide⟩, fun p hp => absurd hp (Nat.not_lt_zero _)⟩
  have m0 : manyS ini0 = 0 := rfl
  have r0 : rowS ini0 = 0 := rfl
  have h1 : tOk (comesS ini0 1486 4) := comes_ok h0 (by omega) (by omega)
  have m1 : manyS (comesS ini0 1486 4) = 1 := by rw [comes_many h0.1.1 (by omega), m0]
  have r1 : rowS (comesS ini0 1486 4) = 1 := by rw [comes_row h0.2.1.1 (by omega), r0]
  have h2 : tOk (comesS (comesS ini0 1486 4) 2530 2) := comes_ok h1 (by omega) (by omega)
  have m2 : manyS (comesS (comesS ini0 1486 4) 2530 2) = 2 := by rw [comes_many h1.1.1 (by omega), m1]
  have r2 : rowS (comesS (comesS ini0 1486 4) 2530 2) = 2 := by rw [comes_row h1.2.1.1 (by omega), r1]
  have h3 : tOk (comesS (comesS (comesS ini0 1486 4) 2530 2) 3124 4) := comes_ok h2 (by omega) (by omega)
  have m3 : manyS (comesS (comesS (comesS ini0 1486 4) 2530 2) 3124 4) = 3 := by rw [comes_many h2.1.1 (by omega), m2]
  have r3 : rowS (comesS (comesS (comesS ini0 1486 4) 2530 2) 3124 4) = 3 := by rw [comes_row h2.2.1.1 (by omega), r2]
  have h4 : tOk (comesS (comesS (comesS (comesS ini0 1486 4) 2530 2) 3124 4) 4142 4) := comes_ok h3 (by omega) (by omega)
  have m4 : manyS (comesS (comesS (comesS (comesS ini0 1486 4) 2530 2) 3124 4) 4142 4) = 4 := by rw [comes_many h3.1.1 (by omega), m3]
  have r4 : rowS (comesS (comesS (comesS (comesS ini0 1486 4) 2530 2) 3124 4) 4142 4) = 4 := by rw [comes_row h3.2.1.1 (by omega), r3]
  refine x_aload_n dX7_init_217 rfl ?_
  refine t_get fgX7_7_6 dX7_init_218 rfl ?_
  refine x_iconst (v := 1) dX7_init_221 rfl ?_
  refine x_bipush (v := 18) dX7_init_222 (by decide) ?_
  refine t_astS 1 dX7_init_224 rfl (by decide) ?_
  refine x_aload_n dX7_init_225 rfl ?_
  refine t_get fgX7_7_6 dX7_init_226 rfl ?_
  refine x_iconst (v := 2) dX7_init_229 rfl ?_
  refine x_bipush (v := 21) dX7_init_230 (by decide) ?_
  refine t_astS 2 dX7_init_232 rfl (by decide) ?_
  refine x_aload_n dX7_init_233 rfl ?_
  refine t_get fgX7_7_6 dX7_init_234 rfl ?_
  refine x_iconst (v := 3) dX7_init_237 rfl ?_
  refine x_iconst (v := 3) dX7_init_238 rfl ?_
  refine t_astS 3 dX7_init_239 rfl (by decide) ?_
  refine x_aload_n dX7_init_240 rfl ?_
  refine t_get fgX7_7_6 dX7_init_241 rfl ?_
  refine x_iconst (v := 4) dX7_init_244 rfl ?_
  refine x_iconst (v := 2) dX7_init_245 rfl ?_
  refine t_astS 4 dX7_init_246 rfl (by decide) ?_
  refine x_aload_n dX7_init_247 rfl ?_
  refine t_get fgX7_7_6 dX7_init_248 rfl ?_
  refine x_bipush (v := 9) dX7_init_251 (by decide) ?_
  refine x_iconst (v := 1) dX7_init_253 rfl ?_
  refine t_astS 9 dX7_init_254 rfl (by decide) ?_
  refine x_aload_n dX7_init_255 rfl ?_
  refine t_get fgX7_7_6 dX7_init_256 rfl ?_
  refine x_bipush (v := 10) dX7_init_259 (by decide) ?_
  refine x_iconst (v := 1) dX7_init_261 rfl ?_
  refine t_astS 10 dX7_init_262 rfl (by decide) ?_
  refine x_aload_n dX7_init_263 rfl ?_
  refine t_get fgX7_7_6 dX7_init_264 rfl ?_
  refine x_bipush (v := 11) dX7_init_267 (by decide) ?_
  refine x_iconst (v := 2) dX7_init_269 rfl ?_
  refine t_astS 11 dX7_init_270 rfl (by decide) ?_
  refine x_aload_n dX7_init_271 rfl ?_
  refine t_get fgX7_7_6 dX7_init_272 rfl ?_
  refine x_bipush (v := 12) dX7_init_275 (by decide) ?_
  refine x_iconst (v := 3) dX7_init_277 rfl ?_
  refine t_astS 12 dX7_init_278 rfl (by decide) ?_
  refine x_aload_n dX7_init_279 rfl ?_
  refine x_sipush (v := 1486) dX7_init_280 (by decide) ?_
  refine x_iconst (v := 4) dX7_init_283 rfl ?_
  change xW g iX7_init 3 284 _ _ (tA (B.1, m + 14, sl + 5120) m iniF 0 ini0 iniZ) _
  refine t_cvN cvX7_61_X7 dX7_init_284 (c_X7_comes _ _ _ _ _ _ _ 1486 4 h0.1.1 h0.2.1.1 (by omega) (by omega)) rfl ?_
  refine x_aload_n dX7_init_287 rfl ?_
  refine x_sipush (v := 2530) dX7_init_288 (by decide) ?_
  refine x_iconst (v := 2) dX7_init_291 rfl ?_
  refine t_cvN cvX7_61_X7 dX7_init_292 (c_X7_comes _ _ _ _ _ _ _ 2530 2 h1.1.1 h1.2.1.1 (by omega) (by omega)) rfl ?_
  refine x_aload_n dX7_init_295 rfl ?_
  refine x_sipush (v := 3124) dX7_init_296 (by decide) ?_
  refine x_iconst (v := 4) dX7_init_299 rfl ?_
  refine t_cvN cvX7_61_X7 dX7_init_300 (c_X7_comes _ _ _ _ _ _ _ 3124 4 h2.1.1 h2.2.1.1 (by omega) (by omega)) rfl ?_
  refine x_aload_n dX7_init_303 rfl ?_
  refine x_sipush (v := 4142) dX7_init_304 (by decide) ?_
  refine x_iconst (v := 4) dX7_init_307 rfl ?_
  refine t_cvN cvX7_61_X7 dX7_init_308 (c_X7_comes _ _ _ _ _ _ _ 4142 4 h3.1.1 h3.2.1.1 (by omega) (by omega)) rfl ?_
  refine x_iconst (v := 0) dX7_init_311 rfl ?_
  refine x_istore_n dX7_init_312 (by decide) rfl ?_
  change xW g iX7_init 3 313 _ _ (tA (B.1, m + 14, sl + 5120) m iniF 0 (iniL (iniZ 7) 0 ini4) iniZ) _
  refine in_l ini4 ?_ 16 0 (Nat.add_zero _)
  refine x_aload_n dX7_init_348 rfl ?_
  refine t_get fgX7_7_6 dX7_init_349 rfl ?_
  refine x_iconst (v := 1) dX7_init_352 rfl ?_
  refine x_bipush (v := 18) dX7_init_353 (by decide) ?_
  refine x_csV csX7_65 dX7_init_355 (c_X7_at _ _ 1 18) rfl ?_
  refine x_bipush (v := 8) dX7_init_358 (by decide) ?_
  refine t_astS (70 + 21 * 1 + 18) dX7_init_360 rfl (by omega) ?_
  refine x_aload_n dX7_init_361 rfl ?_
  refine t_get fgX7_7_6 dX7_init_362 rfl ?_
  refine x_iconst (v := 1) dX7_init_365 rfl ?_
  refine x_bipush (v := 19) dX7_init_366 (by decide) ?_
  refine x_csV csX7_65 dX7_init_368 (c_X7_at _ _ 1 19) rfl ?_
  refine x_iconst (v := 2) dX7_init_371 rfl ?_
  refine t_astS (70 + 21 * 1 + 19) dX7_init_372 rfl (by omega) ?_
  refine x_aload_n dX7_init_373 rfl ?_
  refine t_get fgX7_7_6 dX7_init_374 rfl ?_
  refine x_iconst (v := 1) dX7_init_377 rfl ?_
  refine x_bipush (v := 20) dX7_init_378 (by decide) ?_
  refine x_csV csX7_65 dX7_init_380 (c_X7_at _ _ 1 20) rfl ?_
  refine x_iconst (v := 4) dX7_init_383 rfl ?_
  refine t_astS (70 + 21 * 1 + 20) dX7_init_384 rfl (by omega) ?_
  refine x_aload_n dX7_init_385 rfl ?_
  refine t_cvN cvX7_69_X7 dX7_init_386 (c_X7_stores _ _ _ _ _ _ _ ) rfl ?_
  exact x_return dX7_init_389 rfl ⟨rfl, rfl⟩
