/-! THE SCRIPT's MACHINE of the reference: text, row and obstacles, where the open brackets began, how often again -/
abbrev tM : Type := tQ × tH × (Nat → Int32) × (Nat → Int32)
def zM (Z : Nat → Nat → Int32) (x : tM) : Nat → Nat → Int32 := zup (zup (zup Z 8 x.2.1.2) 28 x.2.2.1) 29 x.2.2.2
def hM (B : xA) (m : Nat) (Z : Nat → Nat → Int32) (x : tM) : xA := tA B m x.1.1 x.1.2 x.2.1.1 (zM Z x)
def opN (F : Nat → Int32) : Nat := (F 26).toNatClampNeg
def agF (T : Nat → Int32) (q : tQ) : Nat → Int32 :=
  let F2 := muF q.1 (isI T q.1 40) 1
  muF F2 (if isI T F2 40 = 0 then 1 else if 2 ≤ F2 26 then 0 else 1) 4
def agB (t : Int32) (x : tM) : tM := if x.1.1 18 = 0 then ((upd x.1.1 26 (x.1.1 26 + 1), x.1.2), x.2.1, upd x.2.2.1 (opN x.1.1) (x.1.1 15), upd x.2.2.2 (opN x.1.1) t) else x
def agQ (T : Nat → Int32) (q : tQ) : tQ := goX T (agF T (rdX T 1 20 q), (rdX T 1 20 q).2)
def agX (T : Nat → Int32) (x : tM) : tM := agB (rdI T 1 20 x.1) (agQ T x.1, x.2)
def clZ (F : Nat → Int32) : Int32 := if F 26 ≤ 0 then 0 else 1
def clX (T : Nat → Int32) (x : tM) : tM :=
  if ¬ muF x.1.1 (clZ x.1.1) 1 18 = 0 then ((muF x.1.1 (clZ x.1.1) 1, x.1.2), x.2)
  else if x.1.1 23 = 0 ∨ x.2.2.2 (opN x.1.1 - 1) - 1 ≤ 0 then (sgX T 59 (goX T (upd x.1.1 26 (x.1.1 26 - 1), x.1.2)), x.2.1, x.2.2.1, upd x.2.2.2 (opN x.1.1 - 1) (x.2.2.2 (opN x.1.1 - 1) - 1))
  else (scX T (upd x.1.1 14 (x.2.2.1 (opN x.1.1 - 1)), x.1.2), x.2.1, x.2.2.1, upd x.2.2.2 (opN x.1.1 - 1) (x.2.2.2 (opN x.1.1 - 1) - 1))
def orZ (q : tQ) : Int32 := flI (¬ iwI q 609752116 = 0 ∨ ¬ ofI q = 0 ∨ ¬ iwI q 677317 = 0 ∨ ¬ iwI q 672734388 = 0 ∨ ¬ iwI q 8902227 = 0)
def orR (T : Nat → Int32) (o : Int32) (w : Int64) (q : tQ) (h : tH) : tQ × tH := if o = 0 then woX T w q h else noX T w q h
def orW (T : Nat → Int32) (r o : Int32) (x : tM) : tM :=
  if ¬ x.1.1 18 = 0 then x
  else if ¬ r = 0 then agX T (goX T x.1, x.2)
  else (sgX T 59 (orR T o x.1.2 (goX T x.1) x.2.1).1, (orR T o x.1.2 (goX T x.1) x.2.1).2, x.2.2)
def orV (F : Nat → Int32) : Nat → Int32 := if F 23 = 0 then upd (muF F (if 30 ≤ F 25 then 0 else 1) 4) 25 (muF F (if 30 ≤ F 25 then 0 else 1) 4 25 + 1) else F
def orX (T : Nat → Int32) (x : tM) : tM := orW T (iwI x.1 609752116) (ofI x.1) ((orV (muF x.1.1 (orZ x.1) 1), x.1.2), x.2)
def sbX (T : Nat → Int32) (x : tM) : tM := if isI T x.1.1 41 = 0 then orX T x else clX T x
def itM (T : Nat → Int32) : Nat → tM → tM
  | 0, x => x
  | k + 1, x => itM T k (sbX T x)
/-- the loop goes on -/
def goM (x : tM) : Prop := x.1.1 18 = 0 ∧ x.1.1 24 = 0 ∧ ¬ x.1.1 16 = 0
def MI (x : tM) : Prop := TI x.1.1 ∧ ixl (x.1.1 26) 3 ∧ (∀ i, i < opN x.1.1 → ixl (x.2.2.1 i) (lmN x.1.1 + 1)) ∧ rOk x.2.1.1
/-! frames of the text's functions -/
def frK (F G : Nat → Int32) : Prop := ∀ j, (j < 14 ∨ 19 < j) → G j = F j
theorem frK.rf {F : Nat → Int32} : frK F F := fun _ _ => rfl
theorem frK.tr {F G H : Nat → Int32} (h : frK F G) (k : frK G H) : frK F H := fun j hj => (k j hj).trans (h j hj)
theorem frK.up {F G : Nat → Int32} (h : frK F G) {j : Nat} (v : Int32) (hj : 14 ≤ j ∧ j ≤ 19) : frK F (upd G j v) := fun i hi => (upd_ne _ _ (by omega)).trans (h i hi)
theorem fr_sc {T : Nat → Int32} {q : tQ} : frK q.1 (scX T q).1 := by
  have a := (frK.rf (F := q.1)).up (nI (skN T (lmN q.1) (lmN q.1 - atN q.1) (atN q.1))) (j := 14) (by omega) |>.up (nI (skN T (lmN q.1) (lmN q.1 - atN q.1) (atN q.1))) (j := 15) (by omega)
  unfold scX
  simp only
  generalize skN T (lmN q.1) (lmN q.1 - atN q.1) (atN q.1) = b at a ⊢
  split
  · exact a.up _ (by omega)
  · split
    · exact (a.up _ (by omega)).up _ (by omega)
    · split
      · exact ((a.up _ (by omega)).up _ (by omega)).up _ (by omega)
      · exact (a.up _ (by omega)).up _ (by omega)
theorem fr_mu {F : Nat → Int32} {z c : Int32} : frK F (muF F z c) := fun j hj => mu_o (by omega) (by omega)
theorem fr_go {T : Nat → Int32} {q : tQ} : frK q.1 (goX T q).1 := by
  unfold goX
  split
  · exact fr_sc
  · exact frK.rf
theorem fr_sg {T : Nat → Int32} {c : Int32} {q : tQ} : frK q.1 (sgX T c q).1 := by
  have a := fr_mu (F := q.1) (z := isI T q.1 c) (c := 1)
  unfold sgX
  generalize muF q.1 (isI T q.1 c) 1 = G at a ⊢
  exact a.tr (fr_go (q := (G, q.2)))
theorem fr_rd {T : Nat → Int32} {lo hi : Int32} {q : tQ} : frK q.1 (rdX T lo hi q).1 := by
  have a : frK q.1 (rdF lo hi q.1) := fr_mu.tr fr_mu
  unfold rdX
  generalize rdF lo hi q.1 = G at a ⊢
  exact a.tr (fr_go (q := (G, q.2)))
theorem fr_cm0 {T : Nat → Int32} {q : tQ} : frK q.1 (cm0 T q).1 := by
  unfold cm0
  split
  · exact frK.rf
  · exact fr_go
theorem fr_cm {T : Nat → Int32} {lo hi : Int32} {q : tQ} : frK q.1 (cmX T lo hi q).1 := by
  have a := fr_cm0 (T := T) (q := q)
  unfold cmX
  generalize cm0 T q = s at a ⊢
  exact a.tr fr_rd
theorem fr_nt {T : Nat → Int32} {q : tQ} : frK q.1 (ntX T q).1 := by
  have a := fr_mu (F := q.1) (z := nhI q.1) (c := 1)
  unfold ntX
  generalize muF q.1 (nhI q.1) 1 = G at a ⊢
  exact a.tr (fr_go (q := (G, q.2)))
theorem fr_swT {T : Nat → Int32} {n1 : Int32} {q : tQ} : frK q.1 (swT T n1 q).1 := by
  have a : frK q.1 (swF n1 q) := fr_mu.tr fr_mu
  unfold swT
  generalize swF n1 q = G at a ⊢
  exact a.tr (fr_nt (q := (G, q.2)))
theorem fr_sx {T : Nat → Int32} {q : tQ} : frK q.1 (sxT T q).1 := by
  have a := fr_mu (F := q.1) (z := if oI (stO q) = -1 then 0 else 1) (c := 1)
  unfold sxT
  generalize muF q.1 (if oI (stO q) = -1 then 0 else 1) 1 = G at a ⊢
  exact a.tr (fr_go (q := (G, q.2)))
theorem fr_soT {T : Nat → Int32} {kind : Int64} {q : tQ} : frK q.1 (soT T kind q).1 := by
  have a := fr_sx (T := T) (q := q)
  unfold soT
  generalize sxT T q = s at a ⊢
  split
  · exact a.tr fr_cm
  · exact a
theorem fr_woT {T : Nat → Int32} {kind : Int64} {q : tQ} : frK q.1 (woT T kind q).1 := by
  unfold woT
  split
  · exact fr_rd
  · split
    · exact fr_rd
    · exact frK.rf
/-- frames with what is done -/
def frD (F G : Nat → Int32) : Prop := ∀ j, (j < 14 ∨ j = 23 ∨ j = 26) → G j = F j
theorem frK.d {F G : Nat → Int32} (h : frK F G) : frD F G := fun j hj => h j (by omega)
theorem frD.tr {F G H : Nat → Int32} (h : frD F G) (k : frD G H) : frD F H := fun j hj => (k j hj).trans (h j hj)
theorem fr_ca {F : Nat → Int32} {z : Int32} : frD F (caF F z) := fun j hj => by
  unfold caF
  rw [upd_ne _ _ (by omega), upd_ne _ _ (by omega)]
theorem fr_do {q : tQ} {h : tH} {o : Option tH} : frD q.1 (doX q h o).1.1 := by
  unfold doX
  split
  · exact fun _ _ => rfl
  · exact fr_ca
/-- an order's text and act: in order, and its frame -/
def orP (q : tQ) (h : tH) (R : tQ × tH) : Prop := TI R.1.1 ∧ frD q.1 R.1.1 ∧ rOk R.2.1
theorem orP_do {q q' : tQ} {h : tH} {o : Option tH} (ht : TI q'.1) (hf : frK q.1 q'.1) (hk : rOk h.1) (ho : okO o) : orP q h (doX q' h o) := ⟨doX_TI ht, hf.d.tr fr_do, doX_ok hk ho⟩
theorem orP_no {T : Nat → Int32} {kind : Int64} {q : tQ} {h : tH} (ht : TI q.1) (hk : rOk h.1) : orP q h (noX T kind q h) := by
  have a := fr_nt (T := T) (q := q)
  have b := TI_nt (T := T) ht
  unfold noX
  generalize ntX T q = s at a b ⊢
  generalize ntI q = n1
  split
  · unfold swX
    exact orP_do (TI_swT b) (a.tr fr_swT) hk (okO_sw hk (fun _ => nmO_lt) (fun _ => nmO_lt))
  · split
    · unfold rwX
      exact orP_do b a hk (okO_rw hk (fun _ => nmO_lt))
    · split
      · unfold rwX
        exact orP_do b a hk (okO_rw hk (fun _ => nmO_lt))
      · unfold soX
        exact orP_do (TI_soT b) (a.tr fr_soT) hk (okO_so hk)
theorem orP_wo {T : Nat → Int32} {kind : Int64} {q : tQ} {h : tH} (ht : TI q.1) (hk : rOk h.1) : orP q h (woX T kind q h) := by
  unfold woX
  exact orP_do (TI_woT ht) fr_woT hk (okO_wo hk)
theorem orP_or {T : Nat → Int32} {o : Int32} {kind : Int64} {q : tQ} {h : tH} (ht : TI q.1) (hk : rOk h.1) : orP q h (orR T o kind q h) := by
  unfold orR
  split
  · exact orP_wo ht hk
  · exact orP_no ht hk
/-! the machine stays in order -/
theorem MI.fr {x y : tM} (h : MI x) (ht : TI y.1.1) (hf : frD x.1.1 y.1.1) (ho : y.2.2.1 = x.2.2.1) (hk : rOk y.2.1.1) : MI y := by
  obtain ⟨h1, h2, h3, h4⟩ := h
  have e26 := hf 26 (by omega)
  have e13 := hf 13 (by omega)
  refine ⟨ht, by rw [e26]; exact h2, fun i hi => ?_, hk⟩
  unfold opN at hi
  rw [e26] at hi
  unfold lmN
  rw [e13, ho]
  exact h3 i hi
theorem MI_agB {x : tM} {t : Int32} (h : MI x) (h2 : x.1.1 18 = 0 → opN x.1.1 < 2) : MI (agB t x) := by
  obtain ⟨h1, k2, h3, h4⟩ := h
  unfold agB
  split
  · rename_i hb
    have ho := h2 hb
    have e : x.1.1 26 + 1 = nI (opN x.1.1 + 1) := by rw [k2.1, nI_1]; rfl
    have e26 : upd x.1.1 26 (x.1.1 26 + 1) 26 = nI (opN x.1.1 + 1) := by rw [upd_self, e]
    have e13 : upd x.1.1 26 (x.1.1 26 + 1) 13 = x.1.1 13 := rfl
    have ht : TI (upd x.1.1 26 (x.1.1 26 + 1)) := TI_eq h1 rfl rfl rfl rfl
    generalize upd x.1.1 26 (x.1.1 26 + 1) = G at e26 e13 ht ⊢
    refine ⟨ht, by show ixl (G 26) 3; rw [e26]; exact ixl_nI (by omega) (by omega), fun i hi => ?_, h4⟩
    change i < opN G at hi
    unfold opN at hi
    rw [e26, nI_clamp (by omega)] at hi
    show ixl (upd x.2.2.1 (opN x.1.1) (x.1.1 15) i) (lmN G + 1)
    unfold lmN
    rw [e13]
    by_cases c : i = opN x.1.1
    · subst c
      rw [upd_self]
      exact h1.2.1
    · rw [upd_ne _ _ c]
      exact h3 i (by omega)
  · exact ⟨h1, k2, h3, h4⟩
theorem agF_op {T : Nat → Int32} {q : tQ} (h26 : ixl (q.1 26) 3) (h : agF T q 18 = 0) : opN q.1 < 2 := by
  unfold agF at h
  have a := mu_0 (by decide) h
  have b := mu_0 (by decide) a.1
  have c := a.2.1
  rw [b.2.2, if_neg b.2.1] at c
  have d : ¬ 2 ≤ q.1 26 := fun k => c (if_pos k)
  have h3 := h26.2
  rw [h26.1, show (2 : Int32) = nI 2 from rfl, nI_leI (by omega) (by omega)] at d
  show (q.1 26).toNatClampNeg < 2
  omega
theorem fr_agF {T : Nat → Int32} {q : tQ} : frK q.1 (agF T q) := fr_mu.tr fr_mu
theorem TI_agF {T : Nat → Int32} {q : tQ} (h : TI q.1) : TI (agF T q) := TI_mu (TI_mu h)
theorem MI_ag {T : Nat → Int32} {x : tM} (h : MI x) : MI (agX T x) := by
  have a := fr_rd (T := T) (lo := 1) (hi := 20) (q := x.1)
  have t := TI_rd (T := T) (lo := 1) (hi := 20) (q := x.1) h.1
  unfold agX agQ
  generalize rdI T 1 20 x.1 = t9
  generalize rdX T 1 20 x.1 = q at a t ⊢
  have h26 : ixl (q.1 26) 3 := by rw [a 26 (by omega)]; exact h.2.1
  have b := fr_agF (T := T) (q := q)
  have k := agF_op (T := T) (q := q) h26
  have t2 := TI_agF (T := T) t
  generalize agF T q = G at b k t2 ⊢
  have c := fr_go (T := T) (q := (G, q.2))
  have t3 := TI_go (T := T) (q := (G, q.2)) t2
  have e18 := go_18 (T := T) (q := (G, q.2))
  generalize goX T (G, q.2) = s at c t3 e18 ⊢
  have hf : frK x.1.1 s.1 := (a.tr b).tr c
  refine MI_agB (MI.fr h (y := (s, x.2)) t3 hf.d rfl h.2.2.2) (fun e => ?_)
  have e2 := k (e18.symm.trans e)
  show (s.1 26).toNatClampNeg < 2
  rw [hf 26 (by omega), ← a 26 (by omega)]
  exact e2
theorem fr_orV {F : Nat → Int32} : frD F (orV F) := by
  intro j hj
  unfold orV
  split
  · rw [upd_ne _ _ (by omega), mu_o (by omega) (by omega)]
  · rfl
theorem TI_orV {F : Nat → Int32} (h : TI F) : TI (orV F) := by
  unfold orV
  split
  · exact TI_eq (TI_mu (z := if 30 ≤ F 25 then 0 else 1) (c := 4) h) (upd_ne _ _ (by decide)) (upd_ne _ _ (by decide)) (upd_ne _ _ (by decide)) (upd_ne _ _ (by decide))
  · exact h
theorem MI_orW {T : Nat → Int32} {r o : Int32} {x : tM} (h : MI x) : MI (orW T r o x) := by
  unfold orW
  split
  · exact h
  · have c := fr_go (T := T) (q := x.1)
    have t3 := TI_go (T := T) (q := x.1) h.1
    generalize goX T x.1 = s at c t3 ⊢
    split
    · exact MI_ag (MI.fr h (y := (s, x.2)) t3 c.d rfl h.2.2.2)
    · have d := orP_or (T := T) (o := o) (kind := x.1.2) (h := x.2.1) t3 h.2.2.2
      generalize orR T o x.1.2 s x.2.1 = R at d ⊢
      have e := fr_sg (T := T) (c := 59) (q := R.1)
      have t4 := TI_sg (T := T) (c := 59) (q := R.1) d.1
      generalize sgX T 59 R.1 = s2 at e t4 ⊢
      exact MI.fr h (y := (s2, R.2, x.2.2)) t4 ((c.d.tr d.2.1).tr e.d) rfl d.2.2
theorem MI_or {T : Nat → Int32} {x : tM} (h : MI x) : MI (orX T x) := by
  unfold orX
  generalize iwI x.1 609752116 = r
  generalize ofI x.1 = o
  have a := fr_mu (F := x.1.1) (z := orZ x.1) (c := 1)
  have ta := TI_mu (z := orZ x.1) (c := 1) h.1
  generalize muF x.1.1 (orZ x.1) 1 = G at a ta ⊢
  have b := fr_orV (F := G)
  have tb := TI_orV ta
  generalize orV G = G2 at b tb ⊢
  exact MI_orW (MI.fr h (y := ((G2, x.1.2), x.2)) tb (a.d.tr b) rfl h.2.2.2)
theorem op_pos {F : Nat → Int32} (h26 : ixl (F 26) 3) (h : ¬ F 26 ≤ 0) : 0 < opN F := by
  have e := h26.1
  have := h26.2
  rw [e, show (0 : Int32) = nI 0 from rfl, nI_leI (by omega) (by omega)] at h
  exact Nat.lt_of_not_le h
theorem cl_op {F : Nat → Int32} (h26 : ixl (F 26) 3) (h : muF F (clZ F) 1 18 = 0) : 0 < opN F ∧ F 18 = 0 ∧ muF F (clZ F) 1 = F := by
  have a := mu_0 (by decide) h
  exact ⟨op_pos h26 (fun k => a.2.1 (if_pos k)), a.1, a.2.2⟩
theorem MI_cl {T : Nat → Int32} {x : tM} (h : MI x) : MI (clX T x) := by
  unfold clX
  split
  · have a := fr_mu (F := x.1.1) (z := clZ x.1.1) (c := 1)
    have ta := TI_mu (z := clZ x.1.1) (c := 1) h.1
    generalize muF x.1.1 (clZ x.1.1) 1 = G at a ta ⊢
    exact MI.fr h (y := ((G, x.1.2), x.2)) ta a.d rfl h.2.2.2
  · rename_i hb
    have hb := Decidable.not_not.mp hb
    have hop := (cl_op h.2.1 hb).1
    have h3 := h.2.1.2
    generalize upd x.2.2.2 (opN x.1.1 - 1) (x.2.2.2 (opN x.1.1 - 1) - 1) = G9
    split
    · have e : x.1.1 26 - 1 = nI (opN x.1.1 - 1) := by rw [h.2.1.1]; exact pk_sub (b := 1) hop
      have e26 : upd x.1.1 26 (x.1.1 26 - 1) 26 = nI (opN x.1.1 - 1) := by rw [upd_self, e]
      have hn : opN x.1.1 < 3 := h3
      have hm : MI ((upd x.1.1 26 (x.1.1 26 - 1), x.1.2), x.2.1, x.2.2.1, G9) := by
        have ht : TI (upd x.1.1 26 (x.1.1 26 - 1)) := TI_eq h.1 rfl rfl rfl rfl
        have e13 : upd x.1.1 26 (x.1.1 26 - 1) 13 = x.1.1 13 := rfl
        generalize upd x.1.1 26 (x.1.1 26 - 1) = G at e26 e13 ht ⊢
        refine ⟨ht, by show ixl (G 26) 3; rw [e26]; exact ixl_nI (by omega) (by omega), fun i hi => ?_, h.2.2.2⟩
        change i < opN G at hi
        unfold opN at hi
        rw [e26, nI_clamp (by omega)] at hi
        show ixl (x.2.2.1 i) (lmN G + 1)
        unfold lmN
        rw [e13]
        exact h.2.2.1 i (by omega)
      generalize (upd x.1.1 26 (x.1.1 26 - 1), x.1.2) = q at hm ⊢
      have a := fr_go (T := T) (q := q)
      have ta := TI_go (T := T) (q := q) hm.1
      generalize goX T q = s at a ta ⊢
      have b := fr_sg (T := T) (c := 59) (q := s)
      have tb := TI_sg (T := T) (c := 59) (q := s) ta
      generalize sgX T 59 s = s2 at b tb ⊢
      exact MI.fr hm (y := (s2, x.2.1, x.2.2.1, G9)) tb (a.tr b).d rfl hm.2.2.2
    · have a := (frK.rf (F := x.1.1)).up (x.2.2.1 (opN x.1.1 - 1)) (j := 14) (by omega)
      have ta : TJ (upd x.1.1 14 (x.2.2.1 (opN x.1.1 - 1))) := ⟨h.1.1.1, h.2.2.1 _ (by omega)⟩
      generalize upd x.1.1 14 (x.2.2.1 (opN x.1.1 - 1)) = G at a ta ⊢
      have b := fr_sc (T := T) (q := (G, x.1.2))
      have tb := TI_sc (T := T) (q := (G, x.1.2)) ta
      generalize scX T (G, x.1.2) = s at b tb ⊢
      have hm : MI (x.1, x.2.1, x.2.2.1, G9) := h
      exact MI.fr hm (y := (s, x.2.1, x.2.2.1, G9)) tb (a.tr b).d rfl h.2.2.2
theorem MI_sb {T : Nat → Int32} {x : tM} (h : MI x) : MI (sbX T x) := by
  unfold sbX
  split
  · exact MI_or h
  · exact MI_cl h
def gtF (F : Nat → Int32) (dg : Int32) : Nat → Int32 := upd (upd (upd (upd (upd F 23 dg) 24 0) 25 0) 26 0) 27 0
def gtS (T : Nat → Int32) (dg : Int32) (x : tM) : tM := (stX T (gtF x.1.1 dg, x.1.2), x.2)
def gtZ (F : Nat → Int32) : Int32 := flI (¬ F 24 = 0 ∨ F 26 = 0)
theorem MI_gt {T : Nat → Int32} {dg : Int32} {x : tM} (h : ixl (x.1.1 13) 801) (hk : rOk x.2.1.1) : MI (gtS T dg x) := by
  have tj : TJ (upd (upd (gtF x.1.1 dg) 14 0) 18 0) := ⟨h, ixl_nI (Nat.succ_pos _) (by have := h.2; show (x.1.1 13).toNatClampNeg + 1 ≤ _; omega)⟩
  have e26 : upd (upd (gtF x.1.1 dg) 14 0) 18 0 26 = 0 := rfl
  unfold gtS stX
  generalize upd (upd (gtF x.1.1 dg) 14 0) 18 0 = G at tj e26 ⊢
  have b := fr_sc (T := T) (q := (G, x.1.2))
  have tb := TI_sc (T := T) (q := (G, x.1.2)) tj
  generalize scX T (G, x.1.2) = s at b tb ⊢
  have e : s.1 26 = nI 0 := (b 26 (by omega)).trans e26
  refine ⟨tb, by show ixl (s.1 26) 3; rw [e]; exact ixl_nI (by omega) (by omega), fun i hi => ?_, hk⟩
  change i < opN s.1 at hi
  unfold opN at hi
  rw [e, nI_clamp (by omega)] at hi
  omega
def kpU (u : Nat) : Nat := if u = 8 then 7 else u
def shP (p : Nat → Int32) (n : Nat) : Nat → Int32 := fun j => if j < n then p (j + 280) else p j
def kpP (p S : Nat → Int32) (u : Nat) : Nat → Int32 := va_cpy S (if u = 8 then shP p 1960 else p) 0 (280 * kpU u) 280
theorem shP_0 (p : Nat → Int32) : shP p 0 = p := funext fun j => if_neg (by omega)
theorem shP_1 (p : Nat → Int32) (n : Nat) (h : n < 1960) : upd (shP p n) n (shP p n (n + 280)) = shP p (n + 1) := by
  funext j
  unfold upd shP
  by_cases c : j = n
  · subst c
    rw [if_pos rfl, if_neg (by omega), if_pos (by omega)]
  · rw [if_neg c]
    by_cases d : j < n
    · rw [if_pos d, if_pos (by omega)]
    · rw [if_neg d, if_neg (by omega)]
