/-! A SETUP's text of the reference -/
abbrev tR : Type := tQ × (Nat → Int32)
def txV (n : Nat) (a b : Nat → Int32) : Nat → Int32 := fun j => if j < n then a j else b j
def tkF (F : Nat → Int32) : Nat → Int32 := upd (upd F 13 (F 12)) 12 0
def cdK (T : Nat → Int32) (f k : Nat) (r : tR) : tR := (cmX T 0 200 r.1, su r.2 f (9 + k) (cmI T 0 200 r.1))
def gdK (T : Nat → Int32) (f k : Nat) (r : tR) : tR := (rdX T 0 9 r.1, su r.2 f (17 + k) (rdI T 0 9 r.1))
/-- a fiddler's text behind the look at the name -/
def ftG (T : Nat → Int32) (f : Nat) (r : tR) : tR := if iwI r.1 7939603 = 0 then r else gdK T f 3 (gdK T f 2 (gdK T f 1 (gdK T f 0 (goX T r.1, r.2))))
def ftC (T : Nat → Int32) (f : Nat) (r : tR) : tR := cdK T f 3 (cdK T f 2 (cdK T f 1 (cdK T f 0 r)))
def ftB (T : Nat → Int32) (r : tR) : tR :=
  if (rdX T 0 8 (goX T r.1)).1 18 = 0 then ftG T (manyS r.2) (ftC T (manyS r.2) (rdX T 0 8 (goX T r.1), comesS r.2 r.1.2.toInt32 (rdI T 0 8 (goX T r.1))))
  else (rdX T 0 8 (goX T r.1), r.2)
def ftF (q : tQ) (S : Nat → Int32) : Nat → Int32 :=
  let F1 := muF q.1 (nhI q.1) 1
  muF F1 (flI (¬ F1 18 = 0 ∨ namS S q.2.toInt32 (manyS S) 0 = none)) 3
def ftX (T : Nat → Int32) (r : tR) : tR := ftB T ((ftF r.1 r.2, r.1.2), r.2)
def s1K (T : Nat → Int32) (j : Nat) (hi : Int32) (r : tR) : tR := (rdX T 0 hi r.1, upd r.2 j (rdI T 0 hi r.1))
def seH0 (T : Nat → Int32) (r : tR) : tR := s1K T 12 9 (s1K T 11 9 (s1K T 10 9 (s1K T 9 9 (s1K T 4 99 (s1K T 3 99 (s1K T 2 40 (s1K T 1 40 (goX T (muF r.1.1 (iwI r.1 263564) 1, r.1.2), r.2))))))))
def seH (T : Nat → Int32) (r : tR) : tR := ((muF (sgX T 59 (seH0 T r).1).1 (iwI (sgX T 59 (seH0 T r).1) 6748778674) 1, (sgX T 59 (seH0 T r).1).2), (seH0 T r).2)
def seB0 (T : Nat → Int32) (r : tR) : tR := ftX T (goX T (muF r.1.1 (if 10 ≤ r.2 13 then 0 else 1) 4, r.1.2), r.2)
def seB (T : Nat → Int32) (r : tR) : tR := (sgX T 59 (seB0 T r).1, (seB0 T r).2)
def seL (T : Nat → Int32) : Nat → tR → tR
  | 0, r => r
  | f + 1, r => if iwI r.1 6748778674 = 0 then r else seL T f (seB T r)
def seX (T : Nat → Int32) (r : tR) : tR := ((muF (seL T 11 (seH T r)).1.1 (if (seL T 11 (seH T r)).1.1 16 = 0 then 1 else 0) 1, (seL T 11 (seH T r)).1.2), (seL T 11 (seH T r)).2)
/-! the bad code stays -/
theorem sc_18 {T : Nat → Int32} {q : tQ} : (scX T q).1 18 = q.1 18 := by
  unfold scX
  simp only
  split
  · rfl
  · split
    · rfl
    · split <;> rfl
theorem sc_19 {T : Nat → Int32} {q : tQ} : (scX T q).1 19 = q.1 19 := by
  unfold scX
  simp only
  split
  · rfl
  · split
    · rfl
    · split <;> rfl
theorem go_18 {T : Nat → Int32} {q : tQ} : (goX T q).1 18 = q.1 18 := by
  unfold goX
  split
  · exact sc_18
  · rfl
theorem mu_b {F : Nat → Int32} {z c : Int32} (h : ¬ F 18 = 0) : muF F z c = F := if_neg (fun k => h k.1)
theorem mu_y {F : Nat → Int32} {z c : Int32} (h : ¬ z = 0) : muF F z c = F := if_neg (fun k => h k.2)
theorem mu_0 {F : Nat → Int32} {z c : Int32} (hc : ¬ c = 0) (h : muF F z c 18 = 0) : F 18 = 0 ∧ ¬ z = 0 ∧ muF F z c = F := by
  unfold muF at h ⊢
  split at h
  · rw [upd_ne _ _ (by decide), upd_self] at h
    exact absurd h hc
  · rename_i k
    exact ⟨h, fun e => k ⟨h, e⟩, if_neg k⟩
theorem go_b {T : Nat → Int32} {q : tQ} (h : ¬ q.1 18 = 0) : goX T q = q := if_neg h
theorem go_y {T : Nat → Int32} {q : tQ} (h : q.1 18 = 0) : goX T q = scX T q := if_pos h
theorem rd_0 {T : Nat → Int32} {lo hi : Int32} {q : tQ} (h : (rdX T lo hi q).1 18 = 0) : q.1 18 = 0 := by
  unfold rdX at h
  rw [go_18] at h
  exact (mu_0 (by decide) (mu_0 (by decide) h).1).1
theorem rd_b {T : Nat → Int32} {lo hi : Int32} {q : tQ} (h : ¬ q.1 18 = 0) : rdX T lo hi q = q := by
  unfold rdX rdF
  simp only
  rw [mu_b (by rw [mu_b h]; exact h), mu_b h]
  exact go_b h
theorem sg_0 {T : Nat → Int32} {c : Int32} {q : tQ} (h : (sgX T c q).1 18 = 0) : q.1 18 = 0 := by
  unfold sgX at h
  rw [go_18] at h
  exact (mu_0 (by decide) h).1
theorem sg_b {T : Nat → Int32} {c : Int32} {q : tQ} (h : ¬ q.1 18 = 0) : sgX T c q = q := by
  unfold sgX
  rw [mu_b h]
  exact go_b h
theorem cm0_18 {T : Nat → Int32} {q : tQ} : (cm0 T q).1 18 = q.1 18 := by
  unfold cm0
  split
  · rfl
  · exact go_18
theorem cm_0 {T : Nat → Int32} {lo hi : Int32} {q : tQ} (h : (cmX T lo hi q).1 18 = 0) : q.1 18 = 0 := by
  have := rd_0 h
  rwa [cm0_18] at this
theorem cm_b {T : Nat → Int32} {lo hi : Int32} {q : tQ} (h : ¬ q.1 18 = 0) : cmX T lo hi q = q := by
  have e : cm0 T q = q := by
    unfold cm0
    split
    · rfl
    · exact go_b h
  unfold cmX
  rw [e]
  exact rd_b h
theorem iw_b {q : tQ} {w : Int64} (h : ¬ q.1 18 = 0) : iwI q w = 0 := flI_0.mpr (fun k => h k.1)
/-! a fiddler that comes -/
theorem grK_lo {f k : Nat} {S : Nat → Int32} {i : Nat} (h : i < 70) : grK f k S i = S i := su_lo h
theorem comes_lo {S : Nat → Int32} {nm pat : Int32} {i : Nat} (h : i < 70) (h3 : i ≠ 13) (h4 : i ≠ 14) (hp : i ≠ 20 + rowS S) : comesS S nm pat i = S i := by
  unfold comesS
  rw [upd_ne _ _ h4, upd_ne _ _ hp, grK_lo h, grK_lo h, grK_lo h, grK_lo h, su_lo h, su_lo h, su_lo h, upd_ne _ _ h3]
theorem comes_13 {S : Nat → Int32} {nm pat : Int32} : comesS S nm pat 13 = S 13 + 1 := by
  have h : 13 < 70 := by decide
  unfold comesS
  rw [upd_ne _ _ (by decide), upd_ne _ _ (by omega), grK_lo h, grK_lo h, grK_lo h, grK_lo h, su_lo h, su_lo h, su_lo h, upd_self]
theorem comes_14 {S : Nat → Int32} {nm pat : Int32} : comesS S nm pat 14 = S 14 + 1 := by
  have h : 14 < 70 := by decide
  unfold comesS
  rw [upd_self, upd_ne _ _ (by omega), grK_lo h, grK_lo h, grK_lo h, grK_lo h, su_lo h, su_lo h, su_lo h, upd_ne _ _ (by decide)]
theorem comes_pl {S : Nat → Int32} {nm pat : Int32} (hr : rowS S < 50) : comesS S nm pat (20 + rowS S) = nI (manyS S) := by
  unfold comesS
  rw [upd_ne _ _ (by omega), upd_self]
theorem comes_many {S : Nat → Int32} {nm pat : Int32} (h : S 13 = nI (manyS S)) (hm : manyS S < 10) : manyS (comesS S nm pat) = manyS S + 1 := by
  show (comesS S nm pat 13).toNatClampNeg = _
  rw [comes_13, h, nI_1, nI_clamp (by omega)]
theorem comes_row {S : Nat → Int32} {nm pat : Int32} (h : S 14 = nI (rowS S)) (hm : rowS S < 10) : rowS (comesS S nm pat) = rowS S + 1 := by
  show (comesS S nm pat 14).toNatClampNeg = _
  rw [comes_14, h, nI_1, nI_clamp (by omega)]
theorem comes_ok {S : Nat → Int32} {nm pat : Int32} (h : tOk S) (hm : manyS S < 10) (hr : rowS S < 10) : tOk (comesS S nm pat) := by
  obtain ⟨⟨h1, h2⟩, ⟨h3, h4⟩, h5⟩ := h
  refine ⟨⟨by rw [comes_many h1 hm, comes_13, h1, nI_1], by rw [comes_many h1 hm]; omega⟩, ⟨by rw [comes_row h3 hr, comes_14, h3, nI_1], by rw [comes_row h3 hr]; omega⟩, fun p hp => ?_⟩
  rw [comes_row h3 hr] at hp
  by_cases hpe : p = rowS S
  · subst hpe
    unfold plS
    rw [comes_pl (by omega), nI_clamp (by omega)]
    exact ⟨rfl, hm⟩
  · have := h5 p (by omega)
    unfold plS at *
    rw [comes_lo (by omega) (by omega) (by omega) (by omega)]
    exact this
/-- the counts and the text's state of a setup in the reading -/
def sOk (r : tR) : Prop := TI r.1.1 ∧ tOk r.2 ∧ rowS r.2 = manyS r.2
theorem hdE.sOk {q : tQ} {S T : Nat → Int32} (h : hdE S T) (hq : TI q.1) (k : tOk S) (e : rowS S = manyS S) : sOk (q, T) := ⟨hq, h.ok k, by show rowS T = manyS T; rw [h.row, h.many]; exact e⟩
/-- a step of the reading that leaves the row's head -/
def stp (r r' : tR) : Prop := (TI r.1.1 → TI r'.1.1) ∧ (r'.1.1 18 = 0 → r.1.1 18 = 0) ∧ (¬ r.1.1 18 = 0 → r'.1 = r.1) ∧ hdE r.2 r'.2
theorem stp.rf {r : tR} : stp r r := ⟨fun h => h, fun h => h, fun _ => rfl, hdE.rf⟩
theorem stp.tr {a b c : tR} (h : stp a b) (k : stp b c) : stp a c := ⟨fun x => k.1 (h.1 x), fun x => h.2.1 (k.2.1 x), fun x => by
  have e := h.2.2.1 x
  have e2 := k.2.2.1 (by rw [e]; exact x)
  rw [e2, e], h.2.2.2.tr k.2.2.2⟩
theorem stp.mk {q q' : tQ} {S S' : Nat → Int32} (h1 : TI q.1 → TI q'.1) (h2 : q'.1 18 = 0 → q.1 18 = 0) (h3 : ¬ q.1 18 = 0 → q' = q) (h4 : hdE S S') : stp (q, S) (q', S') := ⟨h1, h2, h3, h4⟩
theorem stp_cdK {T : Nat → Int32} {f k : Nat} {r : tR} : stp r (cdK T f k r) := stp.mk (q := r.1) (S := r.2) (q' := cmX T 0 200 r.1) (S' := su r.2 f (9 + k) (cmI T 0 200 r.1)) TI_cm cm_0 cm_b (hdE.rf.su _ _ _)
theorem stp_gdK {T : Nat → Int32} {f k : Nat} {r : tR} : stp r (gdK T f k r) := stp.mk (q := r.1) (S := r.2) (q' := rdX T 0 9 r.1) (S' := su r.2 f (17 + k) (rdI T 0 9 r.1)) TI_rd rd_0 rd_b (hdE.rf.su _ _ _)
theorem stp_go {T : Nat → Int32} {r : tR} : stp r (goX T r.1, r.2) := stp.mk (q := r.1) (S := r.2) TI_go (fun h => by rwa [go_18] at h) go_b hdE.rf
theorem stp_sg {T : Nat → Int32} {c : Int32} {r : tR} : stp r (sgX T c r.1, r.2) := stp.mk (q := r.1) (S := r.2) TI_sg sg_0 sg_b hdE.rf
theorem stp_rd {T : Nat → Int32} {lo hi : Int32} {r : tR} : stp r (rdX T lo hi r.1, r.2) := stp.mk (q := r.1) (S := r.2) TI_rd rd_0 rd_b hdE.rf
theorem stp_mu {z c : Int32} {r : tR} (hc : ¬ c = 0) : stp r ((muF r.1.1 z c, r.1.2), r.2) := stp.mk (q := r.1) (S := r.2) TI_mu (fun h => (mu_0 hc h).1) (fun h => by rw [mu_b h]) hdE.rf
theorem stp_ftC {T : Nat → Int32} {f : Nat} {r : tR} : stp r (ftC T f r) := by
  unfold ftC
  have h0 := stp_cdK (T := T) (f := f) (k := 0) (r := r)
  generalize cdK T f 0 r = r0 at h0 ⊢
  have h1 := stp_cdK (T := T) (f := f) (k := 1) (r := r0)
  generalize cdK T f 1 r0 = r1 at h1 ⊢
  have h2 := stp_cdK (T := T) (f := f) (k := 2) (r := r1)
  generalize cdK T f 2 r1 = r2 at h2 ⊢
  exact ((h0.tr h1).tr h2).tr stp_cdK
theorem stp_ftG {T : Nat → Int32} {f : Nat} {r : tR} : stp r (ftG T f r) := by
  unfold ftG
  split
  · exact stp.rf
  · have h := stp_go (T := T) (r := r)
    generalize (goX T r.1, r.2) = s at h ⊢
    have h0 := stp_gdK (T := T) (f := f) (k := 0) (r := s)
    generalize gdK T f 0 s = r0 at h0 ⊢
    have h1 := stp_gdK (T := T) (f := f) (k := 1) (r := r0)
    generalize gdK T f 1 r0 = r1 at h1 ⊢
    have h2 := stp_gdK (T := T) (f := f) (k := 2) (r := r1)
    generalize gdK T f 2 r1 = r2 at h2 ⊢
    exact (((h.tr h0).tr h1).tr h2).tr stp_gdK
theorem stp.ok {r r' : tR} (h : stp r r') (k : sOk r) : sOk r' ∧ manyS r'.2 = manyS r.2 := ⟨⟨h.1 k.1, h.2.2.2.ok k.2.1, by rw [h.2.2.2.row, h.2.2.2.many]; exact k.2.2⟩, h.2.2.2.many⟩
/-- what a fiddler's text leaves: one fiddler more, if it is good -/
def ftP (r r' : tR) : Prop := sOk r' ∧ (r'.1.1 18 = 0 → r.1.1 18 = 0 ∧ manyS r'.2 = manyS r.2 + 1) ∧ (¬ r.1.1 18 = 0 → r'.1 = r.1)
theorem ftB_ok {T : Nat → Int32} {r : tR} (h : sOk r) (hm : r.1.1 18 = 0 → manyS r.2 < 10) : ftP r (ftB T r) := by
  have hq := (stp_go (T := T) (r := r)).tr (stp_rd (T := T) (lo := 0) (hi := 8) (r := (goX T r.1, r.2)))
  unfold ftB
  generalize rdI T 0 8 (goX T r.1) = v
  change stp r (rdX T 0 8 (goX T r.1), r.2) at hq
  generalize rdX T 0 8 (goX T r.1) = q at hq ⊢
  split
  · rename_i h0
    have hb := hq.2.1 h0
    have hmm := hm hb
    have hrr : rowS r.2 < 10 := by have := h.2.2; omega
    have hc := comes_ok (nm := r.1.2.toInt32) (pat := v) h.2.1 hmm hrr
    have em := comes_many (nm := r.1.2.toInt32) (pat := v) h.2.1.1.1 hmm
    have er := comes_row (nm := r.1.2.toInt32) (pat := v) h.2.1.2.1.1 hrr
    generalize comesS r.2 r.1.2.toInt32 v = S1 at hc em er ⊢
    have h1 := stp_ftC (T := T) (f := manyS r.2) (r := (q, S1))
    generalize ftC T (manyS r.2) (q, S1) = r1 at h1 ⊢
    have h2 := h1.tr (stp_ftG (T := T) (f := manyS r.2) (r := r1))
    generalize ftG T (manyS r.2) r1 = r2 at h2 ⊢
    have h3 := h2.ok ⟨hq.1 h.1, hc, by show rowS S1 = manyS S1; rw [em, er, h.2.2]⟩
    exact ⟨h3.1, fun _ => ⟨hb, h3.2.trans em⟩, fun n => absurd hb n⟩
  · rename_i h0
    exact ⟨(hq.ok h).1, fun k => absurd k h0, fun n => hq.2.2.1 n⟩
theorem ftX_ok {T : Nat → Int32} {r : tR} (h : sOk r) (hm : r.1.1 18 = 0 → manyS r.2 < 10) : ftP r (ftX T r) := by
  have h1 : stp r ((ftF r.1 r.2, r.1.2), r.2) := (stp_mu (z := nhI r.1.1) (c := 1) (r := r) (by decide)).tr (stp_mu (r := ((muF r.1.1 (nhI r.1.1) 1, r.1.2), r.2)) (by decide))
  unfold ftX
  generalize ((ftF r.1 r.2, r.1.2), r.2) = s at h1 ⊢
  have hs := h1.ok h
  have hb := ftB_ok (T := T) hs.1 (fun e => by rw [hs.2]; exact hm (h1.2.1 e))
  exact ⟨hb.1, fun e => ⟨h1.2.1 (hb.2.1 e).1, by rw [(hb.2.1 e).2, hs.2]⟩, fun n => by
    have e := h1.2.2.1 n
    rw [hb.2.2 (by rw [e]; exact n), e]⟩
theorem i10 {S : Nat → Int32} (h : tOk S) : ¬ (if 10 ≤ S 13 then (0 : Int32) else 1) = 0 → manyS S < 10 := by
  intro e
  have e2 : ¬ 10 ≤ S 13 := fun k => e (if_pos k)
  rw [h.1.1, show (10 : Int32) = nI 10 from rfl, nI_leI (by omega) (by have := h.1.2; omega)] at e2
  omega
theorem seB0_ok {T : Nat → Int32} {r : tR} (h : sOk r) : ftP r (seB0 T r) := by
  have h1 := (stp_mu (z := if 10 ≤ r.2 13 then 0 else 1) (c := 4) (r := r) (by decide)).tr (stp_go (T := T) (r := ((muF r.1.1 (if 10 ≤ r.2 13 then 0 else 1) 4, r.1.2), r.2)))
  change stp r (goX T (muF r.1.1 (if 10 ≤ r.2 13 then 0 else 1) 4, r.1.2), r.2) at h1
  have key : (goX T (muF r.1.1 (if 10 ≤ r.2 13 then 0 else 1) 4, r.1.2)).1 18 = 0 → manyS r.2 < 10 := fun e => by
    rw [go_18] at e
    exact i10 h.2.1 (mu_0 (by decide) e).2.1
  unfold seB0
  generalize goX T (muF r.1.1 (if 10 ≤ r.2 13 then 0 else 1) 4, r.1.2) = q at h1 key ⊢
  have hs := h1.ok h
  have hb := ftX_ok (T := T) hs.1 key
  exact ⟨hb.1, fun e => ⟨h1.2.1 (hb.2.1 e).1, (hb.2.1 e).2⟩, fun n => by
    have e := h1.2.2.1 n
    rw [hb.2.2 (by rw [e]; exact n), e]⟩
theorem seB_ok {T : Nat → Int32} {r : tR} (h : sOk r) : ftP r (seB T r) := by
  have h1 := seB0_ok (T := T) h
  unfold seB
  generalize seB0 T r = s at h1 ⊢
  have h2 := stp_sg (T := T) (c := 59) (r := s)
  generalize sgX T 59 s.1 = q at h2 ⊢
  have h3 := h2.ok h1.1
  exact ⟨h3.1, fun e => ⟨(h1.2.1 (h2.2.1 e)).1, h3.2.trans (h1.2.1 (h2.2.1 e)).2⟩, fun n => by
    have e := h1.2.2 n
    exact (h2.2.2.1 (by rw [e]; exact n)).trans e⟩
theorem s1K_ok {T : Nat → Int32} {j : Nat} {hi : Int32} {r : tR} (h : sOk r) (hj : j < 13) : sOk (s1K T j hi r) ∧ manyS (s1K T j hi r).2 = manyS r.2 := by
  have hT : TI (rdX T 0 hi r.1).1 := TI_rd h.1
  unfold s1K
  generalize rdX T 0 hi r.1 = q at hT ⊢
  generalize rdI T 0 hi r.1 = v
  have e : ∀ i, 13 ≤ i → upd r.2 j v i = r.2 i := fun i hi => upd_ne _ _ (by omega)
  have e13 := e 13 (by decide)
  have e14 := e 14 (by decide)
  have ep : ∀ p, upd r.2 j v (20 + p) = r.2 (20 + p) := fun p => e _ (by omega)
  generalize upd r.2 j v = S1 at e13 e14 ep ⊢
  refine ⟨⟨hT, ?_, ?_⟩, ?_⟩
  · obtain ⟨h1, ⟨h2, h3⟩, h4⟩ := h.2.1
    show tOk S1
    unfold tOk manyS rowS plS at *
    rw [e13, e14]
    exact ⟨h1, ⟨h2, h3⟩, fun p hp => by rw [ep p]; exact h4 p hp⟩
  · have := h.2.2
    show rowS S1 = manyS S1
    unfold manyS rowS at *
    rw [e13, e14]
    exact this
  · show manyS S1 = _
    unfold manyS
    rw [e13]
theorem seH0_ok {T : Nat → Int32} {r : tR} (h : sOk r) : sOk (seH0 T r) ∧ manyS (seH0 T r).2 = manyS r.2 := by
  unfold seH0
  have h0 : sOk (goX T (muF r.1.1 (iwI r.1 263564) 1, r.1.2), r.2) := ⟨TI_go (TI_mu h.1), h.2⟩
  generalize goX T (muF r.1.1 (iwI r.1 263564) 1, r.1.2) = q at h0 ⊢
  have g1 := s1K_ok (T := T) (j := 1) (hi := 40) h0 (by decide)
  generalize s1K T 1 40 (q, r.2) = r1 at g1 ⊢
  have g2 := s1K_ok (T := T) (j := 2) (hi := 40) g1.1 (by decide)
  generalize s1K T 2 40 r1 = r2 at g2 ⊢
  have g3 := s1K_ok (T := T) (j := 3) (hi := 99) g2.1 (by decide)
  generalize s1K T 3 99 r2 = r3 at g3 ⊢
  have g4 := s1K_ok (T := T) (j := 4) (hi := 99) g3.1 (by decide)
  generalize s1K T 4 99 r3 = r4 at g4 ⊢
  have g5 := s1K_ok (T := T) (j := 9) (hi := 9) g4.1 (by decide)
  generalize s1K T 9 9 r4 = r5 at g5 ⊢
  have g6 := s1K_ok (T := T) (j := 10) (hi := 9) g5.1 (by decide)
  generalize s1K T 10 9 r5 = r6 at g6 ⊢
  have g7 := s1K_ok (T := T) (j := 11) (hi := 9) g6.1 (by decide)
  generalize s1K T 11 9 r6 = r7 at g7 ⊢
  have g8 := s1K_ok (T := T) (j := 12) (hi := 9) g7.1 (by decide)
  exact ⟨g8.1, by rw [g8.2, g7.2, g6.2, g5.2, g4.2, g3.2, g2.2, g1.2]⟩
theorem seH_ok {T : Nat → Int32} {r : tR} (h : sOk r) : sOk (seH T r) ∧ manyS (seH T r).2 = manyS r.2 := by
  have h0 := seH0_ok (T := T) h
  unfold seH
  generalize seH0 T r = s at h0 ⊢
  have h1 := stp_sg (T := T) (c := 59) (r := s)
  generalize sgX T 59 s.1 = q at h1 ⊢
  have h2 := h1.tr (stp_mu (z := iwI q 6748778674) (c := 1) (r := (q, s.2)) (by decide))
  have h3 := h2.ok h0.1
  exact ⟨h3.1, h3.2.trans h0.2⟩
/-! loading -/
def zrS (S : Nat → Int32) (n : Nat) : Nat → Int32 := fun j => if j < n then 0 else S j
theorem zrS_1 (S : Nat → Int32) (n : Nat) : upd (zrS S n) n 0 = zrS S (n + 1) := by
  funext j
  unfold upd zrS
  split
  · rename_i h; rw [if_pos (by omega)]
  · split <;> first | rw [if_pos (by omega)] | rw [if_neg (by omega)]
theorem zrS_0 (S : Nat → Int32) : zrS S 0 = S := funext fun j => if_neg (by omega)
theorem zr_ok {q : tQ} {S : Nat → Int32} (h : TI q.1) : sOk (q, zrS S 280) := by
  have e : ∀ j, j < 280 → zrS S 280 j = 0 := fun j hj => if_pos hj
  generalize zrS S 280 = S1 at e ⊢
  have em : manyS S1 = 0 := by unfold manyS; rw [e 13 (by decide)]; rfl
  have er : rowS S1 = 0 := by unfold rowS; rw [e 14 (by decide)]; rfl
  have k : tOk S1 := ⟨⟨by rw [em]; exact e 13 (by decide), by omega⟩, ⟨by rw [er]; exact e 14 (by decide), by omega⟩, fun p hp => by omega⟩
  exact ⟨h, k, by show rowS S1 = manyS S1; rw [em, er]⟩
