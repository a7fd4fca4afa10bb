set_option maxRecDepth 100000
/-! COPYING A HALL: what it needs -/
section HQ
variable {g : xG} {E τ τ1 τ' : Nat → Nat} {σ : Nat → Nat → Nat} {tf : Nat → Nat → Int32} {S Y : Nat → Int32} {A A' : xA} {nf nr np ng : Nat}
theorem HP.lv (h : HP g E τ σ tf S Y A nf nr np ng) (k : xlv A τ1 A') : HP g E (tgU τ A.2.1 0) σ tf S Y A' nf nr np ng := by
  obtain ⟨a1, ⟨sf, a2, a3⟩, a4, a5, a6, a7, a8, a9, a10, a11⟩ := h
  exact ⟨a1.lv k (fun _ => xne_c (by decide)), ⟨sf, a2.lv k (fun _ => xne_a'), a3⟩, a4.lv k, a5.lv k, fun i hi => (a6 i hi).lv k, a7.lv k, fun i hi => (a8 i hi).lv k, a9.lv k (fun _ => xne_c (by decide)), a10.lv k, fun j hj => ⟨(a11 j hj).1.lv k, (a11 j hj).2⟩⟩
theorem Nm.ct {a : Nat} {v : Int32} (h : Nm g τ A a v) (k : ∀ r, τ r = 0 → τ' r = 0) : Nm g τ' A a v := by
  obtain ⟨b, len, f, hz, hy, k1, k2, k3⟩ := h
  exact ⟨b, len, f, hz, hy, k1.imp (fun z => ⟨k _ z.1, z.2⟩) id, k2.imp (fun z => ⟨k _ z.1, z.2⟩) id, k3⟩
def tg0 (n : Nat) : Nat → Nat := fun r => if n ≤ r ∧ r < n + 7 then r - n + 1 else if r < n then 0 else 9
def sg0 (n : Nat) : Nat → Nat → Nat := fun _ i => n + i
theorem tg0_k {n i : Nat} (h : i < 7) : tg0 n (n + i) = i + 1 := by
  unfold tg0
  rw [if_pos ⟨by omega, by omega⟩]
  omega
theorem tg0_o {n r : Nat} (h : r < n) : tg0 n r = 0 := by
  unfold tg0
  rw [if_neg (by omega), if_pos h]
/-- an empty hall -/
theorem HP.mk0 {n : Nat} (hn : n + 7 ≤ A.2.1) (c0 : A.1 n = some (xHl S (n + 1) (n + 2) (n + 3) (n + 4) (n + 5))) {sf : Nat → Int32} (c1 : A.1 (n + 1) = some (xI4 sf)) (hsf : ∀ k, k < 4 → sf k = S (9 + k)) (c2 : A.1 (n + 2) = some (xAl 0 (E 0) 0)) (c3 : A.1 (n + 3) = some (xAl 0 (E 0) 0)) (c4 : A.1 (n + 4) = some (xLg .null none 0 0 (nI 0) none none none none)) (c5 : A.1 (n + 5) = some (.inr (13, [.ref (n + 6)]))) (c6 : A.1 (n + 6) = some (xLg .null none 0 0 (nI 16) none none none none)) : HP g E (tg0 n) (sg0 n) tf S Y A 0 0 0 0 := by
  have z : ∀ i, i < 7 → n + i < A.2.1 := fun i hi => by omega
  exact ⟨⟨tg0_k (i := 0) (by omega), z 0 (by omega), c0⟩, ⟨sf, ⟨tg0_k (i := 1) (by omega), z 1 (by omega), c1⟩, hsf⟩, ⟨0, E 0, 0, fun _ => none, ⟨tg0_k (i := 2) (by omega), z 2 (by omega), c2⟩, Nat.le_refl _, fun i hi => absurd hi (Nat.not_lt_zero _), Or.inl ⟨rfl, rfl, rfl⟩⟩, ⟨0, E 0, 0, fun _ => none, ⟨tg0_k (i := 3) (by omega), z 3 (by omega), c3⟩, Nat.le_refl _, fun i hi => absurd hi (Nat.not_lt_zero _), Or.inl ⟨rfl, rfl, rfl⟩⟩, fun i hi => absurd hi (Nat.not_lt_zero _), ⟨none, none, none, MP_new c4 (Or.inl rfl) (tg0_k (i := 4) (by omega)) (z 4 (by omega)), (fun w hw => by cases hw), (fun w hw => by cases hw), (fun w hw => by cases hw)⟩, fun i hi => absurd hi (Nat.not_lt_zero _), ⟨tg0_k (i := 5) (by omega), z 5 (by omega), c5⟩, ⟨none, none, none, MP_new c6 (Or.inr rfl) (tg0_k (i := 6) (by omega)) (z 6 (by omega)), (fun w hw => by cases hw), (fun w hw => by cases hw), (fun w hw => by cases hw)⟩, fun i hi => absurd hi (Nat.not_lt_zero _)⟩
theorem hAl_hasT {l n k p ed : Nat} {lr mc : Int32} (hl : A.1 l = some (xAl mc ed n)) (hp : A.1 p = some (xIt (nI k) lr mc l)) (hk : k < n) (hn : n < 2 ^ 31) : xC g iJ38_hasNext 0 [.ref p] A (xRet (some (.int 1)) A) := c_J38_hasNext_T g A p l ed n 0 k lr mc (fun _ => none) hp hl hk hn
theorem hAl_hasF {l n p ed : Nat} {lr mc : Int32} (hl : A.1 l = some (xAl mc ed n)) (hp : A.1 p = some (xIt (nI n) lr mc l)) : xC g iJ38_hasNext 0 [.ref p] A (xRet (some (.int 0)) A) := c_J38_hasNext_F g A p l ed n 0 n lr mc (fun _ => none) hp hl rfl
theorem hAl_next {t l n k p ed : Nat} {lr mc : Int32} {x : Nat → Nat} (h : hAl E τ t A l n x) (hl : A.1 l = some (xAl mc ed n)) (hp : A.1 p = some (xIt (nI k) lr mc l)) (hk : k < n) : xC g iJ38_next 1 [.ref p] A (xRet (some (.ref (x k))) (xup A p (xIt (nI (k + 1)) (nI k) mc l))) := by
  obtain ⟨mc', ed', cap, f, k1, k2, k3, k4⟩ := h
  have e := k1.2.2.symm.trans hl
  injection e with e
  injection e with e
  injection e with _ e
  injection e with e1 e
  injection e with e2 e
  injection e1 with e1
  injection e2 with e2
  subst e1 e2
  rcases k4 with ⟨h0, -⟩ | ⟨rfl, k5⟩
  · omega
  · exact c_J38_next g A p l ed' n 10 k lr mc' f hp hl k5.2.2 (x k) (k3 k hk) hk k2 (by omega)
/-- a fresh entry is put into a map whose cells have tag t -/
theorem hMp_put {t m c k f s v : Nat} {N H K V : Nat → Nat} (h : hMp τ t A m c N H K V) (ht0 : t ≠ 0) (hk : A.1 k = some (.inr (4, [.int (nI f), .int (nI s)]))) (hh : 4 * f + s < 40) (hc : c < 40) (hne : ∀ j, j < c → H j ≠ 4 * f + s) : xC g iJ4_put 5 [.ref m, .ref k, .ref v] A (xRs fun w A' => w = some .null ∧ ∃ N', hMp (tgU τ A.2.1 t) t A' m (c + 1) N' (nup H c (4 * f + s)) (nup K c k) (nup V c v) ∧ (∀ r, r < A.2.1 → τ r ≠ t → A'.1 r = A.1 r) ∧ hst τ A (tgU τ A.2.1 t) A' 3 86) := by
  obtain ⟨es, ks, vs, hM, v1, v2, v3⟩ := h
  refine xW.imp (c_J4_put g A _ m c k f s v N H K V es ks vs hM hk hh hc hne) (fun o A' hP => ?_)
  obtain ⟨w, rfl, rfl, N', p1, p2, p3⟩ := hP
  have ht : ∀ r, r < A.2.1 → tgU τ A.2.1 t r = τ r := fun r hr => tgU_o hr
  exact ⟨_, rfl, rfl, N', ⟨es, ks, vs, p1.fr (Nat.le_refl _) (fun _ _ _ => rfl) (fun r _ hr => hr.elim (fun z => (ht r z.1).trans z.2) (fun z => tgU_n z)), fun w hw => (v1 w hw).fr p3.1 ht (fun r hr h0 => p2 r hr (by rw [h0]; exact Ne.symm ht0)), fun w hw => (v2 w hw).fr p3.1 ht (fun r hr h0 => p2 r hr (by rw [h0]; exact Ne.symm ht0)), fun w hw => (v3 w hw).fr p3.1 ht (fun r hr h0 => p2 r hr (by rw [h0]; exact Ne.symm ht0))⟩, p2, p3, ht, fun r hr h0 => p2 r hr (by rw [h0]; exact Ne.symm ht0)⟩
theorem hMp_add {t m c k f s q : Nat} {N H K V : Nat → Nat} (hg : gW g E) (h : hMp τ t A m c N H K V) (ht0 : t ≠ 0) (hk : A.1 k = some (.inr (4, [.int (nI f), .int (nI s)]))) (hh : 4 * f + s < 40) (hc : c < 40) (hne : ∀ j, j < c → H j ≠ 4 * f + s) (hq : A.1 q = some (.inr (13, [.ref m]))) : xC g iJ7_add 6 [.ref q, .ref k] A (xRs fun w A' => w = some (.int 1) ∧ ∃ N', hMp (tgU τ A.2.1 t) t A' m (c + 1) N' (nup H c (4 * f + s)) (nup K c k) (nup V c (E 1)) ∧ (∀ r, r < A.2.1 → τ r ≠ t → A'.1 r = A.1 r) ∧ hst τ A (tgU τ A.2.1 t) A' 3 86) := by
  obtain ⟨es, ks, vs, hM, v1, v2, v3⟩ := h
  refine xW.imp (c_J7_add g A E hg q _ m c k f s N H K V es ks vs hM hk hh hc hne hq) (fun o A' hP => ?_)
  obtain ⟨w, rfl, rfl, N', p1, p2, p3⟩ := hP
  have ht : ∀ r, r < A.2.1 → tgU τ A.2.1 t r = τ r := fun r hr => tgU_o hr
  exact ⟨_, rfl, rfl, N', ⟨es, ks, vs, p1.fr (Nat.le_refl _) (fun _ _ _ => rfl) (fun r _ hr => hr.elim (fun z => (ht r z.1).trans z.2) (fun z => tgU_n z)), fun w hw => (v1 w hw).fr p3.1 ht (fun r hr h0 => p2 r hr (by rw [h0]; exact Ne.symm ht0)), fun w hw => (v2 w hw).fr p3.1 ht (fun r hr h0 => p2 r hr (by rw [h0]; exact Ne.symm ht0)), fun w hw => (v3 w hw).fr p3.1 ht (fun r hr h0 => p2 r hr (by rw [h0]; exact Ne.symm ht0))⟩, p2, p3, ht, fun r hr h0 => p2 r hr (by rw [h0]; exact Ne.symm ht0)⟩
end HQ
theorem c_J5_entrySet_v (g : xG) (A : xA) (m : Nat) (t0 : Value) (es ks vs hd tl : Option Nat) (c : Nat) (mc th : Int32) (hm : A.1 m = some (xLg t0 es c mc th ks vs hd tl)) (hlt : m < A.2.1) (hv : ∀ w, es = some w → A.1 w = some (xVw 20 m) ∧ w < A.2.1) : xC g iJ5_entrySet 5 [.ref m] A (xRs fun u A' => ∃ w, u = some (.ref w) ∧ A'.1 w = some (xVw 20 m) ∧ w < A'.2.1 ∧ A'.1 m = some (xLg t0 (some w) c mc th ks vs hd tl) ∧ xlv A (fun _ => 0) A' ∧ xBd A A' 1 2) := by
  show xW g _ _ 0 [some (.ref m)] [] _ _
  refine x_aload_n dJ5_entrySet_0 rfl ?_
  cases es with
  | none =>
    refine x_cvV (q := (RJ5, TJ5, 12)) cvJ5_148_J5 dJ5_entrySet_1 (Or.inl hm) rfl (c_seqEntrySet_n _ _ m t0 ks vs hd tl c mc th hm hlt) rfl ?_
    have hm' : (ov (xbp A 2) [(A.2.1, xVw 20 m), (m, (xLg t0 (some A.2.1) c mc th ks vs hd tl))]).1 m = some (xLg t0 (some A.2.1) c mc th ks vs hd tl) := by
      show (xup (xup (xbp A 2) m _) A.2.1 _).1 m = _
      rw [xup_ne (Nat.ne_of_lt hlt), xup_self]
    refine x_areturn dJ5_entrySet_4 rfl (Or.inl ⟨_, rfl⟩) (Or.inr ⟨_, rfl⟩) ⟨_, rfl, A.2.1, rfl, xup_self, Nat.lt_succ_self _, hm', ?_, Nat.le_succ _, Nat.le_refl _, Nat.le_refl _⟩
    refine xlv.vw (m := m) (k := 20) (i := 0) (w := 0) (f := fun i => [t0, .null, .int (nI c), .int mc, .int th, .float LF, .null, .null, va_rf hd, va_rf tl, .int 0, .int 0][i]?.getD .null) (Nat.le_succ _) hm hm' (fun r h1 h2 => ?_) (Or.inr ⟨A.2.1, rfl, rfl, Nat.le_refl _, Nat.lt_succ_self _, rfl, xup_self⟩) (Or.inl rfl) (Or.inl rfl)
    show (xup (xup (xbp A 2) m _) A.2.1 _).1 r = _
    rw [xup_ne (Nat.ne_of_lt h1), xup_ne h2]
    rfl
  | some w =>
    have hw := hv w rfl
    refine x_cvV (q := (RJ5, TJ5, 12)) cvJ5_148_J5 dJ5_entrySet_1 (Or.inl hm) rfl (c_seqEntrySet_y _ _ w m t0 ks vs hd tl c mc th hm hw.1) rfl ?_
    exact x_areturn dJ5_entrySet_4 rfl (Or.inl ⟨_, rfl⟩) (Or.inr ⟨_, rfl⟩) ⟨_, rfl, w, rfl, hw.1, hw.2, hm, xlv.rf, Nat.le_refl _, Nat.le_add_right _ _, Nat.le_add_right _ _⟩
theorem c_J5_keySet_v (g : xG) (A : xA) (m : Nat) (t0 : Value) (es ks vs hd tl : Option Nat) (c : Nat) (mc th : Int32) (hm : A.1 m = some (xLg t0 es c mc th ks vs hd tl)) (hlt : m < A.2.1) (hv : ∀ w, ks = some w → A.1 w = some (xVw 23 m) ∧ w < A.2.1) : xC g iJ5_keySet 5 [.ref m] A (xRs fun u A' => ∃ w, u = some (.ref w) ∧ A'.1 w = some (xVw 23 m) ∧ w < A'.2.1 ∧ A'.1 m = some (xLg t0 es c mc th (some w) vs hd tl) ∧ xlv A (fun _ => 0) A' ∧ xBd A A' 1 2) := by
  show xW g _ _ 0 [some (.ref m)] [] _ _
  refine x_aload_n dJ5_keySet_0 rfl ?_
  cases ks with
  | none =>
    refine x_cvV (q := (RJ5, TJ5, 12)) cvJ5_113_J5 dJ5_keySet_1 (Or.inl hm) rfl (c_seqKeySet_n _ _ m t0 es vs hd tl c mc th hm hlt) rfl ?_
    have hm' : (ov (xbp A 2) [(A.2.1, xVw 23 m), (m, (xLg t0 es c mc th (some A.2.1) vs hd tl))]).1 m = some (xLg t0 es c mc th (some A.2.1) vs hd tl) := by
      show (xup (xup (xbp A 2) m _) A.2.1 _).1 m = _
      rw [xup_ne (Nat.ne_of_lt hlt), xup_self]
    refine x_areturn dJ5_keySet_4 rfl (Or.inl ⟨_, rfl⟩) (Or.inr ⟨_, rfl⟩) ⟨_, rfl, A.2.1, rfl, xup_self, Nat.lt_succ_self _, hm', ?_, Nat.le_succ _, Nat.le_refl _, Nat.le_refl _⟩
    refine xlv.vw (m := m) (k := 20) (i := 0) (w := 0) (f := fun i => [t0, .null, .int (nI c), .int mc, .int th, .float LF, .null, .null, va_rf hd, va_rf tl, .int 0, .int 0][i]?.getD .null) (Nat.le_succ _) hm hm' (fun r h1 h2 => ?_) (Or.inl rfl) (Or.inr ⟨A.2.1, rfl, rfl, Nat.le_refl _, Nat.lt_succ_self _, rfl, xup_self⟩) (Or.inl rfl)
    show (xup (xup (xbp A 2) m _) A.2.1 _).1 r = _
    rw [xup_ne (Nat.ne_of_lt h1), xup_ne h2]
    rfl
  | some w =>
    have hw := hv w rfl
    refine x_cvV (q := (RJ5, TJ5, 12)) cvJ5_113_J5 dJ5_keySet_1 (Or.inl hm) rfl (c_seqKeySet_y _ _ w m t0 es vs hd tl c mc th hm hw.1) rfl ?_
    exact x_areturn dJ5_keySet_4 rfl (Or.inl ⟨_, rfl⟩) (Or.inr ⟨_, rfl⟩) ⟨_, rfl, w, rfl, hw.1, hw.2, hm, xlv.rf, Nat.le_refl _, Nat.le_add_right _ _, Nat.le_add_right _ _⟩
theorem c_J5_values_v (g : xG) (A : xA) (m : Nat) (t0 : Value) (es ks vs hd tl : Option Nat) (c : Nat) (mc th : Int32) (hm : A.1 m = some (xLg t0 es c mc th ks vs hd tl)) (hlt : m < A.2.1) (hv : ∀ w, vs = some w → A.1 w = some (xVw 24 m) ∧ w < A.2.1) : xC g iJ5_values 5 [.ref m] A (xRs fun u A' => ∃ w, u = some (.ref w) ∧ A'.1 w = some (xVw 24 m) ∧ w < A'.2.1 ∧ A'.1 m = some (xLg t0 es c mc th ks (some w) hd tl) ∧ xlv A (fun _ => 0) A' ∧ xBd A A' 1 2) := by
  show xW g _ _ 0 [some (.ref m)] [] _ _
  refine x_aload_n dJ5_values_0 rfl ?_
  cases vs with
  | none =>
    refine x_cvV (q := (RJ5, TJ5, 12)) cvJ5_135_J5 dJ5_values_1 (Or.inl hm) rfl (c_seqValues_n _ _ m t0 es ks hd tl c mc th hm hlt) rfl ?_
    have hm' : (ov (xbp A 2) [(A.2.1, xVw 24 m), (m, (xLg t0 es c mc th ks (some A.2.1) hd tl))]).1 m = some (xLg t0 es c mc th ks (some A.2.1) hd tl) := by
      show (xup (xup (xbp A 2) m _) A.2.1 _).1 m = _
      rw [xup_ne (Nat.ne_of_lt hlt), xup_self]
    refine x_areturn dJ5_values_4 rfl (Or.inl ⟨_, rfl⟩) (Or.inr ⟨_, rfl⟩) ⟨_, rfl, A.2.1, rfl, xup_self, Nat.lt_succ_self _, hm', ?_, Nat.le_succ _, Nat.le_refl _, Nat.le_refl _⟩
    refine xlv.vw (m := m) (k := 20) (i := 0) (w := 0) (f := fun i => [t0, .null, .int (nI c), .int mc, .int th, .float LF, .null, .null, va_rf hd, va_rf tl, .int 0, .int 0][i]?.getD .null) (Nat.le_succ _) hm hm' (fun r h1 h2 => ?_) (Or.inl rfl) (Or.inl rfl) (Or.inr ⟨A.2.1, rfl, rfl, Nat.le_refl _, Nat.lt_succ_self _, rfl, xup_self⟩)
    show (xup (xup (xbp A 2) m _) A.2.1 _).1 r = _
    rw [xup_ne (Nat.ne_of_lt h1), xup_ne h2]
    rfl
  | some w =>
    have hw := hv w rfl
    refine x_cvV (q := (RJ5, TJ5, 12)) cvJ5_135_J5 dJ5_values_1 (Or.inl hm) rfl (c_seqValues_y _ _ w m t0 es ks hd tl c mc th hm hw.1) rfl ?_
    exact x_areturn dJ5_values_4 rfl (Or.inl ⟨_, rfl⟩) (Or.inr ⟨_, rfl⟩) ⟨_, rfl, w, rfl, hw.1, hw.2, hm, xlv.rf, Nat.le_refl _, Nat.le_add_right _ _, Nat.le_add_right _ _⟩
theorem c_J7_iterator_v (g : xG) (A : xA) (q : Nat) (m : Nat) (t0 : Value) (es ks vs hd tl : Option Nat) (c : Nat) (mc th : Int32) (hq : A.1 q = some (.inr (13, [.ref m]))) (hm : A.1 m = some (xLg t0 es c mc th ks vs hd tl)) (hlt : m < A.2.1) (hv : ∀ w, ks = some w → A.1 w = some (xVw 23 m) ∧ w < A.2.1) : xC g iJ7_iterator 6 [.ref q] A (xRs fun u A' => ∃ w A1, u = some (.ref A1.2.1) ∧ A1.1 m = some (xLg t0 es c mc th (some w) vs hd tl) ∧ xlv A (fun _ => 0) A1 ∧ xBd A A1 1 2 ∧ A' = xal A1 (xLi 22 hd none mc m) 5) := by
  show xW g _ _ 0 [some (.ref q)] [] _ _
  refine x_aload_n dJ7_iterator_0 rfl ?_
  refine x_get fgJ7_10_13 dJ7_iterator_1 (Or.inl hq) rfl ?_
  refine v_cvE (q := (RJ5, TJ5, 12)) cvJ7_45_J5 dJ7_iterator_4 (Or.inl hm) rfl (c_J5_keySet_v g A m t0 es ks vs hd tl c mc th hm hlt hv) rfl (fun u A1 hP => ?_)
  obtain ⟨w, rfl, h1, h2, h3, h4, h5⟩ := hP
  refine x_cfV (q := (RJ46, TJ46, 2)) cfJ7_49_J46 dJ7_iterator_7 (Or.inl h1) rfl (c_J46_iterator g A1 w m t0 es (some w) vs hd tl c mc th h1 h3 (Nat.lt_of_lt_of_le hlt h4.1) h2) rfl ?_
  exact x_areturn dJ7_iterator_12 rfl (Or.inl ⟨_, rfl⟩) (Or.inr ⟨_, rfl⟩) ⟨_, rfl, w, A1, rfl, h3, h4, h5, rfl⟩
theorem c_X6_init_2 (g : xG) (A : xA) (p q : Nat) (dv gr br : Int32) (hp : A.1 p = some (.inr (5, [.int 0, .int 0, .int 0]))) (hq : A.1 q = some (xPg dv gr br)) (hqp : q ≠ p) (hb : br = 0 ∨ br = 1) : xC g iX6_init_2 2 [.ref p, .ref q] A (xRet none (xup A p (xPg dv gr br))) := by
  show xW g _ _ 0 [some (.ref p), some (.ref q)] [] _ _
  refine xW.at1 hp ?_
  have hD : ovD [p] := ovD_1
  have k1 : ∀ (e1 : xE), xAt g (ov A [(p, e1)]) q (xPg dv gr br) := fun e1 => Or.inl ((xup_ne hqp).trans hq)
  have hfit : xfit .boolean (.int br) := by rcases hb with rfl | rfl <;> exact ⟨rfl, rfl⟩
  refine x_aload_n dX6_init_2_0 rfl ?_
  refine x_aload_n dX6_init_2_1 rfl ?_
  refine x_get fgX6_9_5 dX6_init_2_2 (k1 _) rfl ?_
  refine x_aload_n dX6_init_2_5 rfl ?_
  refine x_get fgX6_15_5 dX6_init_2_6 (k1 _) rfl ?_
  refine x_ciN ciX6_18 dX6_init_2_9 (c_X6_init g _ p _ _ _ _ _ (by exact ov_at hD (i := 0) rfl)) rfl ?_
  refine xW.eqA (ov_up hD (i := 0) rfl) ?_
  refine x_aload_n dX6_init_2_12 rfl ?_
  refine x_aload_n dX6_init_2_13 rfl ?_
  refine x_get fgX6_21_5 dX6_init_2_14 (k1 _) rfl ?_
  refine v_put hD (i := 0) rfl fpX6_21_5 dX6_init_2_17 hfit (by exact Nat.le_of_ble_eq_true rfl) ?_
  exact x_return dX6_init_2_20 rfl ⟨rfl, rfl⟩
