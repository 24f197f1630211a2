section
theorem pk_us {f : Nat → Int32} {k : Nat} {x : Int32} : upd f k x k = x := if_pos rfl
theorem pk_un {f : Nat → Int32} {k j : Nat} {x : Int32} (h : j ≠ k) : upd f k x j = f j := if_neg h
theorem pk_sub {a b : Nat} (h : b ≤ a) : nI a - nI b = nI (a - b) := by
  obtain ⟨c, rfl⟩ : ∃ c, a = c + b := ⟨a - b, by omega⟩
  rw [← nI_add, Int32.add_sub_cancel, Nat.add_sub_cancel]
theorem pk_m1 (n : Nat) : nI (n + 1) + (-1) = nI n := by
  rw [← nI_1, Int32.add_assoc, show (1 : Int32) + (-1) = 0 from rfl, Int32.add_zero]
theorem pk_mul (a b : Nat) : nI a * nI b = nI (a * b) := (Int32.ofNat_mul a b).symm
theorem pk_div {a d : Nat} (ha : a < 2 ^ 31) (h0 : 0 < d) (hd : d < 2 ^ 31) : nI a / nI d = nI (a / d) := by
  apply Int32.toInt_inj.mp
  rw [lg_idiv_nonneg (by rw [nI_toInt ha]; omega) (by rw [nI_toInt hd]; omega), nI_toInt ha, nI_toInt hd, nI_toInt (Nat.lt_of_le_of_lt (Nat.div_le_self a d) ha)]
  first | rfl | exact (Int.natCast_ediv _ _).symm
theorem pk_rem {a d : Nat} (ha : a < 2 ^ 31) (h0 : 0 < d) (hd : d < 2 ^ 31) : nI a - nI a / nI d * nI d = nI (a % d) := by
  rw [pk_div ha h0 hd, pk_mul, pk_sub (Nat.div_mul_le_self a d)]
  exact congrArg nI (by have := Nat.div_add_mod' a d; omega)
theorem pk_ix (x : Int32) {n : Nat} (hn : n < 2 ^ 31) : x < 0 ∨ nI n ≤ x ∨ ∃ j : Nat, j < n ∧ x = nI j := by
  by_cases h : x < 0
  · exact Or.inl h
  · obtain ⟨j, hj, rfl⟩ := nI_of h
    by_cases h2 : j < n
    · exact Or.inr (Or.inr ⟨j, h2, rfl⟩)
    · exact Or.inr (Or.inl (nI_le (by omega) hj))
theorem pk_le {x y : Int32} {A B : Prop} (a b : Nat) (f : a ≤ b → A) (g : b < a → B) (hx : x = nI a := by rfl) (hy : y = nI b := by rfl) (ha : a < 2 ^ 31 := by omega) (hb : b < 2 ^ 31 := by omega) : (x ≤ y → A) ∧ (¬ x ≤ y → B) := by
  subst hx hy
  rw [nI_leI ha hb]
  exact ⟨f, fun z => g (by omega)⟩
theorem pk_lt {x y : Int32} {A B : Prop} (a b : Nat) (f : a < b → A) (g : b ≤ a → B) (hx : x = nI a := by rfl) (hy : y = nI b := by rfl) (ha : a < 2 ^ 31 := by omega) (hb : b < 2 ^ 31 := by omega) : (x < y → A) ∧ (¬ x < y → B) := by
  subst hx hy
  rw [nI_ltI ha hb]
  exact ⟨f, fun z => g (by omega)⟩
theorem pk_eq {x y : Int32} {A B : Prop} (a b : Nat) (f : a = b → A) (g : a ≠ b → B) (hx : x = nI a := by rfl) (hy : y = nI b := by rfl) (ha : a < 2 ^ 31 := by omega) (hb : b < 2 ^ 31 := by omega) : (x = y → A) ∧ (¬ x = y → B) := by
  subst hx hy
  rw [nI_eq ha hb]
  exact ⟨f, g⟩
theorem pk_in {x : Int32} (n N : Nat) (h : n < N) (hx : x = nI n := by rfl) (hN : N < 2 ^ 31 := by omega) : vp_in x N := by
  subst hx
  exact vp_in_nI h hN
theorem pk_cl {x : Int32} (n : Nat) (hx : x = nI n := by rfl) (h : n < 2 ^ 31 := by omega) : x.toNatClampNeg = n := by
  subst hx
  exact nI_clamp h
/-! own base rows: number arrays, small sums -/
def cw_lf (f : Nat → Nat) : Nat → Int32 := fun j => nI (f j)
def cw_up (f : Nat → Nat) (k x : Nat) : Nat → Nat := fun j => if j = k then x else f j
theorem cw_ups {f : Nat → Nat} {k x : Nat} : cw_up f k x k = x := if_pos rfl
theorem cw_upn {f : Nat → Nat} {k x j : Nat} (h : j ≠ k) : cw_up f k x j = f j := if_neg h
theorem cw_lfu (f : Nat → Nat) (k x : Nat) : upd (cw_lf f) k (nI x) = cw_lf (cw_up f k x) := by
  funext j
  by_cases h : j = k
  · subst h
    rw [pk_us]; unfold cw_lf; rw [cw_ups]
  · rw [pk_un h]; unfold cw_lf; rw [cw_upn h]
theorem cw_lf0 : (fun _ => 0 : Nat → Int32) = cw_lf (fun _ => 0) := rfl
theorem cw_at {f : Nat → Nat} {x : Int32} (n : Nat) (hx : x = nI n) (h : n < 2 ^ 31) : cw_lf f x.toNatClampNeg = nI (f n) := by
  rw [pk_cl n hx h]; rfl
theorem cw_upup (f : Nat → Nat) (k : Nat) : cw_up f k (f k) = f := by
  funext j
  by_cases h : j = k
  · subst h; rw [cw_ups]
  · rw [cw_upn h]
theorem cw_up2 (f : Nat → Nat) (k x y : Nat) : cw_up (cw_up f k x) k y = cw_up f k y := by
  funext j
  by_cases h : j = k
  · subst h; rw [cw_ups, cw_ups]
  · rw [cw_upn h, cw_upn h, cw_upn h]
theorem cw_c3 {p : Nat} (h : p < 3) : p = 0 ∨ p = 1 ∨ p = 2 := by omega
def cw_s3 (f : Nat → Nat) : Nat := f 0 + f 1 + f 2
theorem cw_s3u {f : Nat → Nat} {p : Nat} (x : Nat) (hp : p < 3) : cw_s3 (cw_up f p x) + f p = cw_s3 f + x := by
  unfold cw_s3
  rcases cw_c3 hp with rfl | rfl | rfl
  · rw [cw_ups, cw_upn (by decide), cw_upn (by decide)]; omega
  · rw [cw_ups, cw_upn (by decide), cw_upn (by decide)]; omega
  · rw [cw_ups, cw_upn (by decide), cw_upn (by decide)]; omega
theorem cw_s3l {f g : Nat → Nat} (h : ∀ p, p < 3 → f p ≤ g p) : cw_s3 f ≤ cw_s3 g := by
  have h0 := h 0 (by decide)
  have h1 := h 1 (by decide)
  have h2 := h 2 (by decide)
  unfold cw_s3; omega
theorem cw_s3e {f g : Nat → Nat} (h : ∀ p, p < 3 → f p ≤ g p) (s : cw_s3 g ≤ cw_s3 f) : ∀ p, p < 3 → f p = g p := by
  have h0 := h 0 (by decide)
  have h1 := h 1 (by decide)
  have h2 := h 2 (by decide)
  unfold cw_s3 at s
  intro p hp
  rcases cw_c3 hp with rfl | rfl | rfl <;> omega
theorem cw_s3s {f g : Nat → Nat} (h : ∀ p, p < 3 → f p ≤ g p) {q : Nat} (hq : q < 3) (s : f q < g q) : cw_s3 f < cw_s3 g := by
  have h0 := h 0 (by decide)
  have h1 := h 1 (by decide)
  have h2 := h 2 (by decide)
  unfold cw_s3
  rcases cw_c3 hq with rfl | rfl | rfl <;> omega
end
section
/-! vector clocks, consistent cuts -/
def cw_Clk (c : Nat → Nat) (K : Nat → Nat → Nat → Nat) : Prop :=
  (∀ p q, p < 3 → q < 3 → K p 0 q = 0) ∧
  (∀ p k, p < 3 → k ≤ c p → K p k p = k) ∧
  (∀ p k q, p < 3 → q < 3 → k < c p → K p k q ≤ K p (k + 1) q) ∧
  (∀ p k q, p < 3 → q < 3 → k ≤ c p → K p k q ≤ c q) ∧
  (∀ p k q r, p < 3 → q < 3 → r < 3 → k ≤ c p → K q (K p k q) r ≤ K p k r) ∧
  (∀ p k q, p < 3 → q < 3 → p ≠ q → 0 < k → k ≤ c p → K q (K p k q) p < k)
def cw_Con (c : Nat → Nat) (K : Nat → Nat → Nat → Nat) (d : Nat → Nat) : Prop := ∀ p, p < 3 → d p ≤ c p ∧ ∀ q, q < 3 → K p (d p) q ≤ d q
def cw_Good (S : Nat → Prop) (G : Nat → Nat → Prop) (d : Nat → Nat) : Prop := ∀ p, p < 3 → S p → G p (d p)
section
variable {c : Nat → Nat} {K : Nat → Nat → Nat → Nat} {S : Nat → Prop} {G : Nat → Nat → Prop}
theorem cw_mono (h : cw_Clk c K) {p q : Nat} (hp : p < 3) (hq : q < 3) {i : Nat} : ∀ {j : Nat}, i ≤ j → j ≤ c p → K p i q ≤ K p j q := by
  intro j
  induction j with
  | zero => intro h1 _; rw [show i = 0 by omega]; exact Nat.le_refl _
  | succ j ih =>
    intro h1 h2
    by_cases e : i = j + 1
    · rw [e]; exact Nat.le_refl _
    · exact Nat.le_trans (ih (by omega) (by omega)) (h.2.2.1 p j q hp hq (by omega))
theorem cw_conE {d e : Nat → Nat} (h : ∀ p, p < 3 → d p = e p) (hd : cw_Con c K d) : cw_Con c K e := by
  intro p hp
  rw [← h p hp]
  refine ⟨(hd p hp).1, fun q hq => ?_⟩
  rw [← h q hq]
  exact (hd p hp).2 q hq
theorem cw_goodE {d e : Nat → Nat} (h : ∀ p, p < 3 → d p = e p) (hd : cw_Good S G d) : cw_Good S G e := by
  intro p hp hs
  rw [← h p hp]
  exact hd p hp hs
theorem cw_en (h : cw_Clk c K) {X Z : Nat → Nat} (hX : cw_Con c K X) (hZ : cw_Con c K Z) {r0 : Nat} (hr0 : r0 < 3) (ne : X r0 < Z r0) : ∃ p, p < 3 ∧ X p < Z p ∧ cw_Con c K (cw_up X p (X p + 1)) := by
  have key : ∀ n r, r < 3 → X r < Z r → cw_s3 (K r (X r + 1)) < n → ∃ p, p < 3 ∧ X p < Z p ∧ cw_Con c K (cw_up X p (X p + 1)) := by
    intro n
    induction n with
    | zero => intro r _ _ hh; exact absurd hh (Nat.not_lt_zero _)
    | succ n ih =>
      intro r hr hlt hm
      have hZr := hZ r hr
      by_cases hc : ∃ q, q < 3 ∧ q ≠ r ∧ X q < K r (X r + 1) q
      · obtain ⟨q, hq, hqr, hl2⟩ := hc
        have hrc : X r + 1 ≤ c r := Nat.le_trans hlt hZr.1
        have hZq : X q < Z q := by
          have h1 := cw_mono h hr hq (i := X r + 1) (j := Z r) hlt hZr.1
          have h2 := hZr.2 q hq
          omega
        have hb : K r (X r + 1) q ≤ c q := h.2.2.2.1 r _ q hr hq hrc
        have hle : ∀ t, t < 3 → K q (X q + 1) t ≤ K r (X r + 1) t := fun t ht => Nat.le_trans (cw_mono h hq ht hl2 hb) (h.2.2.2.2.1 r _ q t hr hq ht hrc)
        have hst : K q (X q + 1) r < K r (X r + 1) r := by
          have h1 : K q (X q + 1) r ≤ K q (K r (X r + 1) q) r := cw_mono h hq hr hl2 hb
          have h2 := h.2.2.2.2.2 r (X r + 1) q hr hq (fun e => hqr e.symm) (by omega) hrc
          have h3 := h.2.1 r (X r + 1) hr hrc
          omega
        have hs := cw_s3s hle hr hst
        exact ih q hq hZq (by omega)
      · refine ⟨r, hr, hlt, ?_⟩
        intro p hp
        by_cases hpr : p = r
        · subst hpr
          rw [cw_ups]
          refine ⟨by have := hZr.1; omega, fun q hq => ?_⟩
          by_cases hqp : q = p
          · subst hqp
            rw [cw_ups, h.2.1 q _ hq (by have := hZr.1; omega)]
            exact Nat.le_refl _
          · rw [cw_upn hqp]
            exact Nat.le_of_not_lt fun hh => hc ⟨q, hq, hqp, hh⟩
        · rw [cw_upn hpr]
          refine ⟨(hX p hp).1, fun q hq => ?_⟩
          have h1 := (hX p hp).2 q hq
          by_cases hqr : q = r
          · subst hqr; rw [cw_ups]; omega
          · rw [cw_upn hqr]; exact h1
  exact key _ r0 hr0 ne (Nat.lt_succ_self _)
def cw_Z (d : Nat → Nat) (A : (Nat → Nat) → Prop) : Prop := (∀ p, p < 3 → d p = 0) ∨ ∃ p, p < 3 ∧ 0 < d p ∧ A (cw_up d p (d p - 1))
def cw_Av (c : Nat → Nat) (K : Nat → Nat → Nat → Nat) (S : Nat → Prop) (G : Nat → Nat → Prop) (A : (Nat → Nat) → Prop) : Prop :=
  (∀ d e, (∀ p, p < 3 → d p = e p) → A d → A e) ∧
  (∀ d, A d → cw_Con c K d ∧ ¬ cw_Good S G d ∧ cw_Z d A) ∧
  (∀ d, cw_Con c K d → ¬ cw_Good S G d → cw_Z d A → A d)
variable {A : (Nat → Nat) → Prop}
theorem cw_path (h : cw_Clk c K) (hA : cw_Av c K S G A) {s : Nat} (hs : s < 3) (Ss : S s) {Z : Nat → Nat} (hZ : cw_Con c K Z) : ∀ n X, A X → (∀ p, p < 3 → X p ≤ Z p) → cw_s3 Z ≤ cw_s3 X + n → (∀ k, X s ≤ k → k ≤ Z s → ¬ G s k) → A Z := by
  intro n
  induction n with
  | zero => intro X hX hl hn _; exact hA.1 X Z (cw_s3e hl hn) hX
  | succ n ih =>
    intro X hX hl hn hb
    by_cases ne : ∃ p, p < 3 ∧ X p < Z p
    · obtain ⟨p0, hp0, ne0⟩ := ne
      obtain ⟨p, hp, hlt, hcon⟩ := cw_en h (hA.2.1 X hX).1 hZ hp0 ne0
      have hl' : ∀ q, q < 3 → cw_up X p (X p + 1) q ≤ Z q := by
        intro q hq
        by_cases e : q = p
        · subst e; rw [cw_ups]; exact hlt
        · rw [cw_upn e]; exact hl q hq
      have hge : X s ≤ cw_up X p (X p + 1) s := by
        by_cases e : s = p
        · subst e; rw [cw_ups]; omega
        · rw [cw_upn e]; exact Nat.le_refl _
      have hsum := cw_s3u (f := X) (X p + 1) hp
      refine ih _ (hA.2.2 _ hcon (fun hg => hb _ hge (hl' s hs) (hg s hs Ss)) (Or.inr ⟨p, hp, ?_, ?_⟩)) hl' (by omega) (fun k h1 h2 => hb k (Nat.le_trans hge h1) h2)
      · rw [cw_ups]; omega
      · rw [cw_ups, cw_up2, Nat.add_sub_cancel, cw_upup]; exact hX
    · refine hA.1 X Z (fun p hp => Nat.le_antisymm (hl p hp) (Nat.le_of_not_lt fun hh => ne ⟨p, hp, hh⟩)) hX
theorem cw_back (hA : cw_Av c K S G A) {s j : Nat} (hs : s < 3) : ∀ n D, cw_s3 D < n → A D → j ≤ D s → ∃ D1, A D1 ∧ (∀ p, p < 3 → D1 p ≤ D p) ∧ D1 s = j := by
  intro n
  induction n with
  | zero => intro D hh; exact absurd hh (Nat.not_lt_zero _)
  | succ n ih =>
    intro D hn hD hj
    by_cases e : D s = j
    · exact ⟨D, hD, fun p _ => Nat.le_refl _, e⟩
    · rcases (hA.2.1 D hD).2.2 with hz | ⟨p, hp, h0, hp'⟩
      · have := hz s hs; omega
      · have hsum := cw_s3u (f := D) (D p - 1) hp
        have hle : ∀ q, q < 3 → cw_up D p (D p - 1) q ≤ D q := by
          intro q hq
          by_cases e2 : q = p
          · subst e2; rw [cw_ups]; omega
          · rw [cw_upn e2]; exact Nat.le_refl _
        have hj' : j ≤ cw_up D p (D p - 1) s := by
          by_cases e2 : s = p
          · subst e2; rw [cw_ups]; omega
          · rw [cw_upn e2]; exact hj
        obtain ⟨D1, a, b, e1⟩ := ih _ (by omega) hp' hj'
        exact ⟨D1, a, fun q hq => Nat.le_trans (b q hq) (hle q hq), e1⟩
theorem cw_max {P : (Nat → Nat) → Prop} {B : Nat} (hB : ∀ d, P d → cw_s3 d ≤ B) : ∀ n d, P d → B < cw_s3 d + n → ∃ D, P D ∧ ∀ E, P E → cw_s3 E ≤ cw_s3 D := by
  intro n
  induction n with
  | zero => intro d hd hn; have := hB d hd; omega
  | succ n ih =>
    intro d hd hn
    by_cases e : ∃ E, P E ∧ cw_s3 d < cw_s3 E
    · obtain ⟨E, hE, hlt⟩ := e
      exact ih E hE (by omega)
    · exact ⟨d, hd, fun E hE => Nat.le_of_not_lt fun hh => e ⟨E, hE, hh⟩⟩
/-! stretches and families of them -/
def cw_Fam (c : Nat → Nat) (K : Nat → Nat → Nat → Nat) (S : Nat → Prop) (G : Nat → Nat → Prop) (F T : Nat → Nat) : Prop :=
  (∀ p, p < 3 → S p → F p ≤ T p ∧ T p ≤ c p ∧ ∀ k, F p ≤ k → k ≤ T p → G p k) ∧
  (∀ p q, p < 3 → q < 3 → p ≠ q → S p → S q → T p < c p → F q ≤ K p (T p + 1) q)
theorem cw_fam_no (h : cw_Clk c K) (hA : cw_Av c K S G A) {F T : Nat → Nat} (hF : cw_Fam c K S G F T) : ¬ A c := by
  have key : ∀ n d, cw_s3 d < n → A d → ∃ q, q < 3 ∧ S q ∧ d q < F q := by
    intro n
    induction n with
    | zero => intro d hh; exact absurd hh (Nat.not_lt_zero _)
    | succ n ih =>
      intro d hn hd
      obtain ⟨con, ng, hr⟩ := hA.2.1 d hd
      refine Classical.byContradiction fun H => ?_
      have H' : ∀ q, q < 3 → S q → F q ≤ d q := fun q hq sq => Nat.le_of_not_lt fun hh => H ⟨q, hq, sq, hh⟩
      refine ng ?_
      rcases hr with hz | ⟨p, hp, h0, hp'⟩
      · intro q hq sq
        have h1 := hz q hq
        exact (hF.1 q hq sq).2.2 _ (H' q hq sq) (by omega)
      · have hsum := cw_s3u (f := d) (d p - 1) hp
        obtain ⟨q, hq, sq, hlt⟩ := ih _ (by omega) hp'
        by_cases e : q = p
        · subst e
          rw [cw_ups] at hlt
          have hdF : d q = F q := by have := H' q hq sq; omega
          intro r hr sr
          by_cases e2 : r = q
          · subst e2
            exact (hF.1 r hr sr).2.2 _ (by omega) (by have := (hF.1 r hr sr).1; omega)
          · refine (hF.1 r hr sr).2.2 _ (H' r hr sr) (Nat.le_of_not_lt fun hh => ?_)
            have hc := (con r hr).1
            have h1 := hF.2 r q hr hq e2 sr sq (by omega)
            have h2 := cw_mono h hr hq (i := T r + 1) (j := d r) hh hc
            have h3 := ((hA.2.1 _ hp').1 r hr).2 q hq
            rw [cw_upn e2, cw_ups] at h3
            omega
        · rw [cw_upn e] at hlt
          have := H' q hq sq
          omega
  intro hc
  obtain ⟨q, hq, sq, hlt⟩ := key _ c (Nat.lt_succ_self _) hc
  have h1 := (hF.1 q hq sq).1
  have h2 := (hF.1 q hq sq).2.1
  omega
theorem cw_stup {P : Nat → Prop} {m : Nat} : ∀ n e, m ≤ e + n → e ≤ m → P e → ∃ T, e ≤ T ∧ T ≤ m ∧ (∀ k, e ≤ k → k ≤ T → P k) ∧ (T = m ∨ ¬ P (T + 1)) := by
  intro n
  induction n with
  | zero => intro e h1 h2 h3; exact ⟨e, Nat.le_refl _, h2, fun k a b => by rw [show k = e by omega]; exact h3, Or.inl (by omega)⟩
  | succ n ih =>
    intro e h1 h2 h3
    by_cases he : e = m
    · exact ⟨e, Nat.le_refl _, h2, fun k a b => by rw [show k = e by omega]; exact h3, Or.inl he⟩
    · by_cases hp : P (e + 1)
      · obtain ⟨T, a, b, d, f⟩ := ih (e + 1) (by omega) (by omega) hp
        refine ⟨T, by omega, b, fun k k1 k2 => ?_, f⟩
        by_cases ek : k = e
        · rw [ek]; exact h3
        · exact d k (by omega) k2
      · exact ⟨e, Nat.le_refl _, h2, fun k a b => by rw [show k = e by omega]; exact h3, Or.inr hp⟩
theorem cw_stdn {P : Nat → Prop} : ∀ e, P e → ∃ F, F ≤ e ∧ (∀ k, F ≤ k → k ≤ e → P k) ∧ (F = 0 ∨ ¬ P (F - 1)) := by
  intro e
  induction e with
  | zero => intro h; exact ⟨0, Nat.le_refl _, fun k _ b => by rw [show k = 0 by omega]; exact h, Or.inl rfl⟩
  | succ e ih =>
    intro h
    by_cases hp : P e
    · obtain ⟨F, a, b, d⟩ := ih hp
      refine ⟨F, by omega, fun k k1 k2 => ?_, d⟩
      by_cases ek : k = e + 1
      · rw [ek]; exact h
      · exact b k k1 (by omega)
    · exact ⟨e + 1, Nat.le_refl _, fun k a b => by rw [show k = e + 1 by omega]; exact h, Or.inr (by rw [Nat.add_sub_cancel]; exact hp)⟩
theorem cw_around {E : Nat → Nat} (hE : ∀ p, p < 3 → E p ≤ c p) (hg : cw_Good S G E) : ∃ F T : Nat → Nat, ∀ p, p < 3 → S p → F p ≤ E p ∧ E p ≤ T p ∧ T p ≤ c p ∧ (∀ k, F p ≤ k → k ≤ T p → G p k) ∧ (F p = 0 ∨ ¬ G p (F p - 1)) ∧ (T p = c p ∨ ¬ G p (T p + 1)) := by
  have h1 : ∀ p, ∃ w : Nat × Nat, p < 3 → S p → w.1 ≤ E p ∧ E p ≤ w.2 ∧ w.2 ≤ c p ∧ (∀ k, w.1 ≤ k → k ≤ w.2 → G p k) ∧ (w.1 = 0 ∨ ¬ G p (w.1 - 1)) ∧ (w.2 = c p ∨ ¬ G p (w.2 + 1)) := by
    intro p
    by_cases hp : p < 3 ∧ S p
    · have g := hg p hp.1 hp.2
      obtain ⟨T, a, b, d, f⟩ := cw_stup (P := G p) (m := c p) (c p) (E p) (by omega) (hE p hp.1) g
      obtain ⟨F, a', b', d'⟩ := cw_stdn (P := G p) (E p) g
      refine ⟨(F, T), fun _ _ => ⟨a', a, b, fun k k1 k2 => ?_, d', f⟩⟩
      by_cases ek : k ≤ E p
      · exact b' k k1 ek
      · exact d k (by omega) k2
    · exact ⟨(0, 0), fun a b => absurd ⟨a, b⟩ hp⟩
  obtain ⟨f, hf⟩ := Classical.axiomOfChoice h1
  exact ⟨fun p => (f p).1, fun p => (f p).2, hf⟩
theorem cw_join (h : cw_Clk c K) {X Y : Nat → Nat} (hX : cw_Con c K X) (hY : cw_Con c K Y) : cw_Con c K (fun p => max (X p) (Y p)) := by
  intro p hp
  have a := hX p hp
  have b := hY p hp
  refine ⟨Nat.max_le.mpr ⟨a.1, b.1⟩, fun q hq => ?_⟩
  show K p (max (X p) (Y p)) q ≤ max (X q) (Y q)
  rcases Nat.le_total (X p) (Y p) with hl | hl
  · rw [Nat.max_eq_right hl]; exact Nat.le_trans (b.2 q hq) (Nat.le_max_right _ _)
  · rw [Nat.max_eq_left hl]; exact Nat.le_trans (a.2 q hq) (Nat.le_max_left _ _)
theorem cw_conJ (h : cw_Clk c K) {r k : Nat} (hr : r < 3) (hk : k ≤ c r) : cw_Con c K (fun p => K r k p) := fun p hp => ⟨h.2.2.2.1 r k p hr hp hk, fun q hq => h.2.2.2.2.1 r k p q hr hp hq hk⟩
theorem cw_con0 (h : cw_Clk c K) : cw_Con c K (fun _ => 0) := fun p hp => ⟨Nat.zero_le _, fun q hq => Nat.le_of_eq (h.1 p q hp hq)⟩
theorem cw_conc (h : cw_Clk c K) : cw_Con c K c := fun p hp => ⟨Nat.le_refl _, fun q hq => h.2.2.2.1 p (c p) q hp hq (Nat.le_refl _)⟩
theorem cw_fam_ex (h : cw_Clk c K) (hA : cw_Av c K S G A) (hn : ¬ A c) : ∃ F T, cw_Fam c K S G F T := by
  by_cases h0 : A (fun _ => 0)
  · obtain ⟨D, hD, hmax⟩ := cw_max (P := A) (B := cw_s3 c) (fun d hd => cw_s3l fun p hp => ((hA.2.1 d hd).1 p hp).1) (cw_s3 c + 1) _ h0 (by omega)
    obtain ⟨conD, ngD, _⟩ := hA.2.1 D hD
    have hne : ∃ p, p < 3 ∧ D p < c p := by
      refine Classical.byContradiction fun H => hn (hA.1 D c (fun p hp => Nat.le_antisymm (conD p hp).1 (Nat.le_of_not_lt fun hh => H ⟨p, hp, hh⟩)) hD)
    obtain ⟨p0, hp0, hlt0⟩ := hne
    obtain ⟨p, hp, hlt, conE⟩ := cw_en h conD (cw_conc h) hp0 hlt0
    have hsE := cw_s3u (f := D) (D p + 1) hp
    have hg : cw_Good S G (cw_up D p (D p + 1)) := by
      refine Classical.byContradiction fun H => ?_
      have hE : A (cw_up D p (D p + 1)) := hA.2.2 _ conE H (Or.inr ⟨p, hp, by rw [cw_ups]; omega, by rw [cw_ups, cw_up2, Nat.add_sub_cancel, cw_upup]; exact hD⟩)
      have := hmax _ hE
      omega
    obtain ⟨F, T, hFT⟩ := cw_around (E := cw_up D p (D p + 1)) (fun q hq => (conE q hq).1) hg
    have hDE : ∀ q, D q ≤ cw_up D p (D p + 1) q ∧ cw_up D p (D p + 1) q ≤ D q + 1 := by
      intro q
      by_cases e : q = p
      · subst e; rw [cw_ups]; omega
      · rw [cw_upn e]; omega
    refine ⟨F, T, fun q hq sq => ?_, fun r s hr hs hrs sr ss hT => Nat.le_of_not_lt fun hlt2 => ?_⟩
    · obtain ⟨a, b, d, e, _⟩ := hFT q hq sq
      exact ⟨Nat.le_trans a b, d, e⟩
    · obtain ⟨a, b, d, e, f, g⟩ := hFT r hr sr
      obtain ⟨a', b', d', e', f', g'⟩ := hFT s hs ss
      have hEs := hDE s
      have hEr := hDE r
      have badT : ¬ G r (T r + 1) := by
        rcases g with g | g
        · omega
        · exact g
      have badF : ¬ G s (F s - 1) := by
        rcases f' with f' | f'
        · omega
        · exact f'
      obtain ⟨D1, hD1, hle1, hs1⟩ := cw_back hA (s := s) (j := F s - 1) hs _ D (Nat.lt_succ_self _) hD (by omega)
      have conJ := cw_conJ h hr (k := T r + 1) (by omega)
      have hJr : K r (T r + 1) r = T r + 1 := h.2.1 r _ hr (by omega)
      have conD1 := (hA.2.1 D1 hD1).1
      have hle1r := hle1 r hr
      have hA1 : A (fun q => max (D1 q) (K r (T r + 1) q)) := by
        refine cw_path h hA hs ss (cw_join h conD1 conJ) _ D1 hD1 (fun q _ => Nat.le_max_left _ _) (Nat.le_add_left _ _) (fun k k1 k2 => ?_)
        have k2' : k ≤ max (D1 s) (K r (T r + 1) s) := k2
        rw [Nat.max_eq_left (by omega)] at k2'
        rw [show k = F s - 1 by omega]
        exact badF
      have hA2 : A (fun q => max (D q) (K r (T r + 1) q)) := by
        refine cw_path h hA hr sr (cw_join h conD conJ) _ _ hA1 (fun q hq => ?_) (Nat.le_add_left _ _) (fun k k1 k2 => ?_)
        · have := hle1 q hq
          show max (D1 q) (K r (T r + 1) q) ≤ max (D q) (K r (T r + 1) q)
          omega
        · have k1' : max (D1 r) (K r (T r + 1) r) ≤ k := k1
          have k2' : k ≤ max (D r) (K r (T r + 1) r) := k2
          rw [hJr] at k1' k2'
          rw [show k = T r + 1 by omega]
          exact badT
      have hm := hmax _ hA2
      have hs2 : cw_s3 D < cw_s3 (fun q => max (D q) (K r (T r + 1) q)) := by
        refine cw_s3s (fun q _ => Nat.le_max_left _ _) hr ?_
        show D r < max (D r) (K r (T r + 1) r)
        rw [hJr]; omega
      omega
  · have hg : cw_Good S G (fun _ => 0) := Classical.byContradiction fun H => h0 (hA.2.2 _ (cw_con0 h) H (Or.inl fun _ _ => rfl))
    obtain ⟨F, T, hFT⟩ := cw_around (c := c) (E := fun _ => 0) (fun _ _ => Nat.zero_le _) hg
    refine ⟨F, T, fun q hq sq => ?_, fun r s hr hs hrs sr ss hT => ?_⟩
    · obtain ⟨a, b, d, e, _⟩ := hFT q hq sq
      exact ⟨Nat.le_trans a b, d, e⟩
    · have a := (hFT s hs ss).1
      have a' : F s ≤ 0 := a
      omega
end
end
section
/-! one event more keeps the clocks -/
theorem cw_clkN {c : Nat → Nat} {K K' : Nat → Nat → Nat → Nat} (h : cw_Clk c K) {p s t : Nat} (hp : p < 3) (hs : s < 3) (ht : t ≤ c s)
    (ho : ∀ a k b, a < 3 → b < 3 → k ≤ c a → K' a k b = K a k b) (hd : K' p (c p + 1) p = c p + 1)
    (hn : ∀ q, q < 3 → q ≠ p → K' p (c p + 1) q = max (K p (c p) q) (K s t q)) : cw_Clk (cw_up c p (c p + 1)) K' := by
  have cu : ∀ q, c q ≤ cw_up c p (c p + 1) q := by
    intro q
    by_cases e : q = p
    · subst e; rw [cw_ups]; omega
    · rw [cw_upn e]; exact Nat.le_refl _
  have spl : ∀ a k, k ≤ cw_up c p (c p + 1) a → k ≤ c a ∨ (a = p ∧ k = c p + 1) := by
    intro a k hk
    by_cases e : a = p
    · subst e; rw [cw_ups] at hk; omega
    · rw [cw_upn e] at hk; exact Or.inl hk
  have up : ∀ q, q < 3 → K p (c p) q ≤ K' p (c p + 1) q := by
    intro q hq
    by_cases e : q = p
    · subst e; rw [hd, h.2.1 q _ hq (Nat.le_refl _)]; omega
    · rw [hn q hq e]; exact Nat.le_max_left _ _
  have up2 : ∀ q, q < 3 → K s t q ≤ K' p (c p + 1) q := by
    intro q hq
    by_cases e : q = p
    · subst e; rw [hd]; have := h.2.2.2.1 s t q hs hq ht; omega
    · rw [hn q hq e]; exact Nat.le_max_right _ _
  have nb : ∀ q, q < 3 → q ≠ p → K' p (c p + 1) q ≤ c q := by
    intro q hq e
    rw [hn q hq e]
    exact Nat.max_le.mpr ⟨h.2.2.2.1 p _ q hp hq (Nat.le_refl _), h.2.2.2.1 s t q hs hq ht⟩
  refine ⟨?_, ?_, ?_, ?_, ?_, ?_⟩
  · intro a q ha hq
    rw [ho a 0 q ha hq (Nat.zero_le _)]
    exact h.1 a q ha hq
  · intro a k ha hk
    rcases spl a k hk with h1 | ⟨rfl, rfl⟩
    · rw [ho a k a ha ha h1]; exact h.2.1 a k ha h1
    · exact hd
  · intro a k q ha hq hk
    rcases spl a (k + 1) hk with h1 | ⟨rfl, h1⟩
    · rw [ho a k q ha hq (by omega), ho a (k + 1) q ha hq h1]
      exact h.2.2.1 a k q ha hq h1
    · have e : k = c a := by omega
      subst e
      rw [ho a _ q ha hq (Nat.le_refl _)]
      exact up q hq
  · intro a k q ha hq hk
    rcases spl a k hk with h1 | ⟨rfl, rfl⟩
    · rw [ho a k q ha hq h1]
      exact Nat.le_trans (h.2.2.2.1 a k q ha hq h1) (cu q)
    · by_cases e : q = a
      · subst e; rw [hd, cw_ups]; exact Nat.le_refl _
      · exact Nat.le_trans (nb q hq e) (cu q)
  · intro a k q r ha hq hr hk
    rcases spl a k hk with h1 | ⟨rfl, rfl⟩
    · have hb := h.2.2.2.1 a k q ha hq h1
      rw [ho a k q ha hq h1, ho a k r ha hr h1, ho q _ r hq hr hb]
      exact h.2.2.2.2.1 a k q r ha hq hr h1
    · by_cases e : q = a
      · subst e; rw [hd]; exact Nat.le_refl _
      · rw [ho q _ r hq hr (nb q hq e), hn q hq e]
        rcases Nat.le_total (K a (c a) q) (K s t q) with hl | hl
        · rw [Nat.max_eq_right hl]
          exact Nat.le_trans (h.2.2.2.2.1 s t q r hs hq hr ht) (up2 r hr)
        · rw [Nat.max_eq_left hl]
          exact Nat.le_trans (h.2.2.2.2.1 a _ q r ha hq hr (Nat.le_refl _)) (up r hr)
  · intro a k q ha hq hne h0 hk
    rcases spl a k hk with h1 | ⟨rfl, rfl⟩
    · have hb := h.2.2.2.1 a k q ha hq h1
      rw [ho a k q ha hq h1, ho q _ a hq ha hb]
      exact h.2.2.2.2.2 a k q ha hq hne h0 h1
    · have hb := nb q hq (fun e => hne e.symm)
      rw [ho q _ a hq ha hb]
      exact Nat.lt_succ_of_le (h.2.2.2.1 q _ a hq ha hb)
def cw_K (kn : Nat → Nat) (p k q : Nat) : Nat := kn (27 * p + 3 * k + q)
/-! the copy loop and the loop of the greater -/
def cw_cp (kn : Nat → Nat) (b q : Nat) : Nat → Nat := fun j => if b ≤ j ∧ j < b + q then kn (j - 3) else kn j
theorem cw_cp0 (kn : Nat → Nat) (b : Nat) : cw_cp kn b 0 = kn := by
  funext j
  exact if_neg (by omega)
theorem cw_cpi {kn : Nat → Nat} {b q j : Nat} (h : b ≤ j) (h2 : j < b + q) : cw_cp kn b q j = kn (j - 3) := if_pos ⟨h, h2⟩
theorem cw_cpo {kn : Nat → Nat} {b q j : Nat} (h : j < b ∨ b + q ≤ j) : cw_cp kn b q j = kn j := if_neg (by omega)
theorem cw_cpS {kn : Nat → Nat} {b q i : Nat} (hq : q < 3) (hi : i + 3 = b + q) : cw_up (cw_cp kn b q) (b + q) (cw_cp kn b q i) = cw_cp kn b (q + 1) := by
  funext j
  by_cases e : j = b + q
  · subst e
    rw [cw_ups, cw_cpo (by omega), cw_cpi (by omega) (by omega)]
    exact congrArg kn (by omega)
  · rw [cw_upn e]
    by_cases e2 : b ≤ j ∧ j < b + q
    · rw [cw_cpi e2.1 e2.2, cw_cpi e2.1 (by omega)]
    · rw [cw_cpo (by omega), cw_cpo (by omega)]
def cw_ev (kn : Nat → Nat) (p k : Nat) : Nat → Nat := cw_up (cw_cp kn (27 * p + 3 * k) 3) (27 * p + 3 * k + p) k
theorem cw_off {p k a i b : Nat} (hp : p < 3) (hk : k < 9) (ha : a < 3) (hi : i < 9) (hb : b < 3) (h : a ≠ p ∨ i ≠ k) : 27 * a + 3 * i + b < 27 * p + 3 * k ∨ 27 * p + 3 * k + 3 ≤ 27 * a + 3 * i + b := by
  rcases cw_c3 hp with rfl | rfl | rfl <;> rcases cw_c3 ha with rfl | rfl | rfl <;> omega
theorem cw_evO {kn : Nat → Nat} {p k a i b : Nat} (hp : p < 3) (hk : k < 9) (ha : a < 3) (hi : i < 9) (hb : b < 3) (h : a ≠ p ∨ i ≠ k) : cw_K (cw_ev kn p k) a i b = cw_K kn a i b := by
  have ho := cw_off hp hk ha hi hb h
  unfold cw_K cw_ev
  rw [cw_upn (by omega), cw_cpo ho]
theorem cw_evD {kn : Nat → Nat} {p k : Nat} : cw_K (cw_ev kn p k) p k p = k := by
  unfold cw_K cw_ev
  rw [cw_ups]
theorem cw_evN {kn : Nat → Nat} {p k q : Nat} (hq : q < 3) (hqp : q ≠ p) : cw_K (cw_ev kn p (k + 1)) p (k + 1) q = cw_K kn p k q := by
  unfold cw_K cw_ev
  rw [cw_upn (by omega), cw_cpi (by omega) (by omega)]
  exact congrArg kn (by omega)
def cw_mx (kn : Nat → Nat) (b s q : Nat) : Nat → Nat := fun j => if b ≤ j ∧ j < b + q then max (kn j) (kn (s + (j - b))) else kn j
theorem cw_mx0 (kn : Nat → Nat) (b s : Nat) : cw_mx kn b s 0 = kn := by
  funext j
  exact if_neg (by omega)
theorem cw_mxi {kn : Nat → Nat} {b s q j : Nat} (h : b ≤ j) (h2 : j < b + q) : cw_mx kn b s q j = max (kn j) (kn (s + (j - b))) := if_pos ⟨h, h2⟩
theorem cw_mxo {kn : Nat → Nat} {b s q j : Nat} (h : j < b ∨ b + q ≤ j) : cw_mx kn b s q j = kn j := if_neg (by omega)
theorem cw_mxS {kn : Nat → Nat} {b s q v : Nat} (hv : v = max (kn (b + q)) (kn (s + q))) : cw_up (cw_mx kn b s q) (b + q) v = cw_mx kn b s (q + 1) := by
  funext j
  by_cases e : j = b + q
  · subst e
    rw [cw_ups, cw_mxi (by omega) (by omega), hv, Nat.add_sub_cancel_left]
  · rw [cw_upn e]
    by_cases e2 : b ≤ j ∧ j < b + q
    · rw [cw_mxi e2.1 e2.2, cw_mxi e2.1 (by omega)]
    · rw [cw_mxo (by omega), cw_mxo (by omega)]
theorem cw_mxK {kn : Nat → Nat} {b s q : Nat} (hv : kn (s + q) ≤ kn (b + q)) : cw_mx kn b s q = cw_mx kn b s (q + 1) := by
  rw [← cw_mxS (v := kn (b + q)) (by omega)]
  have h := cw_upup (cw_mx kn b s q) (b + q)
  rw [cw_mxo (by omega)] at h
  exact h.symm
/-! the invariant of both states -/
def cw_Inv (m : Nat) (c kn sd si : Nat → Nat) (rv : Nat → Int32) : Prop :=
  cw_Clk c (cw_K kn) ∧ (∀ p, p < 3 → c p ≤ 8) ∧ m ≤ cw_s3 c ∧ (∀ i, i < m → sd i < 3 ∧ si i ≤ c (sd i)) ∧ (∀ i, m ≤ i → rv i = 0)
theorem cw_inv0 : cw_Inv 0 (fun _ => 0) (fun _ => 0) (fun _ => 0) (fun _ => 0) (fun _ => 0) := by
  refine ⟨⟨fun _ _ _ _ => rfl, fun p k _ hk => ?_, fun _ _ _ _ _ _ => Nat.le_refl _, fun _ _ _ _ _ _ => Nat.le_refl _, fun _ _ _ _ _ _ _ _ => Nat.le_refl _, fun p k q _ _ _ h0 hk => ?_⟩, fun _ _ => Nat.zero_le _, Nat.zero_le _, fun i hi => absurd hi (Nat.not_lt_zero _), fun _ _ => rfl⟩
  · have : k ≤ 0 := hk
    show 0 = k
    omega
  · have : k ≤ 0 := hk
    omega
theorem cw_invB {m : Nat} {c kn sd si : Nat → Nat} {rv : Nat → Int32} (h : cw_Inv m c kn sd si rv) {p k q : Nat} (hp : p < 3) (hq : q < 3) (hk : k ≤ c p) : cw_K kn p k q ≤ 8 := Nat.le_trans (h.1.2.2.2.1 p k q hp hq hk) (h.2.1 q hq)
theorem cw_msg {m : Nat} {c kn sd si : Nat → Nat} {rv : Nat → Int32} (h : cw_Inv m c kn sd si rv) {p : Nat} (hp : p < 3) (hc : c p < 8) : m < 24 := by
  have h0 := h.2.1 0 (by decide)
  have h1 := h.2.1 1 (by decide)
  have h2 := h.2.1 2 (by decide)
  have hm := h.2.2.1
  unfold cw_s3 at hm
  rcases cw_c3 hp with rfl | rfl | rfl <;> omega
theorem cw_invR {m : Nat} {c kn sd si : Nat → Nat} {rv : Nat → Int32} (h : cw_Inv m c kn sd si rv) (i : Nat) (hi : i < m) (x : Int32) : cw_Inv m c kn sd si (upd rv i x) := ⟨h.1, h.2.1, h.2.2.1, h.2.2.2.1, fun j hj => by rw [pk_un (by omega)]; exact h.2.2.2.2 j hj⟩
theorem cw_mBound {m : Nat} {c kn sd si : Nat → Nat} {rv : Nat → Int32} (h : cw_Inv m c kn sd si rv) : m ≤ 24 := by
  have h0 := h.2.1 0 (by decide)
  have h1 := h.2.1 1 (by decide)
  have h2 := h.2.1 2 (by decide)
  have hm := h.2.2.1
  unfold cw_s3 at hm
  omega
/-- an event, known by any K' that fits -/
theorem cw_invE {m : Nat} {c kn kn' sd si : Nat → Nat} {rv : Nat → Int32} (h : cw_Inv m c kn sd si rv) {p s t : Nat} (hp : p < 3) (hc : c p < 8) (hs : s < 3) (ht : t ≤ c s)
    (ho : ∀ a k b, a < 3 → b < 3 → k ≤ c a → cw_K kn' a k b = cw_K kn a k b) (hd : cw_K kn' p (c p + 1) p = c p + 1)
    (hn : ∀ q, q < 3 → q ≠ p → cw_K kn' p (c p + 1) q = max (cw_K kn p (c p) q) (cw_K kn s t q)) : cw_Inv m (cw_up c p (c p + 1)) kn' sd si rv := by
  have hsum := cw_s3u (f := c) (c p + 1) hp
  have hm := h.2.2.1
  refine ⟨cw_clkN h.1 hp hs ht ho hd hn, fun q hq => ?_, by omega, fun i hi => ⟨(h.2.2.2.1 i hi).1, ?_⟩, h.2.2.2.2⟩
  · by_cases e : q = p
    · subst e; rw [cw_ups]; exact hc
    · rw [cw_upn e]; exact h.2.1 q hq
  · have h1 := (h.2.2.2.1 i hi).2
    by_cases e : sd i = p
    · rw [e, cw_ups]; rw [e] at h1; omega
    · rw [cw_upn e]; exact h1
theorem cw_invA {m : Nat} {c kn sd si : Nat → Nat} {rv : Nat → Int32} (h : cw_Inv m c kn sd si rv) {p : Nat} (hp : p < 3) (hc : c p < 8) : cw_Inv m (cw_up c p (c p + 1)) (cw_ev kn p (c p + 1)) sd si rv := by
  refine cw_invE h hp hc hp (Nat.le_refl _) (fun a k b ha hb hk => ?_) cw_evD (fun q hq hqp => ?_)
  · have h8 := h.2.1 a ha
    refine cw_evO hp (by omega) ha (by omega) hb ?_
    by_cases e : a = p
    · subst e; omega
    · exact Or.inl e
  · rw [cw_evN hq hqp, Nat.max_self]
/-- a message more -/
theorem cw_invS {m : Nat} {c kn sd si : Nat → Nat} {rv : Nat → Int32} (h : cw_Inv m c kn sd si rv) {p : Nat} (hp : p < 3) (hc : c p < 8) : cw_Inv (m + 1) (cw_up c p (c p + 1)) (cw_ev kn p (c p + 1)) (cw_up sd m p) (cw_up si m (c p + 1)) rv := by
  have hA := cw_invA h hp hc
  have hsum := cw_s3u (f := c) (c p + 1) hp
  have hm := h.2.2.1
  refine ⟨hA.1, hA.2.1, by omega, fun i hi => ?_, fun i hi => hA.2.2.2.2 i (by omega)⟩
  by_cases e : i = m
  · subst e; rw [cw_ups, cw_ups, cw_ups]; exact ⟨hp, Nat.le_refl _⟩
  · rw [cw_upn e, cw_upn e]; exact hA.2.2.2.1 i (by omega)
/-- a message received -/
theorem cw_invV {m : Nat} {c kn sd si : Nat → Nat} {rv : Nat → Int32} (h : cw_Inv m c kn sd si rv) {p i : Nat} (hp : p < 3) (hc : c p < 8) (hi : i < m) (hne : sd i ≠ p) : cw_Inv m (cw_up c p (c p + 1)) (cw_mx (cw_ev kn p (c p + 1)) (27 * p + 3 * (c p + 1)) (27 * sd i + 3 * si i) 3) sd si rv ∧ ∀ q, q < 3 → cw_ev kn p (c p + 1) (27 * sd i + 3 * si i + q) = cw_K kn (sd i) (si i) q := by
  obtain ⟨hs, ht⟩ := h.2.2.2.1 i hi
  have hs8 := h.2.1 _ hs
  have hr : ∀ q, q < 3 → cw_ev kn p (c p + 1) (27 * sd i + 3 * si i + q) = cw_K kn (sd i) (si i) q := fun q hq => cw_evO (kn := kn) hp (by omega) hs (i := si i) (by omega) hq (Or.inl hne)
  refine ⟨cw_invE h hp hc hs ht (fun a k b ha hb hk => ?_) ?_ (fun q hq hqp => ?_), hr⟩
  · have h8 := h.2.1 a ha
    have hx : a ≠ p ∨ k ≠ c p + 1 := by
      by_cases e : a = p
      · subst e; omega
      · exact Or.inl e
    rw [← cw_evO (kn := kn) hp (k := c p + 1) (by omega) ha (i := k) (by omega) hb hx]
    have hof := cw_off hp (k := c p + 1) (by omega) ha (i := k) (by omega) hb hx
    unfold cw_K
    rw [cw_mxo hof]
  · have hb := h.1.2.2.2.1 (sd i) (si i) p hs hp ht
    have e1 : cw_ev kn p (c p + 1) (27 * p + 3 * (c p + 1) + p) = c p + 1 := cw_evD (kn := kn)
    unfold cw_K
    rw [cw_mxi (by omega) (by omega), Nat.add_sub_cancel_left, hr p hp, e1]
    omega
  · have e1 : cw_ev kn p (c p + 1) (27 * p + 3 * (c p + 1) + q) = cw_K kn p (c p) q := cw_evN (kn := kn) hq hqp
    show cw_mx _ _ _ 3 (27 * p + 3 * (c p + 1) + q) = _
    rw [cw_mxi (by omega) (by omega), Nat.add_sub_cancel_left, hr q hq, e1]
theorem cw_invVp {m : Nat} {c kn sd si : Nat → Nat} {rv : Nat → Int32} (h : cw_Inv m c kn sd si rv) {p i : Nat} (hp : p < 3) (hc : c p < 8) (hi : i < m) (hne : sd i ≠ p) : cw_ev kn p (c p + 1) (27 * sd i + 3 * si i + p) ≤ cw_ev kn p (c p + 1) (27 * p + 3 * (c p + 1) + p) := by
  obtain ⟨hs, ht⟩ := h.2.2.2.1 i hi
  have hb := h.1.2.2.2.1 (sd i) (si i) p hs hp ht
  have e1 : cw_ev kn p (c p + 1) (27 * p + 3 * (c p + 1) + p) = c p + 1 := cw_evD (kn := kn)
  rw [e1, (cw_invV h hp hc hi hne).2 p hp]
  omega
end
section
/-! the relation -/
abbrev cw_X (m : Nat) (c : Nat → Nat) (g : Nat → Int32) (kn sd si : Nat → Nat) (rv : Nat → Int32) (cu fr tt : Nat → Nat) : SX := (nI m, cw_lf c, g, cw_lf kn, cw_lf sd, cw_lf si, rv, cw_lf cu, cw_lf fr, cw_lf tt)
abbrev cw_Y (m : Nat) (c : Nat → Nat) (g : Nat → Int32) (kn sd si : Nat → Nat) (rv av : Nat → Int32) : SY := (nI m, cw_lf c, g, cw_lf kn, cw_lf sd, cw_lf si, rv, av)
def i_Rel (_ : Nat) (u : SX) (v : SY) : Prop := ∃ (m : Nat) (c : Nat → Nat) (g : Nat → Int32) (kn sd si : Nat → Nat) (rv : Nat → Int32) (cu fr tt : Nat → Nat) (av : Nat → Int32), u = cw_X m c g kn sd si rv cu fr tt ∧ v = cw_Y m c g kn sd si rv av ∧ cw_Inv m c kn sd si rv
theorem i_up {k : Nat} {u : SX} {v : SY} (h : i_Rel k u v) : i_Rel (k + 4) u v := h
theorem cw_in {k m : Nat} {c : Nat → Nat} {g : Nat → Int32} {kn sd si : Nat → Nat} {rv : Nat → Int32} {cu fr tt : Nat → Nat} {av : Nat → Int32} (h : cw_Inv m c kn sd si rv) : i_Rel k (cw_X m c g kn sd si rv cu fr tt) (cw_Y m c g kn sd si rv av) := ⟨m, c, g, kn, sd, si, rv, cu, fr, tt, av, rfl, rfl, h⟩
theorem cw_el {k : Nat} {u : SX} {v : SY} {P : SX → SY → Prop} (h : ∀ (m : Nat) (c : Nat → Nat) (g : Nat → Int32) (kn sd si : Nat → Nat) (rv : Nat → Int32) (cu fr tt : Nat → Nat) (av : Nat → Int32), cw_Inv m c kn sd si rv → P (cw_X m c g kn sd si rv cu fr tt) (cw_Y m c g kn sd si rv av)) (I : i_Rel k u v) : P u v := by
  obtain ⟨m, c, g, kn, sd, si, rv, cu, fr, tt, av, rfl, rfl, hI⟩ := I
  exact h m c g kn sd si rv cu fr tt av hI
theorem i_vc0 : wpX_init (fun u => wpY_init (fun v => i_Rel 0 u v)) := cw_in (k := 0) (m := 0) (c := fun _ => 0) (g := fun _ => 0) (kn := fun _ => 0) (sd := fun _ => 0) (si := fun _ => 0) (rv := fun _ => 0) (cu := fun _ => 0) (fr := fun _ => 0) (tt := fun _ => 0) (av := fun _ => 0) cw_inv0
/-! numbers -/
theorem cw_m27 (p : Nat) : 27 * nI p = nI (27 * p) := pk_mul 27 p
theorem cw_m9 (p : Nat) : 9 * nI p = nI (9 * p) := pk_mul 9 p
theorem cw_m3 (p : Nat) : 3 * nI p = nI (3 * p) := pk_mul 3 p
theorem cw_i2 (p k : Nat) : 27 * nI p + 3 * nI k = nI (27 * p + 3 * k) := by rw [cw_m27, cw_m3, nI_add]
theorem cw_i3 (p k q : Nat) : 27 * nI p + 3 * nI k + nI q = nI (27 * p + 3 * k + q) := by rw [cw_i2, nI_add]
theorem cw_i9 (p k : Nat) : 9 * nI p + nI k = nI (9 * p + k) := by rw [cw_m9, nI_add]
theorem cw_b0 : vp_nar .boolean 0 = 0 := by decide
theorem cw_b1 : vp_nar .boolean 1 = 1 := by decide
theorem cw_p3 {p : Nat} (hp : p < 3) : vp_in (nI p) 3 := pk_in p 3 hp
theorem cw_a3 {f : Nat → Nat} {p : Nat} (hp : p < 3) : cw_lf f (nI p).toNatClampNeg = nI (f p) := cw_at p rfl (by omega)
/-! which process -/
theorem cw_Xis {post : Int32 → Prop} {p : Nat} (hp : p < 3) (h : post 1) : wpX_isProcess post (nI p) :=
  br_f (nI_pos (by omega)) (br_f (nI_nlt (b := p) (a := 2) (by omega) (by omega)) h)
theorem cw_Ybad {post : Int32 → Prop} {p : Nat} (hp : p < 3) (h : post 0) : wpY_bad post (nI p) :=
  br_f (nI_pos (by omega)) (br_t (nI_le (b := 2) (a := p) (by omega) (by omega)) h)
theorem cw_prc (v : Int32) : (∃ p, p < 3 ∧ v = nI p) ∨ ((∀ post : Int32 → Prop, post 0 → wpX_isProcess post v) ∧ (∀ post : Int32 → Prop, post 1 → wpY_bad post v)) := by
  by_cases h0 : v < 0
  · exact Or.inr ⟨fun _ h => br_t h0 h, fun _ h => br_t h0 h⟩
  · obtain ⟨j, hj, rfl⟩ := nI_of h0
    by_cases h3 : j < 3
    · exact Or.inl ⟨j, h3, rfl⟩
    · exact Or.inr ⟨fun _ h => br_f h0 (br_t (nI_lt (a := 2) (b := j) (by omega) hj) h), fun _ h => br_f h0 (br_f (nI_ge (a := 2) (b := j) (by omega) hj) h)⟩
/-! events -/
section
variable {fm : Int32} {ac ag as ai ar au af ao : Nat → Int32} {kn : Nat → Nat} {p k : Nat}
theorem cw_Xadv31 {post : SX → Prop} (hp : p < 3) (h1 : 1 ≤ k) (hk : k ≤ 8) (h : post (fm, ac, ag, cw_lf (cw_ev kn p k), as, ai, ar, au, af, ao)) : ∀ n q, q ≤ 3 → 3 < n + q → wX_advance_31 post (nI p) (nI k) fm n (nI q) ac ag (cw_lf (cw_cp kn (27 * p + 3 * k) q)) as ai ar au af ao := by
  intro n
  induction n with
  | zero => intro q a b; omega
  | succ n ih =>
    intro q hq hn
    refine pk_le 3 q (fun h3 => ?_) (fun h3 => ?_)
    · have e : q = 3 := by omega
      subst e
      refine ⟨pk_in _ 81 (by omega) (cw_i3 p k p), nm_r (e' := cw_lf (cw_ev kn p k)) ?_ h⟩
      rw [pk_cl _ (cw_i3 p k p), cw_lfu]; rfl
    · have ex : 27 * nI p + 3 * nI k - 3 + nI q = nI (27 * p + 3 * k - 3 + q) := by
        rw [cw_i2, show nI (27 * p + 3 * k) - 3 = nI (27 * p + 3 * k - 3) from pk_sub (b := 3) (by omega), nI_add]
      refine ⟨pk_in _ 81 (by omega) ex, pk_in _ 81 (by omega) (cw_i3 p k q), nm_r (e' := cw_lf (cw_cp kn (27 * p + 3 * k) (q + 1))) ?_ (nm_r (nI_1 q) (ih (q + 1) (by omega) (by omega)))⟩
      rw [pk_cl _ (cw_i3 p k q), cw_at _ ex (by omega), cw_lfu, cw_cpS h3 (by omega)]
theorem cw_Yev32 {post : SY → Prop} (hp : p < 3) (h1 : 1 ≤ k) (hk : k ≤ 8) (h : post (fm, ac, ag, cw_lf (cw_ev kn p k), as, ai, ar, au)) : ∀ n q, q ≤ 3 → 3 < n + q → wY_event_32 post (nI p) (nI k) fm n (nI q) ac ag (cw_lf (cw_cp kn (27 * p + 3 * k) q)) as ai ar au := by
  intro n
  induction n with
  | zero => intro q a b; omega
  | succ n ih =>
    intro q hq hn
    refine pk_le 3 q (fun h3 => ?_) (fun h3 => ?_)
    · have e : q = 3 := by omega
      subst e
      refine ⟨pk_in _ 81 (by omega) (cw_i3 p k p), nm_r (e' := cw_lf (cw_ev kn p k)) ?_ h⟩
      rw [pk_cl _ (cw_i3 p k p), cw_lfu]; rfl
    · have ex : 27 * nI p + 3 * (nI k - 1) + nI q = nI (27 * p + 3 * (k - 1) + q) := by
        rw [show nI k - 1 = nI (k - 1) from pk_sub (b := 1) (by omega), cw_i3]
      refine ⟨pk_in _ 81 (by omega) ex, pk_in _ 81 (by omega) (cw_i3 p k q), nm_r (e' := cw_lf (cw_cp kn (27 * p + 3 * k) (q + 1))) ?_ (nm_r (nI_1 q) (ih (q + 1) (by omega) (by omega)))⟩
      rw [pk_cl _ (cw_i3 p k q), cw_at _ ex (by omega), cw_lfu, cw_cpS h3 (by omega)]
end
section
variable {m : Nat} {c : Nat → Nat} {g : Nat → Int32} {kn sd si : Nat → Nat} {rv : Nat → Int32} {cu fr tt : Nat → Nat} {av : Nat → Int32} {p : Nat}
theorem cw_Xadv {post : SX → Prop} (hp : p < 3) (hc : c p < 8) (b : Int32) (h : post (cw_X m (cw_up c p (c p + 1)) (upd g (9 * p + (c p + 1)) (vp_nar .boolean b)) (cw_ev kn p (c p + 1)) sd si rv cu fr tt)) : wpX_advance post (cw_X m c g kn sd si rv cu fr tt) (nI p) b := by
  have hin := cw_p3 hp
  have e1 : cw_lf c (nI p).toNatClampNeg + 1 = nI (c p + 1) := by rw [cw_a3 hp, nI_1]
  refine ⟨hin, nm_r e1 ⟨hin, nm_r (e' := cw_lf (cw_up c p (c p + 1))) ?_ ⟨pk_in _ 27 (by omega) (cw_i9 p (c p + 1)), nm_r (e' := upd g (9 * p + (c p + 1)) (vp_nar .boolean b)) ?_ ⟨4, ?_⟩⟩⟩⟩
  · rw [pk_cl p rfl, cw_lfu]
  · rw [pk_cl _ (cw_i9 p (c p + 1))]
  · have h2 := cw_Xadv31 (kn := kn) hp (k := c p + 1) (by omega) (by omega) h 4 0 (by omega) (by omega)
    rw [cw_cp0, nI_0] at h2
    exact h2
theorem cw_Yev {post : SY → Prop} (hp : p < 3) (hc : c p < 8) (b : Int32) (h : post (cw_Y m (cw_up c p (c p + 1)) (upd g (9 * p + (c p + 1)) (vp_nar .boolean b)) (cw_ev kn p (c p + 1)) sd si rv av)) : wpY_event post (cw_Y m c g kn sd si rv av) (nI p) b := by
  have hin := cw_p3 hp
  have e1 : cw_lf c (nI p).toNatClampNeg + 1 = nI (c p + 1) := by rw [cw_a3 hp, nI_1]
  refine ⟨hin, hin, nm_r (e' := cw_lf (cw_up c p (c p + 1))) ?_ ⟨hin, nm_r (e' := nI (c p + 1)) ?_ ⟨pk_in _ 27 (by omega) (cw_i9 p (c p + 1)), nm_r (e' := upd g (9 * p + (c p + 1)) (vp_nar .boolean b)) ?_ ⟨4, ?_⟩⟩⟩⟩
  · rw [e1, pk_cl p rfl, cw_lfu]
  · rw [cw_a3 hp, cw_ups]
  · rw [pk_cl _ (cw_i9 p (c p + 1))]
  · have h2 := cw_Yev32 (kn := kn) hp (k := c p + 1) (by omega) (by omega) h 4 0 (by omega) (by omega)
    rw [cw_cp0, nI_0] at h2
    exact h2
end
theorem i_vc_start {k : Nat} {u : SX} {v : SY} (I : i_Rel k u v) (hk : k + 4 ≤ 2048) (v1 : Int32) (v2 : Int32) : wpX_start (fun r u' => wpY_start (fun r' v' => r' = r ∧ i_Rel (k + 4) u' v') v v1 (lw_bz v2)) u v1 (lw_bz v2) := by
  refine cw_el (P := fun u v => wpX_start (fun r u' => wpY_start (fun r' v' => r' = r ∧ i_Rel (k + 4) u' v') v v1 (lw_bz v2)) u v1 (lw_bz v2)) ?_ I
  intro m c g kn sd si rv cu fr tt av hI
  generalize lw_bz v2 = b
  unfold wpX_start wpY_start
  dsimp only
  rcases cw_prc v1 with ⟨p, hp, rfl⟩ | ⟨hX, hY⟩
  · have hin := pk_in (x := 9 * nI p) (9 * p) 27 (by omega) (cw_m9 p)
    refine cw_Xis hp (br_f (by decide) ⟨hin, nm_e ?_⟩)
    refine cw_Ybad hp (br_t rfl ⟨hin, nm_e ⟨rfl, cw_in hI⟩⟩)
  · exact hX _ (br_t rfl (hY _ (br_f (by decide) ⟨rfl, cw_in hI⟩)))
theorem i_vc_step {k : Nat} {u : SX} {v : SY} (I : i_Rel k u v) (hk : k + 4 ≤ 2048) (v1 : Int32) (v2 : Int32) : wpX_step (fun r u' => wpY_step (fun r' v' => r' = r ∧ i_Rel (k + 4) u' v') v v1 (lw_bz v2)) u v1 (lw_bz v2) := by
  refine cw_el (P := fun u v => wpX_step (fun r u' => wpY_step (fun r' v' => r' = r ∧ i_Rel (k + 4) u' v') v v1 (lw_bz v2)) u v1 (lw_bz v2)) ?_ I
  intro m c g kn sd si rv cu fr tt av hI
  generalize lw_bz v2 = b
  unfold wpX_step wpY_step
  dsimp only
  rcases cw_prc v1 with ⟨p, hp, rfl⟩ | ⟨hX, hY⟩
  · have h8 := hI.2.1 p hp
    have hin := cw_p3 hp
    have ec : cw_lf c (nI p).toNatClampNeg = nI (c p) := cw_a3 hp
    refine cw_Xis hp (br_f (by decide) ⟨hin, pk_lt (c p) 8 (fun hc => ?_) (fun hc => ?_) ec⟩)
    · refine cw_Xadv hp hc b ⟨hin, ?_⟩
      refine cw_Ybad hp (br_t rfl ⟨hin, pk_eq (c p) 8 (fun e => absurd e (by omega)) (fun _ => ?_) ec⟩)
      exact cw_Yev hp hc b ⟨hin, rfl, cw_in (cw_invA hI hp hc)⟩
    · exact cw_Ybad hp (br_t rfl ⟨hin, pk_eq (c p) 8 (fun e => ⟨rfl, cw_in hI⟩) (fun e => absurd (show c p = 8 by omega) e) ec⟩)
  · exact hX _ (br_t rfl (hY _ (br_f (by decide) ⟨rfl, cw_in hI⟩)))
theorem i_vc_send {k : Nat} {u : SX} {v : SY} (I : i_Rel k u v) (hk : k + 4 ≤ 2048) (v1 : Int32) (v2 : Int32) : wpX_send (fun r u' => wpY_send (fun r' v' => r' = r ∧ i_Rel (k + 4) u' v') v v1 (lw_bz v2)) u v1 (lw_bz v2) := by
  refine cw_el (P := fun u v => wpX_send (fun r u' => wpY_send (fun r' v' => r' = r ∧ i_Rel (k + 4) u' v') v v1 (lw_bz v2)) u v1 (lw_bz v2)) ?_ I
  intro m c g kn sd si rv cu fr tt av hI
  generalize lw_bz v2 = b
  unfold wpX_send wpY_send
  dsimp only
  rcases cw_prc v1 with ⟨p, hp, rfl⟩ | ⟨hX, hY⟩
  · have h8 := hI.2.1 p hp
    have hin := cw_p3 hp
    have ec : cw_lf c (nI p).toNatClampNeg = nI (c p) := cw_a3 hp
    refine cw_Xis hp (br_f (by decide) ⟨hin, pk_lt (c p) 8 (fun hc => ?_) (fun hc => ?_) ec⟩)
    · have hm := cw_msg hI hp hc
      have hmi : vp_in (nI m) 24 := pk_in m 24 hm
      have em : (nI m).toNatClampNeg = m := pk_cl m rfl
      have ec' : cw_lf (cw_up c p (c p + 1)) (nI p).toNatClampNeg = nI (c p + 1) := by rw [cw_a3 hp, cw_ups]
      have e1 : upd (cw_lf sd) (nI m).toNatClampNeg (nI p) = cw_lf (cw_up sd m p) := by rw [em, cw_lfu]
      have e2 : upd (cw_lf si) (nI m).toNatClampNeg (cw_lf (cw_up c p (c p + 1)) (nI p).toNatClampNeg) = cw_lf (cw_up si m (c p + 1)) := by rw [em, ec', cw_lfu]
      have e3 : upd rv (nI m).toNatClampNeg (vp_nar .boolean 0) = rv := by
        rw [em, cw_b0]
        funext j
        by_cases e : j = m
        · subst e; rw [pk_us]; exact (hI.2.2.2.2 j (Nat.le_refl _)).symm
        · rw [pk_un e]
      refine cw_Xadv hp hc b ⟨hmi, nm_r e1 ⟨hin, hmi, nm_r e2 ⟨hmi, nm_r e3 (nm_r (nI_1 m) ?_)⟩⟩⟩
      refine cw_Ybad hp (br_t rfl ⟨hin, pk_eq (c p) 8 (fun e => absurd e (by omega)) (fun _ => ?_) ec⟩)
      exact cw_Yev hp hc b ⟨hmi, nm_r e1 ⟨hin, hmi, nm_r e2 (nm_r (nI_1 m) ⟨rfl, cw_in (cw_invS hI hp hc)⟩)⟩⟩
    · exact cw_Ybad hp (br_t rfl ⟨hin, pk_eq (c p) 8 (fun e => ⟨rfl, cw_in hI⟩) (fun e => absurd (show c p = 8 by omega) e) ec⟩)
  · exact hX _ (br_t rfl (hY _ (br_f (by decide) ⟨rfl, cw_in hI⟩)))
theorem i_vc_events {k : Nat} {u : SX} {v : SY} (I : i_Rel k u v) (hk : k + 4 ≤ 2048) (v1 : Int32) : wpX_events (fun r => wpY_events (fun r' => r' = r ∧ i_Rel (k + 4) u v) v v1) u v1 := by
  refine cw_el (P := fun u v => wpX_events (fun r => wpY_events (fun r' => r' = r ∧ i_Rel (k + 4) u v) v v1) u v1) ?_ I
  intro m c g kn sd si rv cu fr tt av hI
  unfold wpX_events wpY_events
  dsimp only
  rcases cw_prc v1 with ⟨p, hp, rfl⟩ | ⟨hX, hY⟩
  · have hin := cw_p3 hp
    exact cw_Xis hp (br_f (by decide) ⟨hin, cw_Ybad hp (br_t rfl ⟨hin, rfl, cw_in hI⟩)⟩)
  · exact hX _ (br_t rfl (hY _ (br_f (by decide) ⟨rfl, cw_in hI⟩)))
end
section
/-! knows, receive -/
theorem cw_Xkb {fm : Int32} {ac ag as ai ar au af ao : Nat → Int32} {kn : Nat → Nat} {post : Int32 → Prop} {p k q : Nat} (hp : p < 3) (hk : k < 9) (hq : q < 3) (h : post (nI (cw_K kn p k q))) : wpX_knownBy post (fm, ac, ag, cw_lf kn, as, ai, ar, au, af, ao) (nI p) (nI k) (nI q) :=
  And.intro (pk_in _ 81 (by omega) (cw_i3 p k q)) (by rw [cw_at _ (cw_i3 p k q) (by omega)]; exact h)
theorem i_vc_knows {k : Nat} {u : SX} {v : SY} (I : i_Rel k u v) (hk : k + 4 ≤ 2048) (v1 : Int32) (v2 : Int32) (v3 : Int32) : wpX_knows (fun r => wpY_knows (fun r' => r' = r ∧ i_Rel (k + 4) u v) v v1 v2 v3) u v1 v2 v3 := by
  refine cw_el (P := fun u v => wpX_knows (fun r => wpY_knows (fun r' => r' = r ∧ i_Rel (k + 4) u v) v v1 v2 v3) u v1 v2 v3) ?_ I
  intro m c g kn sd si rv cu fr tt av hI
  unfold wpX_knows wpY_knows
  dsimp only
  rcases cw_prc v1 with ⟨p, hp, rfl⟩ | ⟨hX, hY⟩
  · refine cw_Xis hp (br_f (by decide) ?_)
    rcases cw_prc v3 with ⟨q, hq, rfl⟩ | ⟨hX, hY⟩
    · refine cw_Xis hq (br_f (by decide) ?_)
      have h8 := hI.2.1 p hp
      have hin := cw_p3 hp
      have ec : cw_lf c (nI p).toNatClampNeg = nI (c p) := cw_a3 hp
      by_cases h0 : v2 < 0
      · exact br_t h0 (cw_Ybad hp (br_t rfl (cw_Ybad hq (br_t rfl (br_t h0 ⟨rfl, cw_in hI⟩)))))
      · obtain ⟨j, hj, rfl⟩ := nI_of h0
        refine br_f h0 ⟨hin, pk_le j (c p) (fun hc => ?_) (fun hc => ?_) rfl ec⟩
        · refine cw_Xkb hp (by omega) hq ?_
          refine cw_Ybad hp (br_t rfl (cw_Ybad hq (br_t rfl (br_f h0 ⟨hin, pk_le j (c p) (fun _ => ?_) (fun e => absurd hc (by omega)) rfl ec⟩))))
          exact ⟨pk_in _ 81 (by omega) (cw_i3 p j q), by rw [cw_at _ (cw_i3 p j q) (by omega)]; rfl, cw_in hI⟩
        · exact cw_Ybad hp (br_t rfl (cw_Ybad hq (br_t rfl (br_f h0 ⟨hin, pk_le j (c p) (fun e => absurd e (by omega)) (fun _ => ⟨rfl, cw_in hI⟩) rfl ec⟩))))
    · exact hX _ (br_t rfl (cw_Ybad hp (br_t rfl (hY _ (br_f (by decide) ⟨rfl, cw_in hI⟩)))))
  · exact hX _ (br_t rfl (hY _ (br_f (by decide) ⟨rfl, cw_in hI⟩)))
section
variable {m : Nat} {c : Nat → Nat} {g : Nat → Int32} {kn sd si : Nat → Nat} {rv : Nat → Int32} {cu fr tt : Nat → Nat} {av : Nat → Int32} {p i : Nat}
theorem cw_Xr79 {post : Int32 → SX → Prop} {b s : Nat} (hp : p < 3) (hk : c p ≤ 8) (hi : i < 24) (hs : sd i < 3) (ht : si i ≤ 8) (hne : sd i ≠ p) (hb : b = 27 * p + 3 * c p) (he : s = 27 * sd i + 3 * si i) (hB : ∀ q, q < 3 → kn (s + q) ≤ 9 ∧ kn (b + q) ≤ 9) (h : post (nI (c p)) (cw_X m c g (cw_mx kn b s 3) sd si rv cu fr tt)) :
    ∀ n q, q ≤ 3 → 3 < n + q → wX_receive_79 post (nI p) (nI i) (nI m) n (nI q) (cw_lf c) g (cw_lf (cw_mx kn b s q)) (cw_lf sd) (cw_lf si) rv (cw_lf cu) (cw_lf fr) (cw_lf tt) := by
  intro n
  induction n with
  | zero => intro q a b; omega
  | succ n ih =>
    intro q hq hn
    have ec : cw_lf c (nI p).toNatClampNeg = nI (c p) := cw_a3 hp
    have hii : vp_in (nI i) 24 := pk_in i 24 hi
    have hin := cw_p3 hp
    refine pk_le 3 q (fun h3 => ?_) (fun h3 => ?_)
    · have e : q = 3 := by omega
      subst e
      refine And.intro hin ?_
      rw [ec]; exact h
    · have ih' := ih (q + 1) (by omega) (by omega)
      have hb2 := hB q h3
      have hof := cw_off hp (k := c p) (by omega) hs (i := si i) (by omega) h3 (Or.inl hne)
      refine And.intro hii (And.intro hii ?_)
      rw [cw_at i rfl (by omega), cw_at i rfl (by omega)]
      refine cw_Xkb hs (by omega) h3 ?_
      have e1 : cw_K (cw_mx kn b s q) (sd i) (si i) q = kn (s + q) := by
        unfold cw_K
        rw [cw_mxo (by omega), he]
      have e2 : cw_mx kn b s q (b + q) = kn (b + q) := cw_mxo (by omega)
      have e3 : 27 * nI p + 3 * (cw_lf c (nI p).toNatClampNeg) + nI q = nI (b + q) := by rw [ec, cw_i3, hb]
      have h81 : vp_in (nI (b + q)) 81 := pk_in (b + q) 81 (by omega)
      have e4 : cw_lf (cw_mx kn b s q) (nI (b + q)).toNatClampNeg = nI (kn (b + q)) := by rw [cw_at _ rfl (by omega), e2]
      rw [e1]
      refine And.intro hin (nm_r e3 (And.intro h81 (pk_le (kn (s + q)) (kn (b + q)) (fun hl => ?_) (fun hl => ?_) rfl e4)))
      · refine And.intro h81 (And.intro h81 (nm_r (e' := cw_lf (cw_mx kn b s (q + 1))) ?_ (nm_r (nI_1 q) ih')))
        rw [e4, pk_cl _ rfl (by omega), cw_lfu, cw_mxS (by omega)]
      · refine And.intro h81 (nm_r (e' := cw_lf (cw_mx kn b s (q + 1))) ?_ (nm_r (nI_1 q) ih'))
        rw [pk_cl _ rfl (by omega), cw_lfu, cw_mxS (by omega)]
theorem cw_Yr85 {post : Int32 → SY → Prop} {b s : Nat} (hp : p < 3) (hk : c p ≤ 8) (hi : i < 24) (hs : sd i < 3) (ht : si i ≤ 8) (hne : sd i ≠ p) (hb : b = 27 * p + 3 * c p) (he : s = 27 * sd i + 3 * si i) (hB : ∀ q, q < 3 → kn (s + q) ≤ 9 ∧ kn (b + q) ≤ 9) (hpp : kn (s + p) ≤ kn (b + p)) (h : post (nI (c p)) (cw_Y m c g (cw_mx kn b s 3) sd si rv av)) :
    ∀ n q, q ≤ 3 → 3 < n + q → wY_receive_85 post (nI p) (nI i) (nI (sd i)) (nI (c p)) (nI m) n (nI q) (cw_lf c) g (cw_lf (cw_mx kn b s q)) (cw_lf sd) (cw_lf si) rv av := by
  intro n
  induction n with
  | zero => intro q a b; omega
  | succ n ih =>
    intro q hq hn
    have hii : vp_in (nI i) 24 := pk_in i 24 hi
    refine pk_le 3 q (fun h3 => ?_) (fun h3 => ?_)
    · have e : q = 3 := by omega
      subst e
      exact h
    · have ih' := ih (q + 1) (by omega) (by omega)
      have hb2 := hB q h3
      have hof := cw_off hp (k := c p) (by omega) hs (i := si i) (by omega) h3 (Or.inl hne)
      have e2 : cw_mx kn b s q (b + q) = kn (b + q) := cw_mxo (by omega)
      have e3 : 27 * nI (sd i) + 3 * (cw_lf si (nI i).toNatClampNeg) + nI q = nI (s + q) := by rw [cw_at i rfl (by omega), cw_i3, he]
      have e5 : 27 * nI p + 3 * nI (c p) + nI q = nI (b + q) := by rw [cw_i3, hb]
      have h81 : vp_in (27 * nI p + 3 * nI (c p) + nI q) 81 := pk_in _ 81 (by omega) e5
      have e4 : cw_lf (cw_mx kn b s q) (27 * nI p + 3 * nI (c p) + nI q).toNatClampNeg = nI (kn (b + q)) := by rw [cw_at _ e5 (by omega), e2]
      refine And.intro hii (And.intro (pk_in _ 81 (by omega) e3) (nm_r (e' := nI (kn (s + q))) ?_ (pk_eq q p (fun hqp => ?_) (fun hqp => ?_))))
      · rw [cw_at _ e3 (by omega), cw_mxo (by omega)]
      · subst hqp
        rw [← cw_mxK hpp] at ih'
        exact nm_r (nI_1 q) ih'
      · refine And.intro h81 (pk_le (kn (s + q)) (kn (b + q)) (fun hl => ?_) (fun hl => ?_) rfl e4)
        · rw [← cw_mxK hl] at ih'
          exact nm_r (nI_1 q) ih'
        · refine And.intro h81 (nm_r (e' := cw_lf (cw_mx kn b s (q + 1))) ?_ (nm_r (nI_1 q) ih'))
          rw [pk_cl _ e5 (by omega), cw_lfu, cw_mxS (by omega)]
theorem cw_Xr16 {post : Int32 → SX → Prop} (v1 v2 b : Int32) (h : post (-1) (cw_X m c g kn sd si rv cu fr tt)) : wX_receive_16 post v1 v2 b (nI m) (cw_lf c) g (cw_lf kn) (cw_lf sd) (cw_lf si) rv (cw_lf cu) (cw_lf fr) (cw_lf tt) := by
  unfold wX_receive_16 wX_receive_17
  rcases cw_prc v1 with ⟨p, hp, rfl⟩ | ⟨hX, hY⟩
  · exact cw_Xis hp (br_f (by decide) ⟨cw_p3 hp, br_c (fun _ => h) (fun _ => br_t rfl h)⟩)
  · exact hX _ (br_t rfl h)
end
theorem i_vc_receive {k : Nat} {u : SX} {v : SY} (I : i_Rel k u v) (hk : k + 4 ≤ 2048) (v1 : Int32) (v2 : Int32) (v3 : Int32) : wpX_receive (fun r u' => wpY_receive (fun r' v' => r' = r ∧ i_Rel (k + 4) u' v') v v1 v2 (lw_bz v3)) u v1 v2 (lw_bz v3) := by
  refine cw_el (P := fun u v => wpX_receive (fun r u' => wpY_receive (fun r' v' => r' = r ∧ i_Rel (k + 4) u' v') v v1 v2 (lw_bz v3)) u v1 v2 (lw_bz v3)) ?_ I
  intro m c g kn sd si rv cu fr tt av hI
  generalize lw_bz v3 = b
  have hm := cw_mBound hI
  unfold wpX_receive
  dsimp only
  by_cases h0 : v2 < 0
  · refine br_t h0 (cw_Xr16 v1 v2 b ?_)
    rcases cw_prc v1 with ⟨p, hp, rfl⟩ | ⟨hX, hY⟩
    · unfold wpY_receive
      dsimp only
      exact cw_Ybad hp (br_t rfl ⟨cw_p3 hp, br_c (fun _ => ⟨rfl, cw_in hI⟩) (fun _ => br_t h0 ⟨rfl, cw_in hI⟩)⟩)
    · unfold wpY_receive
      dsimp only
      exact hY _ (br_f (by decide) ⟨rfl, cw_in hI⟩)
  · refine br_f h0 ?_
    obtain ⟨i, hi, rfl⟩ := nI_of h0
    refine pk_le m i (fun hmi => ?_) (fun hmi => ?_)
    · refine cw_Xr16 v1 (nI i) b ?_
      rcases cw_prc v1 with ⟨p, hp, rfl⟩ | ⟨hX, hY⟩
      · unfold wpY_receive
        dsimp only
        exact cw_Ybad hp (br_t rfl ⟨cw_p3 hp, br_c (fun _ => ⟨rfl, cw_in hI⟩) (fun _ => br_f h0 (pk_lt i m (fun e => absurd e (by omega)) (fun _ => ⟨rfl, cw_in hI⟩)))⟩)
      · unfold wpY_receive
        dsimp only
        exact hY _ (br_f (by decide) ⟨rfl, cw_in hI⟩)
    · unfold wX_receive_17
      rcases cw_prc v1 with ⟨p, hp, rfl⟩ | ⟨hX, hY⟩
      · have h8 := hI.2.1 p hp
        have hin := cw_p3 hp
        have ec : cw_lf c (nI p).toNatClampNeg = nI (c p) := cw_a3 hp
        have hii : vp_in (nI i) 24 := pk_in i 24 (by omega)
        have ei : (nI i).toNatClampNeg = i := pk_cl i rfl
        have es : cw_lf sd (nI i).toNatClampNeg = nI (sd i) := cw_at i rfl (by omega)
        obtain ⟨hs, ht⟩ := hI.2.2.2.1 i hmi
        have hs8 := hI.2.1 _ hs
        refine cw_Xis hp (br_f (by decide) ⟨hin, pk_le 8 (c p) (fun hc => ?_) (fun hc => ?_) rfl ec⟩)
        · unfold wpY_receive
          dsimp only
          exact cw_Ybad hp (br_t rfl ⟨hin, pk_eq (c p) 8 (fun e => ⟨rfl, cw_in hI⟩) (fun e => absurd (show c p = 8 by omega) e) ec⟩)
        · refine br_f (by decide) ⟨hii, ?_⟩
          by_cases hr : rv (nI i).toNatClampNeg = 0
          · refine br_t hr ⟨hii, pk_eq (sd i) p (fun he => ?_) (fun he => ?_) es⟩
            · unfold wpY_receive
              dsimp only
              exact cw_Ybad hp (br_t rfl ⟨hin, pk_eq (c p) 8 (fun e => absurd e (by omega)) (fun _ => br_f h0 (pk_lt i m (fun _ => ⟨hii, br_t hr ⟨hii, pk_eq (sd i) p (fun _ => ⟨rfl, cw_in hI⟩) (fun e => absurd he e) es⟩⟩) (fun e => absurd hmi (by omega)))) ec⟩)
            · have hV := cw_invV hI hp hc hmi he
              have hVp := cw_invVp hI hp hc hmi he
              have ec' : cw_up c p (c p + 1) p = c p + 1 := cw_ups
              have hB : ∀ q, q < 3 → cw_ev kn p (c p + 1) (27 * sd i + 3 * si i + q) ≤ 9 ∧ cw_ev kn p (c p + 1) (27 * p + 3 * (c p + 1) + q) ≤ 9 := by
                intro q hq
                refine ⟨?_, ?_⟩
                · rw [hV.2 q hq]
                  have := cw_invB hI hs hq ht
                  omega
                · have hA := cw_invB (cw_invA hI hp hc) hp hq (k := c p + 1) (by rw [cw_ups]; exact Nat.le_refl _)
                  unfold cw_K at hA
                  omega
              refine And.intro hii (nm_e ?_)
              rw [ei]
              refine cw_Xadv hp hc b ⟨4, ?_⟩
              have hXr := cw_Xr79 (m := m) (c := cw_up c p (c p + 1)) (g := upd g (9 * p + (c p + 1)) (vp_nar .boolean b)) (kn := cw_ev kn p (c p + 1)) (sd := sd) (si := si) (rv := upd rv i (vp_nar .boolean 1)) (cu := cu) (fr := fr) (tt := tt) (p := p) (i := i) (b := 27 * p + 3 * (c p + 1)) (s := 27 * sd i + 3 * si i) (post := (fun r u' => wpY_receive (fun r' v' => r' = r ∧ i_Rel (k + 4) u' v') (cw_Y m c g kn sd si rv av) (nI p) (nI i) b)) hp (by rw [ec']; exact hc) (by omega) hs (by omega) he (by rw [ec']) rfl hB ?_ 4 0 (by omega) (by omega)
              · rw [cw_mx0, nI_0] at hXr
                exact hXr
              · unfold wpY_receive
                dsimp only
                refine cw_Ybad hp (br_t rfl ⟨hin, pk_eq (c p) 8 (fun e => absurd e (by omega)) (fun _ => br_f h0 (pk_lt i m (fun _ => ⟨hii, br_t hr ⟨hii, pk_eq (sd i) p (fun e => absurd e he) (fun _ => ?_) es⟩⟩) (fun e => absurd hmi (by omega)))) ec⟩)
                refine cw_Yev hp hc b (And.intro hii (nm_e (And.intro hii (nm_r es (And.intro hin (nm_r (e' := nI (cw_up c p (c p + 1) p)) (cw_a3 hp) ⟨4, ?_⟩))))))
                rw [ei]
                have hYr := cw_Yr85 (m := m) (c := cw_up c p (c p + 1)) (g := upd g (9 * p + (c p + 1)) (vp_nar .boolean b)) (kn := cw_ev kn p (c p + 1)) (sd := sd) (si := si) (rv := upd rv i (vp_nar .boolean 1)) (av := av) (p := p) (i := i) (b := 27 * p + 3 * (c p + 1)) (s := 27 * sd i + 3 * si i) (post := (fun r' v' => r' = nI (cw_up c p (c p + 1) p) ∧ i_Rel (k + 4) (cw_X m (cw_up c p (c p + 1)) (upd g (9 * p + (c p + 1)) (vp_nar .boolean b)) (cw_mx (cw_ev kn p (c p + 1)) (27 * p + 3 * (c p + 1)) (27 * sd i + 3 * si i) 3) sd si (upd rv i (vp_nar .boolean 1)) cu fr tt) v')) hp (by rw [ec']; exact hc) (by omega) hs (by omega) he (by rw [ec']) rfl hB hVp ⟨rfl, cw_in (cw_invR hV.1 i hmi _)⟩ 4 0 (by omega) (by omega)
                rw [cw_mx0, nI_0] at hYr
                exact hYr
          · refine br_f hr ?_
            unfold wpY_receive
            dsimp only
            exact cw_Ybad hp (br_t rfl ⟨hin, pk_eq (c p) 8 (fun e => absurd e (by omega)) (fun _ => br_f h0 (pk_lt i m (fun _ => ⟨hii, br_f hr ⟨rfl, cw_in hI⟩⟩) (fun e => absurd hmi (by omega)))) ec⟩)
      · refine hX _ (br_t rfl ?_)
        unfold wpY_receive
        dsimp only
        exact hY _ (br_f (by decide) ⟨rfl, cw_in hI⟩)
end
section
/-! sets, good states, the states of a cut -/
def cw_S (s p : Nat) : Prop := s.testBit p = true
def cw_G (g : Nat → Int32) (p k : Nat) : Prop := ¬ g (9 * p + k) = 0
theorem cw_bX : ∀ s, s < 8 → ∀ p, p < 3 → ((((nI s).toUInt32 >>> ((nI p).toUInt32 &&& Int32.toUInt32 31)).toInt32 &&& 1) = 0 ↔ s.testBit p = false) := by decide +kernel
theorem cw_bY : ∀ s, s < 8 → ∀ p, p < 3 → (((nI s >>> (nI p &&& 31)) &&& 1) = 1 ↔ s.testBit p = true) := by decide +kernel
theorem cw_brX {s p : Nat} {A B : Prop} (hs : s < 8) (hp : p < 3) (a : ¬ cw_S s p → A) (b : cw_S s p → B) : (((((nI s).toUInt32 >>> ((nI p).toUInt32 &&& Int32.toUInt32 31)).toInt32 &&& 1) = 0) → A) ∧ (¬ ((((nI s).toUInt32 >>> ((nI p).toUInt32 &&& Int32.toUInt32 31)).toInt32 &&& 1) = 0) → B) := by
  rw [cw_bX s hs p hp]
  refine ⟨fun h => a (by unfold cw_S; rw [h]; decide), fun h => b ?_⟩
  unfold cw_S
  cases hh : s.testBit p
  · exact absurd hh h
  · rfl
theorem cw_brY {s p : Nat} {A B : Prop} (hs : s < 8) (hp : p < 3) (a : cw_S s p → A) (b : ¬ cw_S s p → B) : ((((nI s >>> (nI p &&& 31)) &&& 1) = 1) → A) ∧ (¬ (((nI s >>> (nI p &&& 31)) &&& 1) = 1) → B) := by
  rw [cw_bY s hs p hp]
  exact ⟨a, b⟩
def cw_so (x p : Nat) : Nat := if p = 0 then x / 81 else if p = 1 then x / 9 % 9 else x % 9
theorem cw_so0 (x : Nat) : cw_so x 0 = x / 81 := rfl
theorem cw_so1 (x : Nat) : cw_so x 1 = x / 9 % 9 := rfl
theorem cw_so2 (x : Nat) : cw_so x 2 = x % 9 := rfl
theorem cw_soB {x p : Nat} (hx : x < 729) (hp : p < 3) : cw_so x p ≤ 8 := by
  rcases cw_c3 hp with rfl | rfl | rfl
  · rw [cw_so0]; omega
  · rw [cw_so1]; omega
  · rw [cw_so2]; omega
def cw_ix (d : Nat → Nat) : Nat := 81 * d 0 + 9 * d 1 + d 2
theorem cw_soix {d : Nat → Nat} (h : ∀ p, p < 3 → d p ≤ 8) : ∀ p, p < 3 → cw_so (cw_ix d) p = d p := by
  have h0 := h 0 (by decide)
  have h1 := h 1 (by decide)
  have h2 := h 2 (by decide)
  intro p hp
  unfold cw_ix
  rcases cw_c3 hp with rfl | rfl | rfl
  · rw [cw_so0]; omega
  · rw [cw_so1]; omega
  · rw [cw_so2]; omega
theorem cw_ixso (x : Nat) : cw_ix (cw_so x) = x := by
  unfold cw_ix
  rw [cw_so0, cw_so1, cw_so2]; omega
theorem cw_ixB {d : Nat → Nat} (h : ∀ p, p < 3 → d p ≤ 8) : cw_ix d < 729 := by
  have h0 := h 0 (by decide)
  have h1 := h 1 (by decide)
  have h2 := h 2 (by decide)
  unfold cw_ix; omega
theorem cw_Yso {post : Int32 → Prop} {x p : Nat} (hx : x < 729) (hp : p < 3) (h : post (nI (cw_so x p))) : wpY_stateOf post (nI x) (nI p) := by
  have d9 : nI x / 9 = nI (x / 9) := pk_div (d := 9) (by omega) (by omega) (by omega)
  rcases cw_c3 hp with rfl | rfl | rfl
  · refine br_t rfl (And.intro (by decide) ?_)
    rw [show nI x / 81 = nI (x / 81) from pk_div (d := 81) (by omega) (by omega) (by omega)]; exact h
  · refine br_f (by decide) (br_t rfl (And.intro (by decide) (And.intro (by decide) ?_)))
    rw [d9, show nI (x / 9) - nI (x / 9) / 9 * 9 = nI (x / 9 % 9) from pk_rem (d := 9) (by omega) (by omega) (by omega)]; exact h
  · refine br_f (by decide) (br_f (by decide) (And.intro (by decide) ?_))
    rw [show nI x - nI x / 9 * 9 = nI (x % 9) from pk_rem (d := 9) (by omega) (by omega) (by omega)]; exact h
/-! the reference's possible and isGood -/
section
variable {fm : Int32} {g as ai ar av : Nat → Int32} {c kn : Nat → Nat}
theorem cw_Yp28 {post J2 : Int32 → Prop} {x p k : Nat} (hx : x < 729) (hp : p < 3) (hk : k < 9) (hB : ∀ q, q < 3 → cw_K kn p k q ≤ 8) (hJ : (∀ q, q < 3 → cw_K kn p k q ≤ cw_so x q) → J2 (nI (p + 1))) (h0 : ¬ (∀ q, q < 3 → cw_K kn p k q ≤ cw_so x q) → post 0) :
    ∀ n q, q ≤ 3 → 3 < n + q → (∀ j, j < q → cw_K kn p k j ≤ cw_so x j) → wY_possible_28 post J2 (nI x) (nI p) (nI k) fm (cw_lf c) g (cw_lf kn) as ai ar av n (nI q) := by
  intro n
  induction n with
  | zero => intro q a b; omega
  | succ n ih =>
    intro q hq hn hj
    refine pk_le 3 q (fun h3 => ?_) (fun h3 => ?_)
    · refine nm_r (nI_1 p) (hJ fun q' hq' => hj q' (by omega))
    · have hB' := hB q h3
      have hs8 := cw_soB hx h3
      refine And.intro (pk_in _ 81 (by omega) (cw_i3 p k q)) (cw_Yso hx h3 ?_)
      refine pk_le (cw_K kn p k q) (cw_so x q) (fun hl => ?_) (fun hl => ?_) (cw_at _ (cw_i3 p k q) (by omega))
      · refine nm_r (nI_1 q) (ih (q + 1) (by omega) (by omega) (fun j hj' => ?_))
        by_cases e : j = q
        · rw [e]; exact hl
        · exact hj j (by omega)
      · refine h0 fun hh => ?_
        have := hh q h3
        omega
theorem cw_Yp2 {post : Int32 → Prop} {x : Nat} (hx : x < 729) (hB : ∀ p k q, p < 3 → q < 3 → k ≤ c p → cw_K kn p k q ≤ 8) (hc : ∀ p, p < 3 → c p ≤ 8) (h1 : cw_Con c (cw_K kn) (cw_so x) → post 1) (h0 : ¬ cw_Con c (cw_K kn) (cw_so x) → post 0) :
    ∀ n p, p ≤ 3 → 3 < n + p → (∀ j, j < p → cw_so x j ≤ c j ∧ ∀ q, q < 3 → cw_K kn j (cw_so x j) q ≤ cw_so x q) → wY_possible_2 post (nI x) fm (cw_lf c) g (cw_lf kn) as ai ar av n (nI p) := by
  intro n
  induction n with
  | zero => intro q a b; omega
  | succ n ih =>
    intro p hp hn hj
    refine pk_le 3 p (fun h3 => ?_) (fun h3 => ?_)
    · exact h1 fun q hq => hj q (by omega)
    · have hs8 := cw_soB hx h3
      have hc8 := hc p h3
      refine cw_Yso hx h3 (And.intro (cw_p3 h3) ?_)
      refine pk_le (cw_so x p) (c p) (fun hl => ⟨4, ?_⟩) (fun hl => ?_) rfl (cw_a3 h3)
      · refine cw_Yp28 hx h3 (by omega) (fun q hq => hB p _ q h3 hq hl) (fun hh => ?_) (fun hh => ?_) 4 0 (by omega) (by omega) (fun j hj' => by omega)
        · refine ih (p + 1) (by omega) (by omega) (fun j hj' => ?_)
          by_cases e : j = p
          · rw [e]; exact ⟨hl, hh⟩
          · exact hj j (by omega)
        · exact h0 fun hcon => hh (hcon p h3).2
      · refine h0 fun hcon => ?_
        have := (hcon p h3).1
        omega
theorem cw_Ypos {post : Int32 → Prop} {x : Nat} (hx : x < 729) (hB : ∀ p k q, p < 3 → q < 3 → k ≤ c p → cw_K kn p k q ≤ 8) (hc : ∀ p, p < 3 → c p ≤ 8) (h1 : cw_Con c (cw_K kn) (cw_so x) → post 1) (h0 : ¬ cw_Con c (cw_K kn) (cw_so x) → post 0) : wpY_possible post (fm, cw_lf c, g, cw_lf kn, as, ai, ar, av) (nI x) :=
  ⟨4, cw_Yp2 hx hB hc h1 h0 4 0 (by omega) (by omega) (fun j hj => absurd hj (by omega))⟩
theorem cw_Yg2 {post : Int32 → Prop} {x s : Nat} (hx : x < 729) (hs : s < 8) (h1 : cw_Good (cw_S s) (cw_G g) (cw_so x) → post 1) (h0 : ¬ cw_Good (cw_S s) (cw_G g) (cw_so x) → post 0) :
    ∀ n p, p ≤ 3 → 3 < n + p → (∀ j, j < p → cw_S s j → cw_G g j (cw_so x j)) → wY_isGood_2 post (nI x) (nI s) fm (cw_lf c) g (cw_lf kn) as ai ar av n (nI p) := by
  intro n
  induction n with
  | zero => intro q a b; omega
  | succ n ih =>
    intro p hp hn hj
    refine pk_le 3 p (fun h3 => ?_) (fun h3 => ?_)
    · exact h1 fun q hq => hj q (by omega)
    · have hs8 := cw_soB hx h3
      refine cw_Yso hx h3 (cw_brY hs h3 (fun sp => ?_) (fun sp => ?_))
      · refine And.intro (pk_in _ 27 (by omega) (cw_i9 p (cw_so x p))) ?_
        rw [pk_cl _ (cw_i9 p (cw_so x p)) (by omega)]
        by_cases hz : g (9 * p + cw_so x p) = 0
        · exact br_t hz (h0 fun hh => hh p h3 sp hz)
        · refine br_f hz (nm_r (nI_1 p) (ih (p + 1) (by omega) (by omega) (fun j hj' sj => ?_)))
          by_cases e : j = p
          · rw [e]; exact hz
          · exact hj j (by omega) sj
      · refine nm_r (nI_1 p) (ih (p + 1) (by omega) (by omega) (fun j hj' sj => ?_))
        by_cases e : j = p
        · rw [e] at sj; exact absurd sj sp
        · exact hj j (by omega) sj
theorem cw_Ygood {post : Int32 → Prop} {x s : Nat} (hx : x < 729) (hs : s < 8) (h1 : cw_Good (cw_S s) (cw_G g) (cw_so x) → post 1) (h0 : ¬ cw_Good (cw_S s) (cw_G g) (cw_so x) → post 0) : wpY_isGood post (fm, cw_lf c, g, cw_lf kn, as, ai, ar, av) (nI x) (nI s) :=
  ⟨4, cw_Yg2 hx hs h1 h0 4 0 (by omega) (by omega) (fun j hj => absurd hj (by omega))⟩
theorem cw_Yposs {post : Int32 → Prop} {s : Nat} (hs : s < 8) (hB : ∀ p k q, p < 3 → q < 3 → k ≤ c p → cw_K kn p k q ≤ 8) (hc : ∀ p, p < 3 → c p ≤ 8) (h1 : ∀ x, x < 729 → cw_Con c (cw_K kn) (cw_so x) → cw_Good (cw_S s) (cw_G g) (cw_so x) → post 1) (h0 : (∀ x, x < 729 → cw_Con c (cw_K kn) (cw_so x) → ¬ cw_Good (cw_S s) (cw_G g) (cw_so x)) → post 0) :
    ∀ n x, x ≤ 729 → 729 < n + x → (∀ j, j < x → cw_Con c (cw_K kn) (cw_so j) → ¬ cw_Good (cw_S s) (cw_G g) (cw_so j)) → wY_possibly_11 post (nI s) fm (cw_lf c) g (cw_lf kn) as ai ar av n (nI x) := by
  intro n
  induction n with
  | zero => intro q a b; omega
  | succ n ih =>
    intro x hx hn hj
    refine pk_le 729 x (fun h3 => ?_) (fun h3 => ?_)
    · exact h0 fun y hy => hj y (by omega)
    · have go : (cw_Con c (cw_K kn) (cw_so x) → ¬ cw_Good (cw_S s) (cw_G g) (cw_so x)) → wY_possibly_11 post (nI s) fm (cw_lf c) g (cw_lf kn) as ai ar av n (nI (x + 1)) := by
        intro hx'
        refine ih (x + 1) (by omega) (by omega) (fun j hj' => ?_)
        by_cases e : j = x
        · rw [e]; exact hx'
        · exact hj j (by omega)
      refine cw_Ypos h3 hB hc (fun hcon => ?_) (fun hcon => ?_)
      · refine br_f (by decide) (cw_Ygood h3 hs (fun hg => ?_) (fun hg => ?_))
        · exact br_f (by decide) (h1 x h3 hcon hg)
        · exact br_t rfl (nm_r (nI_1 x) (go fun _ => hg))
      · exact br_t rfl (nm_r (nI_1 x) (go fun hh => absurd hh hcon))
end
end
section
/-! the component's least good cut -/
def cw_LB (c kn : Nat → Nat) (s : Nat) (g : Nat → Int32) (cu : Nat → Nat) (p k : Nat) : Prop := ∀ d, cw_Con c (cw_K kn) d → cw_Good (cw_S s) (cw_G g) d → (∀ q, q < 3 → cu q ≤ d q) → k ≤ d p
def cw_LA (c kn : Nat → Nat) (s : Nat) (g : Nat → Int32) (cu : Nat → Nat) : Prop := ∀ d, cw_Con c (cw_K kn) d → cw_Good (cw_S s) (cw_G g) d → ∀ q, q < 3 → cu q ≤ d q
section
variable {fm : Int32} {g as ai ar af ao : Nat → Int32} {c kn cu : Nat → Nat} {s p : Nat}
theorem cw_Xn51 {post : Int32 → Prop} {k0 : Nat} (hs : s < 8) (hp : p < 3) (hc : c p ≤ 8) (H : ∀ r, k0 ≤ r → r ≤ c p + 1 → cw_LB c kn s g cu p r → (r ≤ c p → cw_S s p → cw_G g p r) → post (nI r)) :
    ∀ n k, k0 ≤ k → k ≤ c p + 1 → cw_LB c kn s g cu p k → c p + 1 < n + k → wX_neededState_51 post (nI p) (nI s) fm (cw_lf c) g (cw_lf kn) as ai ar (cw_lf cu) af ao n (nI k) := by
  intro n
  induction n with
  | zero => intro k a b _ d; omega
  | succ n ih =>
    intro k hk hk2 hL hn
    refine And.intro (cw_p3 hp) (pk_lt (c p) k (fun hl => ?_) (fun hl => ?_) (cw_a3 hp))
    · exact H k hk hk2 hL (fun hh => absurd hh (by omega))
    · refine cw_brX hs hp (fun sp => ?_) (fun sp => ?_)
      · exact H k hk hk2 hL (fun _ hh => absurd hh sp)
      · refine And.intro (pk_in _ 27 (by omega) (cw_i9 p k)) ?_
        rw [pk_cl _ (cw_i9 p k) (by omega)]
        by_cases hz : g (9 * p + k) = 0
        · refine br_t hz (nm_r (nI_1 k) (ih (k + 1) (by omega) (by omega) (fun d hd hg hle => ?_) (by omega)))
          have h1 := hL d hd hg hle
          by_cases e : k = d p
          · have h2 := hg p hp sp
            rw [← e] at h2
            exact absurd hz h2
          · omega
        · exact br_f hz (H k hk hk2 hL (fun _ _ => hz))
theorem cw_Xn10 {post : Int32 → Prop} (hK : cw_Clk c (cw_K kn)) (h8 : ∀ q, q < 3 → c q ≤ 8) (hcu : ∀ q, q < 3 → cu q ≤ c q) (hs : s < 8) (hp : p < 3) (H : ∀ r, cu p ≤ r → (∀ q, q < 3 → cw_K kn q (cu q) p ≤ r) → r ≤ c p + 1 → cw_LB c kn s g cu p r → (r ≤ c p → cw_S s p → cw_G g p r) → post (nI r)) :
    ∀ n q k, q ≤ 3 → 3 < n + q → cu p ≤ k → (∀ j, j < q → cw_K kn j (cu j) p ≤ k) → k ≤ c p → cw_LB c kn s g cu p k → wX_neededState_10 post (nI p) (nI s) fm (cw_lf c) g (cw_lf kn) as ai ar (cw_lf cu) af ao n (nI k) (nI q) := by
  intro n
  induction n with
  | zero => intro q k a b; omega
  | succ n ih =>
    intro q k hq hn hk hj hkc hL
    have hc8 := h8 p hp
    refine pk_le 3 q (fun h3 => ⟨c p + 2, ?_⟩) (fun h3 => ?_)
    · refine cw_Xn51 (k0 := k) hs hp hc8 (fun r hr hr2 hLr hg => H r (by omega) (fun q' hq' => Nat.le_trans (hj q' (by omega)) hr) hr2 hLr hg) _ k (Nat.le_refl _) (by omega) hL (by omega)
    · have hcq := hcu q h3
      have hcq8 := h8 q h3
      have hb := hK.2.2.2.1 q (cu q) p h3 hp hcq
      refine And.intro (cw_p3 h3) ?_
      rw [cw_a3 h3]
      refine cw_Xkb h3 (by omega) hp ?_
      refine pk_le (cw_K kn q (cu q) p) k (fun hl => ?_) (fun hl => ?_)
      · refine nm_r (nI_1 q) (ih (q + 1) k (by omega) (by omega) hk (fun j hj' => ?_) hkc hL)
        by_cases e : j = q
        · rw [e]; exact hl
        · exact hj j (by omega)
      · refine nm_r (nI_1 q) (ih (q + 1) _ (by omega) (by omega) (by omega) (fun j hj' => ?_) hb (fun d hd hg hle => ?_))
        · by_cases e : j = q
          · rw [e]; exact Nat.le_refl _
          · exact Nat.le_trans (hj j (by omega)) (by omega)
        · exact Nat.le_trans (cw_mono hK h3 hp (hle q h3) (hd q h3).1) ((hd q h3).2 p hp)
theorem cw_Xns {post : Int32 → Prop} (hK : cw_Clk c (cw_K kn)) (h8 : ∀ q, q < 3 → c q ≤ 8) (hcu : ∀ q, q < 3 → cu q ≤ c q) (hs : s < 8) (hp : p < 3) (H : ∀ r, cu p ≤ r → (∀ q, q < 3 → cw_K kn q (cu q) p ≤ r) → r ≤ c p + 1 → cw_LB c kn s g cu p r → (r ≤ c p → cw_S s p → cw_G g p r) → post (nI r)) :
    wpX_neededState post (fm, cw_lf c, g, cw_lf kn, as, ai, ar, cw_lf cu, af, ao) (nI p) (nI s) :=
  And.intro (cw_p3 hp) (nm_r (cw_a3 hp) ⟨4, cw_Xn10 hK h8 hcu hs hp H 4 0 (cu p) (by omega) (by omega) (Nat.le_refl _) (fun j hj => absurd hj (by omega)) (hcu p hp) (fun d _ _ hle => hle p hp)⟩)
end
def cw_cl (c kn : Nat → Nat) (s : Nat) (g : Nat → Int32) (cu : Nat → Nat) (j : Nat) : Prop := (∀ q, q < 3 → cw_K kn q (cu q) j ≤ cu j) ∧ (cw_S s j → cw_G g j (cu j))
section
variable {m : Nat} {g rv : Nat → Int32} {c kn sd si fr tt : Nat → Nat} {s : Nat}
theorem cw_s24 {cu : Nat → Nat} (h8 : ∀ q, q < 3 → c q ≤ 8) (hcu : ∀ q, q < 3 → cu q ≤ c q) : cw_s3 cu ≤ 24 := by
  have h0 := h8 0 (by decide)
  have h1 := h8 1 (by decide)
  have h2 := h8 2 (by decide)
  have k0 := hcu 0 (by decide)
  have k1 := hcu 1 (by decide)
  have k2 := hcu 2 (by decide)
  unfold cw_s3; omega
theorem cw_Xf39 {post : Int32 → SX → Prop} {J24 : Int32 → Int32 → (Nat → Int32) → (Nat → Int32) → (Nat → Int32) → (Nat → Int32) → (Nat → Int32) → (Nat → Int32) → (Nat → Int32) → (Nat → Int32) → (Nat → Int32) → Prop} {R : Nat} (hK : cw_Clk c (cw_K kn)) (h8 : ∀ q, q < 3 → c q ≤ 8) (hs : s < 8)
    (h0 : ∀ cu, (∀ d, cw_Con c (cw_K kn) d → ¬ cw_Good (cw_S s) (cw_G g) d) → post 0 (cw_X m c g kn sd si rv cu fr tt))
    (hJ0 : ∀ cu, (∀ q, q < 3 → cu q ≤ c q) → cw_LA c kn s g cu → R ≤ cw_s3 cu → cw_Con c (cw_K kn) cu → cw_Good (cw_S s) (cw_G g) cu → J24 0 (nI (R + 1)) (cw_lf c) g (cw_lf kn) (cw_lf sd) (cw_lf si) rv (cw_lf cu) (cw_lf fr) (cw_lf tt))
    (hJ1 : ∀ cu, (∀ q, q < 3 → cu q ≤ c q) → cw_LA c kn s g cu → R + 1 ≤ cw_s3 cu → J24 1 (nI (R + 1)) (cw_lf c) g (cw_lf kn) (cw_lf sd) (cw_lf si) rv (cw_lf cu) (cw_lf fr) (cw_lf tt)) :
    ∀ n p x cu, p ≤ 3 → 3 < n + p → (∀ q, q < 3 → cu q ≤ c q) → cw_LA c kn s g cu → ((x = 0 ∧ R ≤ cw_s3 cu ∧ ∀ j, j < p → cw_cl c kn s g cu j) ∨ (x = 1 ∧ R + 1 ≤ cw_s3 cu)) → wX_findLeast_39 post J24 (nI s) (nI R) (nI m) n x (nI p) (cw_lf c) g (cw_lf kn) (cw_lf sd) (cw_lf si) rv (cw_lf cu) (cw_lf fr) (cw_lf tt) := by
  intro n
  induction n with
  | zero => intro p x cu a b; omega
  | succ n ih =>
    intro p x cu hp hn hcu hL hx
    refine pk_le 3 p (fun h3 => ?_) (fun h3 => ?_)
    · refine nm_r (nI_1 R) ?_
      rcases hx with ⟨rfl, hR, hcl⟩ | ⟨rfl, hR⟩
      · exact hJ0 cu hcu hL hR (fun q hq => ⟨hcu q hq, fun t ht => (hcl t (by omega)).1 q hq⟩) (fun q hq => (hcl q (by omega)).2)
      · exact hJ1 cu hcu hL hR
    · have hc8 := h8 p h3
      have hcp := hcu p h3
      refine cw_Xns hK h8 hcu hs h3 (fun r hr hrk hr2 hrL hrg => ?_)
      have hin := cw_p3 h3
      refine And.intro hin (pk_le r (c p) (fun hl => ?_) (fun hl => ?_) rfl (cw_a3 h3))
      · have hcu' : ∀ q, q < 3 → cw_up cu p r q ≤ c q := by
          intro q hq
          by_cases e : q = p
          · subst e; rw [cw_ups]; exact hl
          · rw [cw_upn e]; exact hcu q hq
        have hL' : cw_LA c kn s g (cw_up cu p r) := by
          intro d hd hg q hq
          by_cases e : q = p
          · subst e; rw [cw_ups]; exact hrL d hd hg (hL d hd hg)
          · rw [cw_upn e]; exact hL d hd hg q hq
        have hsum := cw_s3u (f := cu) r h3
        have e89 : upd (cw_lf cu) (nI p).toNatClampNeg (nI r) = cw_lf (cw_up cu p r) := by rw [pk_cl p rfl, cw_lfu]
        have go1 : R + 1 ≤ cw_s3 (cw_up cu p r) → wX_findLeast_84 post J24 (wX_findLeast_39 post J24 (nI s) (nI R) (nI m) n) (nI s) (nI R) (nI p) (nI r) (nI m) (cw_lf c) g (cw_lf kn) (cw_lf sd) (cw_lf si) rv (cw_lf cu) (cw_lf fr) (cw_lf tt) := by
          intro hR
          unfold wX_findLeast_84 wX_findLeast_89
          exact And.intro hin (nm_r e89 (nm_r (nI_1 p) (ih (p + 1) 1 _ (by omega) (by omega) hcu' hL' (Or.inr ⟨rfl, hR⟩))))
        rcases hx with ⟨rfl, hR, hcl⟩ | ⟨rfl, hR⟩
        · refine br_t rfl (And.intro hin (pk_le r (cu p) (fun hr3 => ?_) (fun hr3 => ?_) rfl (cw_a3 h3)))
          · unfold wX_findLeast_89
            have er : r = cu p := by omega
            rw [er, cw_upup] at e89
            rw [er]
            refine And.intro hin (nm_r e89 (nm_r (nI_1 p) (ih (p + 1) 0 cu (by omega) (by omega) hcu hL (Or.inl ⟨rfl, hR, fun j hj => ?_⟩))))
            by_cases e : j = p
            · subst e
              refine ⟨fun q hq => ?_, fun sj => ?_⟩
              · rw [← er]; exact hrk q hq
              · rw [← er]; exact hrg hl sj
            · exact hcl j (by omega)
          · exact go1 (by omega)
        · exact br_f (by decide) (go1 (by omega))
      · refine h0 cu fun d hd hg => ?_
        have h1 := hrL d hd hg (hL d hd hg)
        have h2 := (hd p h3).1
        omega
theorem cw_Xf24 {post : Int32 → SX → Prop} (hK : cw_Clk c (cw_K kn)) (h8 : ∀ q, q < 3 → c q ≤ 8) (hs : s < 8)
    (h0 : ∀ cu, (∀ d, cw_Con c (cw_K kn) d → ¬ cw_Good (cw_S s) (cw_G g) d) → post 0 (cw_X m c g kn sd si rv cu fr tt))
    (h1 : ∀ cu, cw_LA c kn s g cu → cw_Con c (cw_K kn) cu → cw_Good (cw_S s) (cw_G g) cu → post 1 (cw_X m c g kn sd si rv cu fr tt)) :
    ∀ n R x cu, R ≤ 25 → 25 < n + R → (∀ q, q < 3 → cu q ≤ c q) → cw_LA c kn s g cu → ((x = 0 ∧ cw_Con c (cw_K kn) cu ∧ cw_Good (cw_S s) (cw_G g) cu) ∨ (x = 1 ∧ R ≤ cw_s3 cu)) → wX_findLeast_24 post (nI s) (nI m) n x (nI R) (cw_lf c) g (cw_lf kn) (cw_lf sd) (cw_lf si) rv (cw_lf cu) (cw_lf fr) (cw_lf tt) := by
  intro n
  induction n with
  | zero => intro R x cu a b; omega
  | succ n ih =>
    intro R x cu hR hn hcu hL hx
    refine pk_le 30 R (fun h3 => absurd h3 (by omega)) (fun h3 => ?_)
    rcases hx with ⟨rfl, hc, hg⟩ | ⟨rfl, hs2⟩
    · exact br_t rfl (h1 cu hL hc hg)
    · have h24 := cw_s24 h8 hcu
      refine br_f (by decide) ⟨4, ?_⟩
      refine cw_Xf39 hK h8 hs h0 (fun cu' a b d e f => ?_) (fun cu' a b d => ?_) 4 0 0 cu (by omega) (by omega) hcu hL (Or.inl ⟨rfl, hs2, fun j hj => absurd hj (by omega)⟩)
      · exact ih (R + 1) 0 cu' (by omega) (by omega) a b (Or.inl ⟨rfl, e, f⟩)
      · exact ih (R + 1) 1 cu' (by omega) (by omega) a b (Or.inr ⟨rfl, d⟩)
theorem cw_Xf2 {post : Int32 → SX → Prop} (hK : cw_Clk c (cw_K kn)) (h8 : ∀ q, q < 3 → c q ≤ 8) (hs : s < 8)
    (h0 : ∀ cu, (∀ d, cw_Con c (cw_K kn) d → ¬ cw_Good (cw_S s) (cw_G g) d) → post 0 (cw_X m c g kn sd si rv cu fr tt))
    (h1 : ∀ cu, cw_LA c kn s g cu → cw_Con c (cw_K kn) cu → cw_Good (cw_S s) (cw_G g) cu → post 1 (cw_X m c g kn sd si rv cu fr tt)) :
    ∀ n p cu, p ≤ 3 → 3 < n + p → (∀ q, q < p → cu q = 0) → wX_findLeast_2 post (nI s) (nI m) n (nI p) (cw_lf c) g (cw_lf kn) (cw_lf sd) (cw_lf si) rv (cw_lf cu) (cw_lf fr) (cw_lf tt) := by
  intro n
  induction n with
  | zero => intro p cu a b; omega
  | succ n ih =>
    intro p cu hp hn hz
    refine pk_le 3 p (fun h3 => ⟨26, ?_⟩) (fun h3 => ?_)
    · exact cw_Xf24 hK h8 hs h0 h1 26 0 1 cu (by omega) (by omega) (fun q hq => by rw [hz q (by omega)]; exact Nat.zero_le _) (fun d _ _ q hq => by rw [hz q (by omega)]; exact Nat.zero_le _) (Or.inr ⟨rfl, Nat.zero_le _⟩)
    · refine And.intro (cw_p3 h3) (nm_r (e' := cw_lf (cw_up cu p 0)) ?_ (nm_r (nI_1 p) (ih (p + 1) _ (by omega) (by omega) (fun q hq => ?_))))
      · rw [pk_cl p rfl, ← nI_0, cw_lfu]
      · by_cases e : q = p
        · subst e; rw [cw_ups]
        · rw [cw_upn e]; exact hz q (by omega)
theorem cw_Xfind {post : Int32 → SX → Prop} {cu0 : Nat → Nat} (hK : cw_Clk c (cw_K kn)) (h8 : ∀ q, q < 3 → c q ≤ 8) (hs : s < 8)
    (h0 : ∀ cu, (∀ d, cw_Con c (cw_K kn) d → ¬ cw_Good (cw_S s) (cw_G g) d) → post 0 (cw_X m c g kn sd si rv cu fr tt))
    (h1 : ∀ cu, cw_LA c kn s g cu → cw_Con c (cw_K kn) cu → cw_Good (cw_S s) (cw_G g) cu → post 1 (cw_X m c g kn sd si rv cu fr tt)) :
    wpX_findLeast post (cw_X m c g kn sd si rv cu0 fr tt) (nI s) := ⟨4, cw_Xf2 hK h8 hs h0 h1 4 0 cu0 (by omega) (by omega) (fun q hq => absurd hq (by omega))⟩
end
/-! sets -/
theorem cw_set (v : Int32) : (∃ s, 1 ≤ s ∧ s < 8 ∧ v = nI s) ∨ v < 1 ∨ (¬ v < 1 ∧ ¬ v ≤ 7 ∧ 7 < v) := by
  by_cases h1 : v < 1
  · exact Or.inr (Or.inl h1)
  · have h0 : ¬ v < 0 := by
      intro h
      rw [Int32.lt_iff_toInt_lt] at h h1
      have e0 : (0 : Int32).toInt = 0 := by decide
      have e1 : (1 : Int32).toInt = 1 := by decide
      omega
    obtain ⟨j, hj, rfl⟩ := nI_of h0
    have hj1 : ¬ j < 1 := fun h => h1 (nI_lt (a := j) (b := 1) h (by omega))
    by_cases h8 : j < 8
    · exact Or.inl ⟨j, by omega, h8, rfl⟩
    · exact Or.inr (Or.inr ⟨h1, nI_ge (a := 7) (b := j) (by omega) hj, nI_lt (a := 7) (b := j) (by omega) hj⟩)
theorem cw_n1 {s : Nat} (h : 1 ≤ s) (h2 : s < 8) : ¬ nI s < 1 := nI_nlt (a := s) (b := 1) h (by omega)
theorem cw_n7 {s : Nat} (h2 : s < 8) : nI s ≤ 7 := nI_le (a := s) (b := 7) (by omega) (by omega)
theorem cw_n7' {s : Nat} (h2 : s < 8) : ¬ 7 < nI s := nI_nlt (a := 7) (b := s) (by omega) (by omega)
theorem cw_Ybs {post : Int32 → Prop} {s : Nat} (h1 : 1 ≤ s) (h2 : s < 8) (h : post 0) : wpY_badSet post (nI s) := br_f (cw_n1 h1 h2) (br_t (cw_n7 h2) h)
theorem cw_Ybs1 {post : Int32 → Prop} {v : Int32} (h : v < 1 ∨ (¬ v < 1 ∧ ¬ v ≤ 7 ∧ 7 < v)) (hp : post 1) : wpY_badSet post v := by
  rcases h with h | ⟨h, h7, _⟩
  · exact br_t h hp
  · exact br_f h (br_f h7 hp)
theorem cw_toX {c kn : Nat → Nat} {s : Nat} {g : Nat → Int32} (h8 : ∀ q, q < 3 → c q ≤ 8) {d : Nat → Nat} (hd : cw_Con c (cw_K kn) d) (hg : cw_Good (cw_S s) (cw_G g) d) : cw_ix d < 729 ∧ (∀ p, p < 3 → cw_so (cw_ix d) p = d p) ∧ cw_Con c (cw_K kn) (cw_so (cw_ix d)) ∧ cw_Good (cw_S s) (cw_G g) (cw_so (cw_ix d)) := by
  have hb : ∀ p, p < 3 → d p ≤ 8 := fun p hp => Nat.le_trans (hd p hp).1 (h8 p hp)
  have he := cw_soix hb
  exact ⟨cw_ixB hb, he, cw_conE (fun p hp => (he p hp).symm) hd, cw_goodE (fun p hp => (he p hp).symm) hg⟩
theorem i_vc_possibly {k : Nat} {u : SX} {v : SY} (I : i_Rel k u v) (hk : k + 4 ≤ 2048) (v1 : Int32) : wpX_possibly (fun r u' => wpY_possibly (fun r' => r' = r ∧ i_Rel (k + 4) u' v) v v1) u v1 := by
  refine cw_el (P := fun u v => wpX_possibly (fun r u' => wpY_possibly (fun r' => r' = r ∧ i_Rel (k + 4) u' v) v v1) u v1) ?_ I
  intro m c g kn sd si rv cu fr tt av hI
  have hB : ∀ p k q, p < 3 → q < 3 → k ≤ c p → cw_K kn p k q ≤ 8 := fun p k q hp hq hk => cw_invB hI hp hq hk
  unfold wpX_possibly wpY_possibly
  dsimp only
  rcases cw_set v1 with ⟨s, hs1, hs, rfl⟩ | hb
  · refine br_f (cw_n1 hs1 hs) (br_t (cw_n7 hs) (cw_Xfind hI.1 hI.2.1 hs (fun cu' hno => ?_) (fun cu' hL hcon hg => ?_)))
    · refine br_t rfl (cw_Ybs hs1 hs (br_t rfl ⟨730, cw_Yposs hs hB hI.2.1 (fun x _ hcon hg => absurd hg (hno _ hcon)) (fun _ => ⟨rfl, cw_in hI⟩) 730 0 (by omega) (by omega) (fun j hj => absurd hj (by omega))⟩))
    · refine br_f (by decide) (cw_Ybs hs1 hs (br_t rfl ⟨730, cw_Yposs hs hB hI.2.1 (fun x _ _ _ => ⟨rfl, cw_in hI⟩) (fun hno => ?_) 730 0 (by omega) (by omega) (fun j hj => absurd hj (by omega))⟩))
      obtain ⟨a, _, b, d⟩ := cw_toX hI.2.1 hcon hg
      exact absurd d (hno _ a b)
  · have hY := cw_Ybs1 (post := fun r_1 => (r_1 = 0 → ∃ n11, wY_possibly_11 (fun r' => r' = -1 ∧ i_Rel (k + 4) (cw_X m c g kn sd si rv cu fr tt) (cw_Y m c g kn sd si rv av)) v1 (nI m) (cw_lf c) g (cw_lf kn) (cw_lf sd) (cw_lf si) rv av n11 0) ∧ (¬ r_1 = 0 → ((-1 : Int32) = -1 ∧ i_Rel (k + 4) (cw_X m c g kn sd si rv cu fr tt) (cw_Y m c g kn sd si rv av)))) hb (br_f (by decide) ⟨rfl, cw_in hI⟩)
    rcases hb with hb | ⟨hb, h7, _⟩
    · exact br_t hb hY
    · exact br_f hb (br_f h7 hY)
end
section
/-! least -/
def cw_LI (c kn : Nat → Nat) (s : Nat) (g : Nat → Int32) (p x : Nat) (b : Int32) : Prop :=
  (b = -1 ∧ ∀ j, j < x → cw_Con c (cw_K kn) (cw_so j) → ¬ cw_Good (cw_S s) (cw_G g) (cw_so j)) ∨
  (∃ k, b = nI k ∧ k ≤ 8 ∧ (∃ j, j < x ∧ cw_Con c (cw_K kn) (cw_so j) ∧ cw_Good (cw_S s) (cw_G g) (cw_so j) ∧ cw_so j p = k) ∧ ∀ j, j < x → cw_Con c (cw_K kn) (cw_so j) → cw_Good (cw_S s) (cw_G g) (cw_so j) → k ≤ cw_so j p)
theorem cw_LIs {c kn : Nat → Nat} {s : Nat} {g : Nat → Int32} {p x : Nat} {b : Int32} (h : cw_LI c kn s g p x b) (hn : cw_Con c (cw_K kn) (cw_so x) → ¬ cw_Good (cw_S s) (cw_G g) (cw_so x)) : cw_LI c kn s g p (x + 1) b := by
  rcases h with ⟨hb, h⟩ | ⟨k, hb, h8, ⟨j, hj, hc, hg, he⟩, h⟩
  · refine Or.inl ⟨hb, fun j hj => ?_⟩
    by_cases e : j = x
    · rw [e]; exact hn
    · exact h j (by omega)
  · refine Or.inr ⟨k, hb, h8, ⟨j, by omega, hc, hg, he⟩, fun i hi hc' hg' => ?_⟩
    by_cases e : i = x
    · rw [e] at hc' hg'; exact absurd hg' (hn hc')
    · exact h i (by omega) hc' hg'
section
variable {fm : Int32} {g as ai ar av : Nat → Int32} {c kn : Nat → Nat}
theorem cw_Yl21 {post : Int32 → Prop} {s p : Nat} (hs : s < 8) (hp : p < 3) (hB : ∀ p k q, p < 3 → q < 3 → k ≤ c p → cw_K kn p k q ≤ 8) (hc : ∀ p, p < 3 → c p ≤ 8) (H : ∀ b, cw_LI c kn s g p 729 b → post b) :
    ∀ n x b, x ≤ 729 → 729 < n + x → cw_LI c kn s g p x b → wY_least_21 post (nI s) (nI p) fm (cw_lf c) g (cw_lf kn) as ai ar av n b (nI x) := by
  intro n
  induction n with
  | zero => intro q b a b; omega
  | succ n ih =>
    intro x b hx hn hj
    refine pk_le 729 x (fun h3 => ?_) (fun h3 => ?_)
    · have e : x = 729 := by omega
      subst e
      exact H b hj
    · have ih' := fun b => ih (x + 1) b (by omega) (by omega)
      have hs8 := cw_soB h3 hp
      refine cw_Yso h3 hp (cw_Ypos h3 hB hc (fun hcon => ?_) (fun hcon => ?_))
      · refine br_f (by decide) (cw_Ygood h3 hs (fun hg => ?_) (fun hg => ?_))
        · refine br_f (by decide) ?_
          rcases hj with ⟨rfl, h⟩ | ⟨k, rfl, h8, ⟨j, hj, hc', hg', he⟩, h⟩
          · refine br_t (by decide) (nm_r (nI_1 x) (ih' _ (Or.inr ⟨_, rfl, hs8, ⟨x, by omega, hcon, hg, rfl⟩, fun i hi hc' hg' => ?_⟩)))
            by_cases e : i = x
            · rw [e]; exact Nat.le_refl _
            · exact absurd hg' (h i (by omega) hc')
          · refine br_f (nI_pos (by omega)) (pk_le k (cw_so x p) (fun hl => ?_) (fun hl => ?_))
            · refine nm_r (nI_1 x) (ih' _ (Or.inr ⟨k, rfl, h8, ⟨j, by omega, hc', hg', he⟩, fun i hi hc' hg' => ?_⟩))
              by_cases e : i = x
              · rw [e]; exact hl
              · exact h i (by omega) hc' hg'
            · refine nm_r (nI_1 x) (ih' _ (Or.inr ⟨_, rfl, hs8, ⟨x, by omega, hcon, hg, rfl⟩, fun i hi hc' hg' => ?_⟩))
              by_cases e : i = x
              · rw [e]; exact Nat.le_refl _
              · have := h i (by omega) hc' hg'
                omega
        · exact br_t rfl (nm_r (nI_1 x) (ih' _ (cw_LIs hj fun _ => hg)))
      · exact br_t rfl (nm_r (nI_1 x) (ih' _ (cw_LIs hj fun hh => absurd hh hcon)))
end
theorem i_vc_least {k : Nat} {u : SX} {v : SY} (I : i_Rel k u v) (hk : k + 4 ≤ 2048) (v1 : Int32) (v2 : Int32) : wpX_least (fun r u' => wpY_least (fun r' => r' = r ∧ i_Rel (k + 4) u' v) v v1 v2) u v1 v2 := by
  refine cw_el (P := fun u v => wpX_least (fun r u' => wpY_least (fun r' => r' = r ∧ i_Rel (k + 4) u' v) v v1 v2) u v1 v2) ?_ I
  intro m c g kn sd si rv cu fr tt av hI
  have hB : ∀ p k q, p < 3 → q < 3 → k ≤ c p → cw_K kn p k q ≤ 8 := fun p k q hp hq hk => cw_invB hI hp hq hk
  unfold wpX_least
  dsimp only
  rcases cw_set v1 with ⟨s, hs1, hs, rfl⟩ | hb
  · refine br_f (cw_n1 hs1 hs) (br_f (cw_n7' hs) ?_)
    rcases cw_prc v2 with ⟨p, hp, rfl⟩ | ⟨hX, hY⟩
    · refine cw_Xis hp (br_f (by decide) (cw_Xfind hI.1 hI.2.1 hs (fun cu' hno => ?_) (fun cu' hL hcon hg => ?_)))
      · refine br_t rfl ?_
        unfold wpY_least
        dsimp only
        refine cw_Ybs hs1 hs (br_t rfl (cw_Ybad hp (br_t rfl ⟨730, cw_Yl21 hs hp hB hI.2.1 (fun b hb => ?_) 730 0 (-1) (by omega) (by omega) (Or.inl ⟨rfl, fun j hj => absurd hj (by omega)⟩)⟩)))
        rcases hb with ⟨rfl, _⟩ | ⟨k, _, _, ⟨j, _, hc, hg, _⟩, _⟩
        · exact ⟨rfl, cw_in hI⟩
        · exact absurd hg (hno _ hc)
      · refine br_f (by decide) (And.intro (cw_p3 hp) ?_)
        unfold wpY_least
        dsimp only
        refine cw_Ybs hs1 hs (br_t rfl (cw_Ybad hp (br_t rfl ⟨730, cw_Yl21 hs hp hB hI.2.1 (fun b hb => ?_) 730 0 (-1) (by omega) (by omega) (Or.inl ⟨rfl, fun j hj => absurd hj (by omega)⟩)⟩)))
        obtain ⟨a, e, b', d⟩ := cw_toX hI.2.1 hcon hg
        rcases hb with ⟨_, h⟩ | ⟨k, rfl, _, ⟨j, hj, hc, hg', he⟩, h⟩
        · exact absurd d (h _ a b')
        · refine ⟨?_, cw_in hI⟩
          rw [cw_a3 hp]
          have h1 := h _ a b' d
          have h2 := hL _ hc hg' p hp
          rw [e p hp] at h1
          exact congrArg nI (by omega)
    · refine hX _ (br_t rfl ?_)
      unfold wpY_least
      dsimp only
      exact cw_Ybs hs1 hs (br_t rfl (hY _ (br_f (by decide) ⟨rfl, cw_in hI⟩)))
  · have hY : wpY_least (fun r' => r' = -1 ∧ i_Rel (k + 4) (cw_X m c g kn sd si rv cu fr tt) (cw_Y m c g kn sd si rv av)) (cw_Y m c g kn sd si rv av) v1 v2 := by
      unfold wpY_least
      dsimp only
      exact cw_Ybs1 hb (br_f (by decide) ⟨rfl, cw_in hI⟩)
    rcases hb with hb | ⟨hb, _, h7⟩
    · exact br_t hb hY
    · exact br_f hb (br_t h7 hY)
/-! counting cuts -/
noncomputable def cw_b (P : Prop) : Nat := @ite Nat P (Classical.propDecidable P) 1 0
theorem cw_bt {P : Prop} (h : P) : cw_b P = 1 := if_pos h
theorem cw_bf {P : Prop} (h : ¬ P) : cw_b P = 0 := if_neg h
def cw_sm (f : Nat → Nat) : Nat → Nat
  | 0 => 0
  | n + 1 => cw_sm f n + f n
theorem cw_sm1 (f : Nat → Nat) (n : Nat) : cw_sm f (n + 1) = cw_sm f n + f n := rfl
theorem cw_smA (f : Nat → Nat) (a : Nat) : ∀ b, cw_sm f (a + b) = cw_sm f a + cw_sm (fun j => f (a + j)) b := by
  intro b
  induction b with
  | zero => rfl
  | succ b ih => rw [← Nat.add_assoc, cw_sm1, cw_sm1, ih, Nat.add_assoc]
theorem cw_smE {f g : Nat → Nat} : ∀ n, (∀ j, j < n → f j = g j) → cw_sm f n = cw_sm g n := by
  intro n
  induction n with
  | zero => intro _; rfl
  | succ n ih => intro h; rw [cw_sm1, cw_sm1, ih (fun j hj => h j (by omega)), h n (by omega)]
theorem cw_smZ {f : Nat → Nat} {a : Nat} : ∀ b, a ≤ b → (∀ j, a ≤ j → j < b → f j = 0) → cw_sm f b = cw_sm f a := by
  intro b
  induction b with
  | zero => intro h _; rw [show a = 0 by omega]
  | succ b ih =>
    intro h hz
    by_cases e : a = b + 1
    · rw [e]
    · rw [cw_sm1, ih (by omega) (fun j h1 h2 => hz j h1 (by omega)), hz b (by omega) (by omega), Nat.add_zero]
theorem cw_sm0 {f : Nat → Nat} (b : Nat) (h : ∀ j, j < b → f j = 0) : cw_sm f b = 0 := cw_smZ (a := 0) b (Nat.zero_le _) (fun j _ hj => h j hj)
theorem cw_sm9 (f : Nat → Nat) : ∀ n, cw_sm f (9 * n) = cw_sm (fun i => cw_sm (fun j => f (9 * i + j)) 9) n := by
  intro n
  induction n with
  | zero => rfl
  | succ n ih => rw [Nat.mul_add, Nat.mul_one, cw_smA, ih]; rfl
def cw_tr (i j k p : Nat) : Nat := if p = 0 then i else if p = 1 then j else k
theorem cw_con3 {c : Nat → Nat} {K : Nat → Nat → Nat → Nat} (hK : cw_Clk c K) {i j k : Nat} : cw_Con c K (cw_tr i j k) ↔ i ≤ c 0 ∧ j ≤ c 1 ∧ k ≤ c 2 ∧ K 0 i 1 ≤ j ∧ K 0 i 2 ≤ k ∧ K 1 j 0 ≤ i ∧ K 1 j 2 ≤ k ∧ K 2 k 0 ≤ i ∧ K 2 k 1 ≤ j := by
  constructor
  · intro h
    have h0 := h 0 (by decide)
    have h1 := h 1 (by decide)
    have h2 := h 2 (by decide)
    exact ⟨h0.1, h1.1, h2.1, h0.2 1 (by decide), h0.2 2 (by decide), h1.2 0 (by decide), h1.2 2 (by decide), h2.2 0 (by decide), h2.2 1 (by decide)⟩
  · intro ⟨a0, a1, a2, a3, a4, a5, a6, a7, a8⟩ p hp
    rcases cw_c3 hp with rfl | rfl | rfl
    · refine ⟨a0, fun q hq => ?_⟩
      rcases cw_c3 hq with rfl | rfl | rfl
      · exact Nat.le_of_eq (hK.2.1 0 i (by decide) a0)
      · exact a3
      · exact a4
    · refine ⟨a1, fun q hq => ?_⟩
      rcases cw_c3 hq with rfl | rfl | rfl
      · exact a5
      · exact Nat.le_of_eq (hK.2.1 1 j (by decide) a1)
      · exact a6
    · refine ⟨a2, fun q hq => ?_⟩
      rcases cw_c3 hq with rfl | rfl | rfl
      · exact a7
      · exact a8
      · exact Nat.le_of_eq (hK.2.1 2 k (by decide) a2)
noncomputable def cw_T (c kn : Nat → Nat) (i j k : Nat) : Nat := cw_b (cw_Con c (cw_K kn) (cw_tr i j k))
/-- all the 729, in order, are the cuts of the component's three loops -/
theorem cw_729 {c kn : Nat → Nat} (hK : cw_Clk c (cw_K kn)) (h8 : ∀ q, q < 3 → c q ≤ 8) : cw_sm (fun x => cw_b (cw_Con c (cw_K kn) (cw_so x))) 729 = cw_sm (fun i => cw_sm (fun j => cw_sm (cw_T c kn i j) (c 2 + 1)) (c 1 + 1)) (c 0 + 1) := by
  have h80 := h8 0 (by decide)
  have h81 := h8 1 (by decide)
  have h82 := h8 2 (by decide)
  rw [show 729 = 9 * 81 from rfl, cw_sm9, show 81 = 9 * 9 from rfl, cw_sm9]
  have e : ∀ i j, j < 9 → cw_sm (fun k => cw_b (cw_Con c (cw_K kn) (cw_so (9 * (9 * i + j) + k)))) 9 = cw_sm (cw_T c kn i j) (c 2 + 1) := by
    intro i j hj
    rw [cw_smE (g := cw_T c kn i j) 9 (fun k hk => ?_)]
    · exact cw_smZ 9 (by omega) (fun k h1 _ => cw_bf fun hc => by have := ((cw_con3 hK).mp hc).2.2.1; omega)
    · have he : ∀ p, p < 3 → cw_so (9 * (9 * i + j) + k) p = cw_tr i j k p := by
        intro p hp
        rcases cw_c3 hp with rfl | rfl | rfl
        · show (9 * (9 * i + j) + k) / 81 = i
          omega
        · show (9 * (9 * i + j) + k) / 9 % 9 = j
          omega
        · show (9 * (9 * i + j) + k) % 9 = k
          omega
      unfold cw_T
      by_cases hc : cw_Con c (cw_K kn) (cw_tr i j k)
      · rw [cw_bt hc, cw_bt (cw_conE (fun p hp => (he p hp).symm) hc)]
      · rw [cw_bf hc, cw_bf (fun hh => hc (cw_conE he hh))]
  rw [cw_smE (g := fun i => cw_sm (fun j => cw_sm (cw_T c kn i j) (c 2 + 1)) (c 1 + 1)) 9 (fun i hi => ?_)]
  · exact cw_smZ 9 (by omega) (fun i h1 _ => cw_sm0 _ fun j _ => cw_sm0 _ fun k _ => cw_bf fun hc => by have := ((cw_con3 hK).mp hc).1; omega)
  · rw [cw_smE (g := fun j => cw_sm (cw_T c kn i j) (c 2 + 1)) 9 (fun j hj => e i j hj)]
    exact cw_smZ 9 (by omega) (fun j h1 _ => cw_sm0 _ fun k _ => cw_bf fun hc => by have := ((cw_con3 hK).mp hc).2.1; omega)
section
variable {fm : Int32} {g as ai ar av : Nat → Int32} {c kn : Nat → Nat}
theorem cw_Yc4 {post : Int32 → Prop} (hB : ∀ p k q, p < 3 → q < 3 → k ≤ c p → cw_K kn p k q ≤ 8) (hc : ∀ p, p < 3 → c p ≤ 8) (H : post (nI (cw_sm (fun x => cw_b (cw_Con c (cw_K kn) (cw_so x))) 729))) :
    ∀ n x, x ≤ 729 → 729 < n + x → wY_cuts_4 post fm (cw_lf c) g (cw_lf kn) as ai ar av n (nI (cw_sm (fun x => cw_b (cw_Con c (cw_K kn) (cw_so x))) x)) (nI x) := by
  intro n
  induction n with
  | zero => intro q a b; omega
  | succ n ih =>
    intro x hx hn
    refine pk_le 729 x (fun h3 => ?_) (fun h3 => ?_)
    · have e : x = 729 := by omega
      subst e
      exact H
    · have ih' := ih (x + 1) (by omega) (by omega)
      rw [cw_sm1] at ih'
      refine cw_Ypos h3 hB hc (fun hcon => ?_) (fun hcon => ?_)
      · rw [cw_bt hcon] at ih'
        exact br_f (by decide) (nm_r (nI_1 _) (nm_r (nI_1 x) ih'))
      · rw [cw_bf hcon, Nat.add_zero] at ih'
        exact br_t rfl (nm_r (nI_1 x) ih')
end
section
variable {fm : Int32} {g as ai ar au af ao : Nat → Int32} {c kn : Nat → Nat} {i j : Nat}
theorem cw_Xt38 {post : Int32 → Prop} (hK : cw_Clk c (cw_K kn)) (h8 : ∀ q, q < 3 → c q ≤ 8) (hi : i ≤ c 0) (hj : j ≤ c 1) (h01 : cw_K kn 0 i 1 ≤ j) (h10 : cw_K kn 1 j 0 ≤ i) (H : post (nI (cw_sm (cw_T c kn i j) (c 2 + 1)))) :
    ∀ n k, k ≤ c 2 + 1 → c 2 + 1 < n + k → cw_K kn 0 i 2 ≤ k → cw_K kn 1 j 2 ≤ k → wX_thirdStates_38 post (nI i) (nI j) fm (cw_lf c) g (cw_lf kn) as ai ar au af ao n (nI (cw_sm (cw_T c kn i j) k)) (nI k) := by
  intro n
  induction n with
  | zero => intro q a b; omega
  | succ n ih =>
    intro k hk hn hl1 hl2
    have h80 := h8 0 (by decide)
    have h81 := h8 1 (by decide)
    have h82 := h8 2 (by decide)
    refine pk_lt (c 2) k (fun h3 => ?_) (fun h3 => ?_)
    · have e : k = c 2 + 1 := by omega
      subst e
      exact H
    · have ih' := ih (k + 1) (by omega) (by omega) (by omega) (by omega)
      rw [cw_sm1] at ih'
      have b0 := hK.2.2.2.1 2 k 0 (by decide) (by decide) h3
      have b1 := hK.2.2.2.1 2 k 1 (by decide) (by decide) h3
      refine cw_Xkb (p := 2) (q := 0) (by decide) (by omega) (by decide) (pk_lt i (cw_K kn 2 k 0) (fun hl => ?_) (fun hl => ?_))
      · rw [show cw_T c kn i j k = 0 from cw_bf fun hc => by have := ((cw_con3 hK).mp hc).2.2.2.2.2.2.2.1; omega, Nat.add_zero] at ih'
        exact nm_r (Int32.add_zero _) (nm_r (nI_1 k) ih')
      · refine cw_Xkb (p := 2) (q := 1) (by decide) (by omega) (by decide) (pk_lt j (cw_K kn 2 k 1) (fun hl' => ?_) (fun hl' => ?_))
        · rw [show cw_T c kn i j k = 0 from cw_bf fun hc => by have := ((cw_con3 hK).mp hc).2.2.2.2.2.2.2.2; omega, Nat.add_zero] at ih'
          exact nm_r (Int32.add_zero _) (nm_r (nI_1 k) ih')
        · rw [show cw_T c kn i j k = 1 from cw_bt ((cw_con3 hK).mpr ⟨hi, hj, h3, h01, hl1, h10, hl2, hl, hl'⟩)] at ih'
          exact nm_r (nI_1 _) (nm_r (nI_1 k) ih')
theorem cw_Xts {post : Int32 → Prop} (hK : cw_Clk c (cw_K kn)) (h8 : ∀ q, q < 3 → c q ≤ 8) (hi : i ≤ c 0) (hj : j ≤ c 1) (h01 : cw_K kn 0 i 1 ≤ j) (h10 : cw_K kn 1 j 0 ≤ i) (H : post (nI (cw_sm (cw_T c kn i j) (c 2 + 1)))) :
    wpX_thirdStates post (fm, cw_lf c, g, cw_lf kn, as, ai, ar, au, af, ao) (nI i) (nI j) := by
  have h80 := h8 0 (by decide)
  have h81 := h8 1 (by decide)
  have h82 := h8 2 (by decide)
  have b0 := hK.2.2.2.1 0 i 2 (by decide) (by decide) hi
  have b1 := hK.2.2.2.1 1 j 2 (by decide) (by decide) hj
  unfold wpX_thirdStates
  dsimp only
  refine cw_Xkb (p := 0) (q := 2) (by decide) (by omega) (by decide) (cw_Xkb (p := 1) (q := 2) (by decide) (by omega) (by decide) (pk_le (cw_K kn 0 i 2) (cw_K kn 1 j 2) (fun hl => ⟨c 2 + 2, ?_⟩) (fun hl => ⟨c 2 + 2, ?_⟩)))
  · have h := cw_Xt38 (fm := fm) (g := g) (as := as) (ai := ai) (ar := ar) (au := au) (af := af) (ao := ao) hK h8 hi hj h01 h10 H (c 2 + 2) (cw_K kn 1 j 2) (by omega) (by omega) hl (Nat.le_refl _)
    rw [cw_sm0 (f := cw_T c kn i j) (cw_K kn 1 j 2) (fun k hk => cw_bf fun hc => by have := ((cw_con3 hK).mp hc).2.2.2.2.2.2.1; omega)] at h
    exact h
  · have h := cw_Xt38 (fm := fm) (g := g) (as := as) (ai := ai) (ar := ar) (au := au) (af := af) (ao := ao) hK h8 hi hj h01 h10 H (c 2 + 2) (cw_K kn 0 i 2) (by omega) (by omega) (Nat.le_refl _) (by omega)
    rw [cw_sm0 (f := cw_T c kn i j) (cw_K kn 0 i 2) (fun k hk => cw_bf fun hc => by have := ((cw_con3 hK).mp hc).2.2.2.2.1; omega)] at h
    exact h
theorem cw_Xc16 {post : Int32 → Prop} {J4 : Int32 → Int32 → Prop} {a : Nat} (hK : cw_Clk c (cw_K kn)) (h8 : ∀ q, q < 3 → c q ≤ 8) (hi : i ≤ c 0) (H : J4 (nI (a + cw_sm (fun j => cw_sm (cw_T c kn i j) (c 2 + 1)) (c 1 + 1))) (nI (i + 1))) :
    ∀ n j, j ≤ c 1 + 1 → c 1 + 1 < n + j → wX_cuts_16 post J4 (nI i) fm (cw_lf c) g (cw_lf kn) as ai ar au af ao n (nI (a + cw_sm (fun j => cw_sm (cw_T c kn i j) (c 2 + 1)) j)) (nI j) := by
  intro n
  induction n with
  | zero => intro q a b; omega
  | succ n ih =>
    intro j hj hn
    have h80 := h8 0 (by decide)
    have h81 := h8 1 (by decide)
    refine pk_lt (c 1) j (fun h3 => ?_) (fun h3 => ?_)
    · have e : j = c 1 + 1 := by omega
      subst e
      exact nm_r (nI_1 i) H
    · have ih' := ih (j + 1) (by omega) (by omega)
      rw [cw_sm1, ← Nat.add_assoc] at ih'
      have b0 := hK.2.2.2.1 0 i 1 (by decide) (by decide) hi
      have b1 := hK.2.2.2.1 1 j 0 (by decide) (by decide) h3
      refine cw_Xkb (p := 0) (q := 1) (by decide) (by omega) (by decide) (pk_lt j (cw_K kn 0 i 1) (fun hl => ?_) (fun hl => ?_))
      · rw [cw_sm0 (f := cw_T c kn i j) _ (fun k hk => cw_bf fun hc => by have := ((cw_con3 hK).mp hc).2.2.2.1; omega), Nat.add_zero] at ih'
        exact nm_r (nI_1 j) ih'
      · refine cw_Xkb (p := 1) (q := 0) (by decide) (by omega) (by decide) (pk_lt i (cw_K kn 1 j 0) (fun hl' => ?_) (fun hl' => ?_))
        · rw [cw_sm0 (f := cw_T c kn i j) _ (fun k hk => cw_bf fun hc => by have := ((cw_con3 hK).mp hc).2.2.2.2.2.1; omega), Nat.add_zero] at ih'
          exact nm_r (nI_1 j) ih'
        · exact cw_Xts hK h8 hi h3 hl hl' (nm_r (nI_add _ _) (nm_r (nI_1 j) ih'))
theorem cw_Xc4 {post : Int32 → Prop} (hK : cw_Clk c (cw_K kn)) (h8 : ∀ q, q < 3 → c q ≤ 8) (H : post (nI (cw_sm (fun i => cw_sm (fun j => cw_sm (cw_T c kn i j) (c 2 + 1)) (c 1 + 1)) (c 0 + 1)))) :
    ∀ n i, i ≤ c 0 + 1 → c 0 + 1 < n + i → wX_cuts_4 post fm (cw_lf c) g (cw_lf kn) as ai ar au af ao n (nI (cw_sm (fun i => cw_sm (fun j => cw_sm (cw_T c kn i j) (c 2 + 1)) (c 1 + 1)) i)) (nI i) := by
  intro n
  induction n with
  | zero => intro q a b; omega
  | succ n ih =>
    intro i hi hn
    have h80 := h8 0 (by decide)
    refine pk_lt (c 0) i (fun h3 => ?_) (fun h3 => ⟨c 1 + 2, ?_⟩)
    · have e : i = c 0 + 1 := by omega
      subst e
      exact H
    · have ih' := ih (i + 1) (by omega) (by omega)
      rw [cw_sm1] at ih'
      exact cw_Xc16 hK h8 h3 ih' (c 1 + 2) 0 (by omega) (by omega)
end
theorem i_vc_cuts {k : Nat} {u : SX} {v : SY} (I : i_Rel k u v) (hk : k + 4 ≤ 2048) : wpX_cuts (fun r => wpY_cuts (fun r' => r' = r ∧ i_Rel (k + 4) u v) v) u := by
  refine cw_el (P := fun u v => wpX_cuts (fun r => wpY_cuts (fun r' => r' = r ∧ i_Rel (k + 4) u v) v) u) ?_ I
  intro m c g kn sd si rv cu fr tt av hI
  have hB : ∀ p k q, p < 3 → q < 3 → k ≤ c p → cw_K kn p k q ≤ 8 := fun p k q hp hq hk => cw_invB hI hp hq hk
  refine ⟨c 0 + 2, cw_Xc4 hI.1 hI.2.1 ?_ (c 0 + 2) 0 (by omega) (by omega)⟩
  exact ⟨730, cw_Yc4 hB hI.2.1 ⟨congrArg nI (cw_729 hI.1 hI.2.1), cw_in hI⟩ 730 0 (by omega) (by omega)⟩
end
section
/-! the reference's avoided cuts -/
def cw_un (p : Nat) : Nat := if p = 0 then 81 else if p = 1 then 9 else 1
theorem cw_unL {x p : Nat} (hp : p < 3) (h : 0 < cw_so x p) : 1 ≤ cw_un p ∧ cw_un p ≤ x := by
  rcases cw_c3 hp with rfl | rfl | rfl
  · rw [cw_so0] at h
    show 1 ≤ 81 ∧ 81 ≤ x
    omega
  · rw [cw_so1] at h
    show 1 ≤ 9 ∧ 9 ≤ x
    omega
  · rw [cw_so2] at h
    show 1 ≤ 1 ∧ 1 ≤ x
    omega
def cw_R (av : Nat → Int32) (x : Nat) : Prop := x = 0 ∨ ∃ p, p < 3 ∧ 0 < cw_so x p ∧ ¬ av (x - cw_un p) = 0
theorem cw_Rc {av bv : Nat → Int32} {x i : Nat} (h : ∀ j, j < x → bv j = av j) (hi : i ≤ x) : cw_R bv i ↔ cw_R av i := by
  have key : ∀ {av bv : Nat → Int32}, (∀ j, j < x → bv j = av j) → cw_R bv i → cw_R av i := by
    intro av bv h hr
    rcases hr with h0 | ⟨p, hp, h1, h2⟩
    · exact Or.inl h0
    · have := cw_unL hp h1
      rw [h _ (by omega)] at h2
      exact Or.inr ⟨p, hp, h1, h2⟩
  exact ⟨key h, key (fun j hj => (h j hj).symm)⟩
section
variable {fm : Int32} {g as ai ar av : Nat → Int32} {c kn : Nat → Nat}
theorem cw_Yr33 {post J8 : Int32 → Prop} {x p : Nat} {z0 : Int32} (hx : x < 729) (hp : p < 3) (hz : z0 = nI (cw_un p)) (h1 : 0 < cw_so x p → ¬ av (x - cw_un p) = 0 → post 1) (hJ : ¬ (0 < cw_so x p ∧ ¬ av (x - cw_un p) = 0) → J8 (nI (p + 1))) :
    wY_reached_33 post J8 (nI x) (nI p) z0 fm (cw_lf c) g (cw_lf kn) as ai ar av := by
  unfold wY_reached_33
  have hs8 := cw_soB hx hp
  refine cw_Yso hx hp (pk_le (cw_so x p) 0 (fun hl => ?_) (fun hl => ?_))
  · exact nm_r (nI_1 p) (hJ fun hh => by omega)
  · have hu := cw_unL hp hl
    have e : nI x - z0 = nI (x - cw_un p) := by rw [hz, pk_sub hu.2]
    refine And.intro (pk_in _ 729 (by omega) e) ?_
    rw [pk_cl _ e (by omega)]
    by_cases hv : av (x - cw_un p) = 0
    · exact br_t hv (nm_r (nI_1 p) (hJ fun hh => hh.2 hv))
    · exact br_f hv (h1 hl hv)
theorem cw_Yr8 {post : Int32 → Prop} {x : Nat} (hx : x < 729) (h1 : (∃ p, p < 3 ∧ 0 < cw_so x p ∧ ¬ av (x - cw_un p) = 0) → post 1) (h0 : ¬ (∃ p, p < 3 ∧ 0 < cw_so x p ∧ ¬ av (x - cw_un p) = 0) → post 0) :
    ∀ n p, p ≤ 3 → 3 < n + p → (∀ j, j < p → ¬ (0 < cw_so x j ∧ ¬ av (x - cw_un j) = 0)) → wY_reached_8 post (nI x) fm (cw_lf c) g (cw_lf kn) as ai ar av n (nI p) := by
  intro n
  induction n with
  | zero => intro q a b; omega
  | succ n ih =>
    intro p hp hn hj
    refine pk_le 3 p (fun h3 => ?_) (fun h3 => ?_)
    · exact h0 fun ⟨q, hq, hh⟩ => hj q (by omega) hh
    · have go : ∀ z0, z0 = nI (cw_un p) → wY_reached_33 post (wY_reached_8 post (nI x) fm (cw_lf c) g (cw_lf kn) as ai ar av n) (nI x) (nI p) z0 fm (cw_lf c) g (cw_lf kn) as ai ar av := by
        intro z0 hz
        refine cw_Yr33 hx h3 hz (fun a b => h1 ⟨p, h3, a, b⟩) (fun hh => ih (p + 1) (by omega) (by omega) (fun j hj' => ?_))
        by_cases e : j = p
        · rw [e]; exact hh
        · exact hj j (by omega)
      rcases cw_c3 h3 with rfl | rfl | rfl
      · exact br_t rfl (go 81 rfl)
      · exact br_f (by decide) (br_t rfl (go 9 rfl))
      · exact br_f (by decide) (br_f (by decide) (go 1 rfl))
theorem cw_Yre {post : Int32 → Prop} {x : Nat} (hx : x < 729) (h1 : cw_R av x → post 1) (h0 : ¬ cw_R av x → post 0) : wpY_reached post (fm, cw_lf c, g, cw_lf kn, as, ai, ar, av) (nI x) := by
  unfold wpY_reached
  dsimp only
  refine pk_eq x 0 (fun e => h1 (Or.inl e)) (fun e => ⟨4, ?_⟩)
  refine cw_Yr8 hx (fun hh => h1 (Or.inr hh)) (fun hh => h0 fun hr => ?_) 4 0 (by omega) (by omega) (fun j hj => absurd hj (by omega))
  rcases hr with hr | hr
  · exact e hr
  · exact hh hr
end
def cw_DI (c kn : Nat → Nat) (s : Nat) (g : Nat → Int32) (av : Nat → Int32) (x : Nat) : Prop := ∀ i, i < x → (¬ av i = 0 ↔ cw_Con c (cw_K kn) (cw_so i) ∧ ¬ cw_Good (cw_S s) (cw_G g) (cw_so i) ∧ cw_R av i)
theorem cw_DIs {c kn : Nat → Nat} {s : Nat} {g av : Nat → Int32} {x : Nat} {b : Int32} (h : cw_DI c kn s g av x) (hb : ¬ b = 0 ↔ cw_Con c (cw_K kn) (cw_so x) ∧ ¬ cw_Good (cw_S s) (cw_G g) (cw_so x) ∧ cw_R av x) : cw_DI c kn s g (upd av x b) (x + 1) := by
  have hu : ∀ j, j < x → upd av x b j = av j := fun j hj => pk_un (by omega)
  intro i hi
  rw [cw_Rc hu (by omega)]
  by_cases e : i = x
  · subst e
    rw [pk_us]
    exact hb
  · rw [pk_un e]
    exact h i (by omega)
section
variable {m : Nat} {g rv : Nat → Int32} {c kn sd si : Nat → Nat} {s : Nat}
theorem cw_Yd11 {post : Int32 → SY → Prop} (hs : s < 8) (hB : ∀ p k q, p < 3 → q < 3 → k ≤ c p → cw_K kn p k q ≤ 8) (hc : ∀ p, p < 3 → c p ≤ 8)
    (H : ∀ av, cw_DI c kn s g av 729 → (av (cw_ix c) = 0 → post 1 (cw_Y m c g kn sd si rv av)) ∧ (¬ av (cw_ix c) = 0 → post 0 (cw_Y m c g kn sd si rv av))) :
    ∀ n x av, x ≤ 729 → 729 < n + x → cw_DI c kn s g av x → wY_definitely_11 post (nI s) (nI m) n (nI x) (cw_lf c) g (cw_lf kn) (cw_lf sd) (cw_lf si) rv av := by
  intro n
  induction n with
  | zero => intro q av a b; omega
  | succ n ih =>
    intro x av hx hn hD
    refine pk_le 729 x (fun h3 => ?_) (fun h3 => ?_)
    · have e : x = 729 := by omega
      subst e
      have hixB := cw_ixB hc
      have e1 : 81 * cw_lf c 0 + 9 * cw_lf c 1 + cw_lf c 2 = nI (cw_ix c) := by
        show 81 * nI (c 0) + 9 * nI (c 1) + nI (c 2) = nI (81 * c 0 + 9 * c 1 + c 2)
        rw [cw_m9, show 81 * nI (c 0) = nI (81 * c 0) from pk_mul 81 (c 0), nI_add, nI_add]
      refine nm_r e1 (And.intro (pk_in _ 729 hixB) ?_)
      rw [pk_cl (cw_ix c) rfl (by omega)]
      exact H av hD
    · have hin : vp_in (nI x) 729 := pk_in x 729 h3
      have ex : (nI x).toNatClampNeg = x := pk_cl x rfl (by omega)
      have go : ∀ b, (¬ b = 0 ↔ cw_Con c (cw_K kn) (cw_so x) ∧ ¬ cw_Good (cw_S s) (cw_G g) (cw_so x) ∧ cw_R av x) → wY_definitely_11 post (nI s) (nI m) n (nI (x + 1)) (cw_lf c) g (cw_lf kn) (cw_lf sd) (cw_lf si) rv (upd av x b) := fun b hb => ih (x + 1) _ (by omega) (by omega) (cw_DIs hD hb)
      have u0 : upd av (nI x).toNatClampNeg (vp_nar .boolean 0) = upd av x 0 := by rw [ex, cw_b0]
      have u1 : upd av (nI x).toNatClampNeg (vp_nar .boolean 1) = upd av x 1 := by rw [ex, cw_b1]
      refine cw_Ypos h3 hB hc (fun hcon => ?_) (fun hcon => ?_)
      · refine br_f (by decide) (cw_Ygood h3 hs (fun hg => ?_) (fun hg => ?_))
        · exact br_f (by decide) (And.intro hin (nm_r u0 (nm_r (nI_1 x) (go 0 ⟨fun h => absurd rfl h, fun h => absurd hg h.2.1⟩))))
        · refine br_t rfl (cw_Yre h3 (fun hr => ?_) (fun hr => ?_))
          · exact br_f (by decide) (And.intro hin (nm_r u1 (nm_r (nI_1 x) (go 1 ⟨fun _ => ⟨hcon, hg, hr⟩, fun _ => by decide⟩))))
          · exact br_t rfl (And.intro hin (nm_r u0 (nm_r (nI_1 x) (go 0 ⟨fun h => absurd rfl h, fun h => absurd h.2.2 hr⟩))))
      · exact br_t rfl (And.intro hin (nm_r u0 (nm_r (nI_1 x) (go 0 ⟨fun h => absurd rfl h, fun h => absurd h.1 hcon⟩))))
end
theorem cw_ixu {d : Nat → Nat} {p : Nat} (hp : p < 3) (h0 : 0 < d p) : cw_ix (cw_up d p (d p - 1)) = cw_ix d - cw_un p := by
  unfold cw_ix
  rcases cw_c3 hp with rfl | rfl | rfl
  · rw [cw_ups, cw_upn (by decide), cw_upn (by decide)]
    show _ = _ - 81
    omega
  · rw [cw_ups, cw_upn (by decide), cw_upn (by decide)]
    show _ = _ - 9
    omega
  · rw [cw_ups, cw_upn (by decide), cw_upn (by decide)]
    show _ = _ - 1
    omega
theorem cw_isAv {c kn : Nat → Nat} {s : Nat} {g av : Nat → Int32} (h8 : ∀ p, p < 3 → c p ≤ 8) (hD : cw_DI c kn s g av 729) : cw_Av c (cw_K kn) (cw_S s) (cw_G g) (fun d => cw_Con c (cw_K kn) d ∧ ¬ av (cw_ix d) = 0) := by
  have hb : ∀ {d}, cw_Con c (cw_K kn) d → ∀ p, p < 3 → d p ≤ 8 := fun hd p hp => Nat.le_trans (hd p hp).1 (h8 p hp)
  refine ⟨fun d e h ⟨hc, ha⟩ => ⟨cw_conE h hc, ?_⟩, fun d ⟨hc, ha⟩ => ?_, fun d hc hg hz => ⟨hc, ?_⟩⟩
  · have e1 : cw_ix e = cw_ix d := by
      unfold cw_ix
      rw [h 0 (by decide), h 1 (by decide), h 2 (by decide)]
    rw [e1]; exact ha
  · have he := cw_soix (hb hc)
    have hB := cw_ixB (hb hc)
    obtain ⟨_, ng, hr⟩ := (hD _ hB).mp ha
    refine ⟨hc, fun hg => ng (cw_goodE (fun p hp => (he p hp).symm) hg), ?_⟩
    rcases hr with h0 | ⟨p, hp, h1, h2⟩
    · refine Or.inl fun p hp => ?_
      have h0' : 81 * d 0 + 9 * d 1 + d 2 = 0 := h0
      rcases cw_c3 hp with rfl | rfl | rfl <;> omega
    · rw [he p hp] at h1
      rw [← cw_ixu hp h1] at h2
      refine Or.inr ⟨p, hp, h1, ?_, h2⟩
      have hle : ∀ q, q < 3 → cw_up d p (d p - 1) q ≤ 8 := by
        intro q hq
        have := hb hc q hq
        by_cases e : q = p
        · subst e; rw [cw_ups]; omega
        · rw [cw_upn e]; exact this
      exact cw_conE (cw_soix hle) ((hD _ (cw_ixB hle)).mp h2).1
  · have he := cw_soix (hb hc)
    have hB := cw_ixB (hb hc)
    refine (hD _ hB).mpr ⟨cw_conE (fun p hp => (he p hp).symm) hc, fun h => hg (cw_goodE he h), ?_⟩
    rcases hz with h0 | ⟨p, hp, h1, _, h2⟩
    · refine Or.inl ?_
      unfold cw_ix
      rw [h0 0 (by decide), h0 1 (by decide), h0 2 (by decide)]
    · rw [cw_ixu hp h1] at h2
      exact Or.inr ⟨p, hp, by rw [he p hp]; exact h1, h2⟩
end
section
/-! the component's stretches -/
def cw_St (c : Nat → Nat) (g : Nat → Int32) (p F T : Nat) : Prop := F ≤ T ∧ T ≤ c p ∧ (∀ k, F ≤ k → k ≤ T → cw_G g p k) ∧ (T = c p ∨ ¬ cw_G g p (T + 1))
section
variable {m : Nat} {g rv : Nat → Int32} {c kn sd si cu fr tt : Nat → Nat} {p : Nat}
theorem cw_Xn51b {post : Int32 → SX → Prop} {F : Nat} (hp : p < 3) (hc : c p ≤ 8) (H : ∀ T, cw_St c g p F T → post 1 (cw_X m c g kn sd si rv cu fr (cw_up tt p T))) :
    ∀ n k, F ≤ k → k ≤ c p → c p < n + k → (∀ j, F ≤ j → j ≤ k → cw_G g p j) → wX_nextStretch_51 post (nI p) (nI m) (cw_lf c) g (cw_lf kn) (cw_lf sd) (cw_lf si) rv (cw_lf cu) (cw_lf fr) (cw_lf tt) n (nI k) := by
  intro n
  induction n with
  | zero => intro k a b d; omega
  | succ n ih =>
    intro k hF hk hn hG
    have hin := cw_p3 hp
    have et : upd (cw_lf tt) (nI p).toNatClampNeg (nI k) = cw_lf (cw_up tt p k) := by rw [pk_cl p rfl, cw_lfu]
    refine And.intro hin (pk_le (c p) k (fun hl => ?_) (fun hl => ?_) (cw_a3 hp))
    · exact And.intro hin (nm_r et (H k ⟨hF, hk, hG, Or.inl (by omega)⟩))
    · have ei : 9 * nI p + nI k + 1 = nI (9 * p + (k + 1)) := by rw [cw_i9, nI_1, Nat.add_assoc]
      refine And.intro (pk_in _ 27 (by omega) ei) ?_
      rw [pk_cl _ ei (by omega)]
      by_cases hz : g (9 * p + (k + 1)) = 0
      · exact br_t hz (And.intro hin (nm_r et (H k ⟨hF, hk, hG, Or.inr fun hh => hh hz⟩)))
      · refine br_f hz (nm_r (nI_1 k) (ih (k + 1) (by omega) (by omega) (by omega) (fun j h1 h2 => ?_)))
        by_cases e : j = k + 1
        · rw [e]; exact hz
        · exact hG j h1 (by omega)
theorem cw_Xn32 {post : Int32 → SX → Prop} {s0 k : Nat} (hp : p < 3) (hc : c p ≤ 8) (hk : s0 ≤ k) (hk2 : k ≤ c p + 1) (hno : ∀ j, s0 ≤ j → j < k → ¬ cw_G g p j) (hG : k ≤ c p → cw_G g p k)
    (h0 : (∀ j, s0 ≤ j → j ≤ c p → ¬ cw_G g p j) → post 0 (cw_X m c g kn sd si rv cu fr tt))
    (h1 : ∀ F T, s0 ≤ F → (∀ j, s0 ≤ j → j < F → ¬ cw_G g p j) → cw_St c g p F T → post 1 (cw_X m c g kn sd si rv cu (cw_up fr p F) (cw_up tt p T))) :
    wX_nextStretch_32 post (nI p) (nI k) (nI m) (cw_lf c) g (cw_lf kn) (cw_lf sd) (cw_lf si) rv (cw_lf cu) (cw_lf fr) (cw_lf tt) := by
  have hin := cw_p3 hp
  unfold wX_nextStretch_32
  refine And.intro hin (pk_le k (c p) (fun hl => ?_) (fun hl => ?_) rfl (cw_a3 hp))
  · refine And.intro hin (nm_r (e' := cw_lf (cw_up fr p k)) (by rw [pk_cl p rfl, cw_lfu]) ⟨c p + 1, ?_⟩)
    refine cw_Xn51b (F := k) hp hc (fun T hT => h1 k T hk hno hT) _ k (Nat.le_refl _) hl (by omega) (fun j a b => ?_)
    rw [show j = k by omega]; exact hG hl
  · exact h0 fun j a b => hno j a (by omega)
theorem cw_Xn2 {post : Int32 → SX → Prop} {s0 : Nat} (hp : p < 3) (hc : c p ≤ 8)
    (h0 : (∀ j, s0 ≤ j → j ≤ c p → ¬ cw_G g p j) → post 0 (cw_X m c g kn sd si rv cu fr tt))
    (h1 : ∀ F T, s0 ≤ F → (∀ j, s0 ≤ j → j < F → ¬ cw_G g p j) → cw_St c g p F T → post 1 (cw_X m c g kn sd si rv cu (cw_up fr p F) (cw_up tt p T))) :
    ∀ n k, s0 ≤ k → k ≤ c p + 1 → c p + 1 < n + k → (∀ j, s0 ≤ j → j < k → ¬ cw_G g p j) → wX_nextStretch_2 post (nI p) (nI m) (cw_lf c) g (cw_lf kn) (cw_lf sd) (cw_lf si) rv (cw_lf cu) (cw_lf fr) (cw_lf tt) n (nI k) := by
  intro n
  induction n with
  | zero => intro k a b d; omega
  | succ n ih =>
    intro k hk hk2 hn hno
    refine And.intro (cw_p3 hp) (pk_lt (c p) k (fun hl => ?_) (fun hl => ?_) (cw_a3 hp))
    · exact cw_Xn32 hp hc hk hk2 hno (fun hh => absurd hh (by omega)) h0 h1
    · refine And.intro (pk_in _ 27 (by omega) (cw_i9 p k)) ?_
      rw [pk_cl _ (cw_i9 p k) (by omega)]
      by_cases hz : g (9 * p + k) = 0
      · refine br_t hz (nm_r (nI_1 k) (ih (k + 1) (by omega) (by omega) (by omega) (fun j a b => ?_)))
        by_cases e : j = k
        · rw [e]; exact fun hh => hh hz
        · exact hno j a (by omega)
      · exact br_f hz (cw_Xn32 hp hc hk hk2 hno (fun _ => hz) h0 h1)
theorem cw_Xnx {post : Int32 → SX → Prop} {s0 : Nat} (hp : p < 3) (hc : c p ≤ 8) (hs0 : s0 ≤ c p + 1)
    (h0 : (∀ j, s0 ≤ j → j ≤ c p → ¬ cw_G g p j) → post 0 (cw_X m c g kn sd si rv cu fr tt))
    (h1 : ∀ F T, s0 ≤ F → (∀ j, s0 ≤ j → j < F → ¬ cw_G g p j) → cw_St c g p F T → post 1 (cw_X m c g kn sd si rv cu (cw_up fr p F) (cw_up tt p T))) :
    wpX_nextStretch post (cw_X m c g kn sd si rv cu fr tt) (nI p) (nI s0) :=
  ⟨c p + 2, cw_Xn2 hp hc h0 h1 (c p + 2) s0 (Nat.le_refl _) hs0 (by omega) (fun j a b => absurd a (by omega))⟩
end
/-! which stretch may end too early -/
def cw_Bad (c kn : Nat → Nat) (s : Nat) (fr tt : Nat → Nat) (p q : Nat) : Prop := p ≠ q ∧ cw_S s p ∧ cw_S s q ∧ tt p < c p ∧ cw_K kn p (tt p + 1) q < fr q
section
variable {fm : Int32} {g as ai ar au : Nat → Int32} {c kn fr tt : Nat → Nat} {s p : Nat}
theorem cw_Xe9 {post J2 : Int32 → Prop} (hK : cw_Clk c (cw_K kn)) (h8 : ∀ q, q < 3 → c q ≤ 8) (hT : ∀ q, q < 3 → cw_S s q → tt q ≤ c q ∧ fr q ≤ c q) (hs : s < 8) (hp : p < 3) (h1 : ∀ q, q < 3 → cw_Bad c kn s fr tt p q → post (nI p)) (hJ : (∀ q, q < 3 → ¬ cw_Bad c kn s fr tt p q) → J2 (nI (p + 1))) :
    ∀ n q, q ≤ 3 → 3 < n + q → (∀ j, j < q → ¬ cw_Bad c kn s fr tt p j) → wX_tooEarly_9 post J2 (nI s) (nI p) fm (cw_lf c) g (cw_lf kn) as ai ar au (cw_lf fr) (cw_lf tt) n (nI q) := by
  intro n
  induction n with
  | zero => intro q a b; omega
  | succ n ih =>
    intro q hq hn hj
    refine pk_le 3 q (fun h3 => ?_) (fun h3 => ?_)
    · exact nm_r (nI_1 p) (hJ fun q' hq' => hj q' (by omega))
    · have go : ¬ cw_Bad c kn s fr tt p q → wX_tooEarly_9 post J2 (nI s) (nI p) fm (cw_lf c) g (cw_lf kn) as ai ar au (cw_lf fr) (cw_lf tt) n (nI (q + 1)) := by
        intro hb
        refine ih (q + 1) (by omega) (by omega) (fun j hj' => ?_)
        by_cases e : j = q
        · rw [e]; exact hb
        · exact hj j (by omega)
      have go39 : ¬ cw_Bad c kn s fr tt p q → wX_tooEarly_39 post J2 (wX_tooEarly_9 post J2 (nI s) (nI p) fm (cw_lf c) g (cw_lf kn) as ai ar au (cw_lf fr) (cw_lf tt) n) (nI s) (nI p) (nI q) fm (cw_lf c) g (cw_lf kn) as ai ar au (cw_lf fr) (cw_lf tt) := by
        intro hb
        unfold wX_tooEarly_39 wX_tooEarly_40
        exact br_t rfl (nm_r (nI_1 q) (go hb))
      refine pk_eq p q (fun e => ?_) (fun e => ?_)
      · exact go39 fun hb => hb.1 e
      · refine cw_brX hs hp (fun sp => go39 fun hb => sp hb.2.1) (fun sp => ?_)
        refine cw_brX hs h3 (fun sq => go39 fun hb => sq hb.2.2.1) (fun sq => ?_)
        have hTp := hT p hp sp
        have hTq := hT q h3 sq
        have h8p := h8 p hp
        have h8q := h8 q h3
        have hin := cw_p3 hp
        unfold wX_tooEarly_40
        refine br_f (by decide) (And.intro hin (And.intro hin (pk_le (c p) (tt p) (fun hl => ?_) (fun hl => ?_) (cw_a3 hp) (cw_a3 hp))))
        · exact nm_r (nI_1 q) (go fun hb => absurd hb.2.2.2.1 (by omega))
        · refine And.intro hin ?_
          rw [cw_a3 hp, nI_1 (tt p)]
          have hb8 := hK.2.2.2.1 p (tt p + 1) q hp h3 hl
          refine cw_Xkb hp (by omega) h3 (And.intro (cw_p3 h3) (pk_le (fr q) (cw_K kn p (tt p + 1) q) (fun hl2 => ?_) (fun hl2 => ?_) (cw_a3 h3)))
          · exact nm_r (nI_1 q) (go fun hb => absurd hb.2.2.2.2 (by omega))
          · exact h1 q h3 ⟨e, sp, sq, hl, hl2⟩
theorem cw_Xe2 {post : Int32 → Prop} (hK : cw_Clk c (cw_K kn)) (h8 : ∀ q, q < 3 → c q ≤ 8) (hT : ∀ q, q < 3 → cw_S s q → tt q ≤ c q ∧ fr q ≤ c q) (hs : s < 8) (h1 : ∀ p q, p < 3 → q < 3 → cw_Bad c kn s fr tt p q → post (nI p)) (h0 : (∀ p q, p < 3 → q < 3 → ¬ cw_Bad c kn s fr tt p q) → post (-1)) :
    ∀ n p, p ≤ 3 → 3 < n + p → (∀ j q, j < p → q < 3 → ¬ cw_Bad c kn s fr tt j q) → wX_tooEarly_2 post (nI s) fm (cw_lf c) g (cw_lf kn) as ai ar au (cw_lf fr) (cw_lf tt) n (nI p) := by
  intro n
  induction n with
  | zero => intro q a b; omega
  | succ n ih =>
    intro p hp hn hj
    refine pk_le 3 p (fun h3 => ?_) (fun h3 => ⟨4, ?_⟩)
    · exact h0 fun p' q' hp' hq' => hj p' q' (by omega) hq'
    · refine cw_Xe9 hK h8 hT hs h3 (fun q hq hb => h1 p q h3 hq hb) (fun hh => ih (p + 1) (by omega) (by omega) (fun j q hj' hq => ?_)) 4 0 (by omega) (by omega) (fun j hj' => absurd hj' (by omega))
      by_cases e : j = p
      · rw [e]; exact hh q hq
      · exact hj j q (by omega) hq
theorem cw_Xte {post : Int32 → Prop} (hK : cw_Clk c (cw_K kn)) (h8 : ∀ q, q < 3 → c q ≤ 8) (hT : ∀ q, q < 3 → cw_S s q → tt q ≤ c q ∧ fr q ≤ c q) (hs : s < 8) (h1 : ∀ p q, p < 3 → q < 3 → cw_Bad c kn s fr tt p q → post (nI p)) (h0 : (∀ p q, p < 3 → q < 3 → ¬ cw_Bad c kn s fr tt p q) → post (-1)) :
    wpX_tooEarly post (fm, cw_lf c, g, cw_lf kn, as, ai, ar, au, cw_lf fr, cw_lf tt) (nI s) :=
  ⟨4, cw_Xe2 hK h8 hT hs h1 h0 4 0 (by omega) (by omega) (fun j q hj => absurd hj (by omega))⟩
end
/-! no family is passed by -/
abbrev cw_FamN (c kn : Nat → Nat) (s : Nat) (g : Nat → Int32) (F T : Nat → Nat) : Prop := cw_Fam c (cw_K kn) (cw_S s) (cw_G g) F T
def cw_MI (c kn : Nat → Nat) (s : Nat) (g : Nat → Int32) (fr tt : Nat → Nat) (x : Nat) : Prop := (∀ p, p < x → cw_S s p → cw_St c g p (fr p) (tt p)) ∧ (∀ F T, cw_FamN c kn s g F T → ∀ p, p < x → cw_S s p → fr p ≤ F p)
theorem cw_pass {c kn : Nat → Nat} {s : Nat} {g : Nat → Int32} {fr tt F T : Nat → Nat} {p q : Nat} (hK : cw_Clk c (cw_K kn)) (hM : cw_MI c kn s g fr tt 3) (hF : cw_FamN c kn s g F T) (hp : p < 3) (hq : q < 3) (hb : cw_Bad c kn s fr tt p q) : tt p < F p := by
  obtain ⟨hne, sp, sq, hlt, hk⟩ := hb
  obtain ⟨a, b, d, e⟩ := hM.1 p hp sp
  have h1 := hM.2 F T hF q hq sq
  obtain ⟨f1, f2, f3⟩ := hF.1 p hp sp
  refine Nat.lt_of_not_le fun hle => ?_
  have hbad : ¬ cw_G g p (tt p + 1) := by
    rcases e with e | e
    · omega
    · exact e
  have hT : T p ≤ tt p := Nat.le_of_not_lt fun hh => hbad (f3 _ (by omega) hh)
  have h2 := hF.2 p q hp hq hne sp sq (by omega)
  have h3 := cw_mono hK hp hq (i := T p + 1) (j := tt p + 1) (by omega) (by omega)
  omega
def cw_w (s : Nat) (fr : Nat → Nat) (p : Nat) : Nat := if s.testBit p = true then fr p else 0
theorem cw_wS {s p : Nat} {fr : Nat → Nat} (h : cw_S s p) : cw_w s fr p = fr p := if_pos h
theorem cw_wN {s p : Nat} {fr : Nat → Nat} (h : ¬ cw_S s p) : cw_w s fr p = 0 := if_neg h
theorem cw_wu {s p F : Nat} {fr : Nat → Nat} (h : cw_S s p) : cw_w s (cw_up fr p F) = cw_up (cw_w s fr) p F := by
  funext j
  by_cases e : j = p
  · subst e; rw [cw_wS h, cw_ups, cw_ups]
  · rw [cw_upn e]
    unfold cw_w
    rw [cw_upn e]
theorem cw_w24 {c kn : Nat → Nat} {s : Nat} {g : Nat → Int32} {fr tt : Nat → Nat} (h8 : ∀ q, q < 3 → c q ≤ 8) (hM : cw_MI c kn s g fr tt 3) : cw_s3 (cw_w s fr) ≤ 24 := by
  refine cw_s24 h8 fun q hq => ?_
  by_cases h : cw_S s q
  · rw [cw_wS h]
    obtain ⟨a, b, _⟩ := hM.1 q hq h
    omega
  · rw [cw_wN h]; exact Nat.zero_le _
theorem cw_MIs {c kn : Nat → Nat} {s : Nat} {g : Nat → Int32} {fr tt : Nat → Nat} {x F T y : Nat} (hx : x < y) (hy : y ≤ x + 1 ∨ cw_MI c kn s g fr tt y) (hM : cw_MI c kn s g fr tt x) (hS : cw_St c g x F T) (hF : ∀ F' T', cw_FamN c kn s g F' T' → F ≤ F' x) : cw_MI c kn s g (cw_up fr x F) (cw_up tt x T) y := by
  have hold : ∀ p, p < y → p ≠ x → p < x ∨ cw_MI c kn s g fr tt y := by
    intro p hp hne
    rcases hy with h | h
    · exact Or.inl (by omega)
    · exact Or.inr h
  refine ⟨fun p hp sp => ?_, fun F' T' hF' p hp sp => ?_⟩
  · by_cases e : p = x
    · subst e; rw [cw_ups, cw_ups]; exact hS
    · rw [cw_upn e, cw_upn e]
      rcases hold p hp e with h | h
      · exact hM.1 p h sp
      · exact h.1 p hp sp
  · by_cases e : p = x
    · subst e; rw [cw_ups]; exact hF F' T' hF'
    · rw [cw_upn e]
      rcases hold p hp e with h | h
      · exact hM.2 F' T' hF' p h sp
      · exact h.2 F' T' hF' p hp sp
theorem cw_MIn {c kn : Nat → Nat} {s : Nat} {g : Nat → Int32} {fr tt : Nat → Nat} {x : Nat} (hM : cw_MI c kn s g fr tt x) (hn : ¬ cw_S s x) : cw_MI c kn s g fr tt (x + 1) := by
  refine ⟨fun p hp sp => ?_, fun F' T' hF' p hp sp => ?_⟩
  · by_cases e : p = x
    · subst e; exact absurd sp hn
    · exact hM.1 p (by omega) sp
  · by_cases e : p = x
    · subst e; exact absurd sp hn
    · exact hM.2 F' T' hF' p (by omega) sp
theorem cw_MIle {c kn : Nat → Nat} {s : Nat} {g : Nat → Int32} {fr tt : Nat → Nat} {x y : Nat} (hM : cw_MI c kn s g fr tt y) (h : x ≤ y) : cw_MI c kn s g fr tt x := ⟨fun p hp sp => hM.1 p (by omega) sp, fun F' T' hF' p hp sp => hM.2 F' T' hF' p (by omega) sp⟩
section
variable {m : Nat} {g rv : Nat → Int32} {c kn sd si cu : Nat → Nat} {s : Nat}
theorem cw_Xm36 {post : Int32 → SX → Prop} (hK : cw_Clk c (cw_K kn)) (h8 : ∀ q, q < 3 → c q ≤ 8) (hs : s < 8)
    (h0 : ∀ fr tt, (∀ F T, ¬ cw_FamN c kn s g F T) → post 0 (cw_X m c g kn sd si rv cu fr tt))
    (h1 : ∀ fr tt F T, cw_FamN c kn s g F T → post 1 (cw_X m c g kn sd si rv cu fr tt)) :
    ∀ n R x fr tt, R ≤ 13 → 13 < n + R → ((x = 0 ∧ cw_FamN c kn s g fr tt) ∨ (x = 1 ∧ cw_MI c kn s g fr tt 3 ∧ 2 * R ≤ cw_s3 (cw_w s fr))) → wX_stretchesMeet_36 post (nI s) n x (nI R) (nI m) (cw_lf c) g (cw_lf kn) (cw_lf sd) (cw_lf si) rv (cw_lf cu) (cw_lf fr) (cw_lf tt) := by
  intro n
  induction n with
  | zero => intro R x fr tt a b; omega
  | succ n ih =>
    intro R x fr tt hR hn hx
    refine pk_le 20 R (fun h3 => absurd h3 (by omega)) (fun h3 => ?_)
    rcases hx with ⟨rfl, hF⟩ | ⟨rfl, hM, hsum⟩
    · exact br_t rfl (h1 fr tt fr tt hF)
    · have h24 := cw_w24 h8 hM
      refine br_f (by decide) (cw_Xte hK h8 (fun q hq sq => ?_) hs (fun p q hp hq hb => ?_) (fun hno => ?_))
      · obtain ⟨a, b, _⟩ := hM.1 q hq sq
        exact ⟨b, by omega⟩
      · refine br_f (nI_pos (by omega)) ?_
        unfold wX_stretchesMeet_63
        refine br_f (by decide) (And.intro (cw_p3 hp) ?_)
        rw [cw_a3 hp, nI_1 (tt p)]
        have hb' := hb
        obtain ⟨hne, sp, sq, hlt, hk⟩ := hb'
        obtain ⟨a, b, d, e⟩ := hM.1 p hp sp
        have hbad : ¬ cw_G g p (tt p + 1) := by
          rcases e with e | e
          · omega
          · exact e
        refine cw_Xnx hp (h8 p hp) (by omega) (fun hno => ?_) (fun F T hF hFno hS => ?_)
        · refine br_t rfl (h0 fr tt fun F T hFam => ?_)
          have h2 := cw_pass hK hM hFam hp hq hb
          obtain ⟨f1, f2, f3⟩ := hFam.1 p hp sp
          exact hno (F p) h2 (by omega) (f3 _ (Nat.le_refl _) f1)
        · refine br_f (by decide) (nm_r (nI_1 R) (ih (R + 1) 1 _ _ (by omega) (by omega) (Or.inr ⟨rfl, ?_, ?_⟩)))
          · refine cw_MIs hp (Or.inr hM) (cw_MIle hM (by omega)) hS (fun F' T' hFam => Nat.le_of_not_lt fun hh => ?_)
            have h2 := cw_pass hK hM hFam hp hq hb
            obtain ⟨f1, f2, f3⟩ := hFam.1 p hp sp
            exact hFno (F' p) h2 hh (f3 _ (Nat.le_refl _) f1)
          · have hFG : cw_G g p F := hS.2.2.1 F (Nat.le_refl _) hS.1
            have hF2 : tt p + 2 ≤ F := by
              by_cases e2 : F = tt p + 1
              · rw [e2] at hFG; exact absurd hFG hbad
              · omega
            have hsu := cw_s3u (f := cw_w s fr) F hp
            rw [cw_wu sp]
            rw [cw_wS sp] at hsu
            omega
      · refine br_t (by decide) ?_
        unfold wX_stretchesMeet_63
        refine br_t rfl (nm_r (nI_1 R) (ih (R + 1) 0 fr tt (by omega) (by omega) (Or.inl ⟨rfl, ?_, ?_⟩)))
        · intro p hp sp
          obtain ⟨a, b, d, _⟩ := hM.1 p hp sp
          exact ⟨a, b, d⟩
        · intro p q hp hq hne sp sq hlt
          exact Nat.le_of_not_lt fun hh => hno p q hp hq ⟨hne, sp, sq, hlt, hh⟩
theorem cw_Xm2 {post : Int32 → SX → Prop} (hK : cw_Clk c (cw_K kn)) (h8 : ∀ q, q < 3 → c q ≤ 8) (hs : s < 8)
    (h0 : ∀ fr tt, (∀ F T, ¬ cw_FamN c kn s g F T) → post 0 (cw_X m c g kn sd si rv cu fr tt))
    (h1 : ∀ fr tt F T, cw_FamN c kn s g F T → post 1 (cw_X m c g kn sd si rv cu fr tt)) :
    ∀ n x fr tt, x ≤ 3 → 3 < n + x → cw_MI c kn s g fr tt x → wX_stretchesMeet_2 post (nI s) n (nI x) (nI m) (cw_lf c) g (cw_lf kn) (cw_lf sd) (cw_lf si) rv (cw_lf cu) (cw_lf fr) (cw_lf tt) := by
  intro n
  induction n with
  | zero => intro x fr tt a b; omega
  | succ n ih =>
    intro x fr tt hx hn hM
    refine pk_le 3 x (fun h3 => ⟨14, ?_⟩) (fun h3 => ?_)
    · have e : x = 3 := by omega
      subst e
      exact cw_Xm36 hK h8 hs h0 h1 14 0 1 fr tt (by omega) (by omega) (Or.inr ⟨rfl, hM, Nat.zero_le _⟩)
    · refine cw_brX hs h3 (fun sp => ?_) (fun sp => ?_)
      · exact nm_r (nI_1 x) (ih (x + 1) fr tt (by omega) (by omega) (cw_MIn hM sp))
      · refine cw_Xnx (s0 := 0) h3 (h8 x h3) (by omega) (fun hno => ?_) (fun F T hF hFno hS => ?_)
        · refine br_t rfl (h0 fr tt fun F T hFam => ?_)
          obtain ⟨f1, f2, f3⟩ := hFam.1 x h3 sp
          exact hno (F x) (Nat.zero_le _) (by omega) (f3 _ (Nat.le_refl _) f1)
        · refine br_f (by decide) (nm_r (nI_1 x) (ih (x + 1) _ _ (by omega) (by omega) ?_))
          refine cw_MIs (Nat.lt_succ_self _) (Or.inl (Nat.le_refl _)) hM hS (fun F' T' hFam => Nat.le_of_not_lt fun hh => ?_)
          obtain ⟨f1, f2, f3⟩ := hFam.1 x h3 sp
          exact hFno (F' x) (Nat.zero_le _) hh (f3 _ (Nat.le_refl _) f1)
theorem cw_Xmeet {post : Int32 → SX → Prop} {fr tt : Nat → Nat} (hK : cw_Clk c (cw_K kn)) (h8 : ∀ q, q < 3 → c q ≤ 8) (hs : s < 8)
    (h0 : ∀ fr tt, (∀ F T, ¬ cw_FamN c kn s g F T) → post 0 (cw_X m c g kn sd si rv cu fr tt))
    (h1 : ∀ fr tt F T, cw_FamN c kn s g F T → post 1 (cw_X m c g kn sd si rv cu fr tt)) :
    wpX_stretchesMeet post (cw_X m c g kn sd si rv cu fr tt) (nI s) :=
  ⟨4, cw_Xm2 hK h8 hs h0 h1 4 0 fr tt (by omega) (by omega) ⟨fun p hp => absurd hp (by omega), fun F T _ p hp => absurd hp (by omega)⟩⟩
end
end
section
theorem i_vc_definitely {k : Nat} {u : SX} {v : SY} (I : i_Rel k u v) (hk : k + 4 ≤ 2048) (v1 : Int32) : wpX_definitely (fun r u' => wpY_definitely (fun r' v' => r' = r ∧ i_Rel (k + 4) u' v') v v1) u v1 := by
  refine cw_el (P := fun u v => wpX_definitely (fun r u' => wpY_definitely (fun r' v' => r' = r ∧ i_Rel (k + 4) u' v') v v1) u v1) ?_ I
  intro m c g kn sd si rv cu fr tt av hI
  have hB : ∀ p k q, p < 3 → q < 3 → k ≤ c p → cw_K kn p k q ≤ 8 := fun p k q hp hq hk => cw_invB hI hp hq hk
  unfold wpX_definitely
  dsimp only
  rcases cw_set v1 with ⟨s, hs1, hs, rfl⟩ | hb
  · refine br_f (cw_n1 hs1 hs) (br_t (cw_n7 hs) (cw_Xmeet hI.1 hI.2.1 hs (fun fr' tt' hno => ?_) (fun fr' tt' F T hFam => ?_)))
    · refine br_t rfl ?_
      unfold wpY_definitely
      dsimp only
      refine cw_Ybs hs1 hs (br_t rfl ⟨730, cw_Yd11 hs hB hI.2.1 (fun bv hD => ?_) 730 0 av (by omega) (by omega) (fun i hi => absurd hi (by omega))⟩)
      have hA := cw_isAv hI.2.1 hD
      refine br_f (fun hz => ?_) ⟨rfl, cw_in hI⟩
      obtain ⟨F, T, hF⟩ := cw_fam_ex hI.1 hA (fun hh => hh.2 hz)
      exact hno F T hF
    · refine br_f (by decide) ?_
      unfold wpY_definitely
      dsimp only
      refine cw_Ybs hs1 hs (br_t rfl ⟨730, cw_Yd11 hs hB hI.2.1 (fun bv hD => ?_) 730 0 av (by omega) (by omega) (fun i hi => absurd hi (by omega))⟩)
      have hA := cw_isAv hI.2.1 hD
      have hz : bv (cw_ix c) = 0 := Classical.byContradiction fun hh => cw_fam_no hI.1 hA hFam ⟨cw_conc hI.1, hh⟩
      exact br_t hz ⟨rfl, cw_in hI⟩
  · have hY : wpY_definitely (fun r' v' => r' = -1 ∧ i_Rel (k + 4) (cw_X m c g kn sd si rv cu fr tt) v') (cw_Y m c g kn sd si rv av) v1 := by
      unfold wpY_definitely
      dsimp only
      exact cw_Ybs1 hb (br_f (by decide) ⟨rfl, cw_in hI⟩)
    rcases hb with hb | ⟨hb, h7, _⟩
    · exact br_t hb hY
    · exact br_f hb (br_f h7 hY)
end
