/-! the component: trimming, what was logged -/
section XCK
variable {β : Type} {x : xX} {y y' : xY} {σ σ' : xS} {h : xH} {T : Nat} {t : Nat → Nat}
theorem cyr6 {p : Nat} {f : Nat → Option Nat} (hp : p < 3) (t' i' j' : Nat) (hn : ¬ (t' = 6 ∧ i' = p)) : cd x (yr y p f) σ t' i' j' = cd x y σ t' i' j' := by
  by_cases h6 : t' = 6
  · subst h6
    have : i' ≠ p := fun q => hn ⟨rfl, q⟩
    simp [cd, yr, va_up, this]
  · by_cases h2 : t' = 2
    · subst h2
      have : ¬ 3 = p := by omega
      simp [cd, yr, va_up, this]
    · exact cyr t' i' j' ⟨h2, h6⟩
theorem rsN6 {p c : Nat} {kk : xM β} (hx : Wx x) (hp : p < dP x) (hc : c < 400) : sN 4 (en x 6 p 0) (nI c) kk (er x y σ h) = kk (er x (yr y p (va_up (y.2.2 p) c none)) σ h) := by
  have hP3 := hx.2.2.1
  have e1 : cd x (yr y p (va_up (y.2.2 p) c none)) σ 6 p 0 = aA 4 400 (va_up (y.2.2 p) c none) := by simp [cd, yr, va_up]
  rw [← er_up (σ := σ) (h := h) hx (vv6 hp) e1 (fun t' i' j' hv hn => cyr6 (by omega) t' i' j' (fun q => hn ⟨q.1, q.2, by
    have := hv
    rw [q.1] at this
    simp only [vd, decide_eq_true_iff] at this
    exact this.2⟩))]
  simp only [sN, er_at hx (vv6 hp), cd, aA]
  rw [if_pos ⟨by simp, nI_in hc (by omega)⟩, nI_clamp (by omega)]
/-- a row of references without those from a to b -/
def nl (f : Nat → Option Nat) (a b : Nat) : Nat → Option Nat := fun q => if a ≤ q ∧ q < b then none else f q
theorem nl_0 (f : Nat → Option Nat) (a : Nat) : nl f a a = f := by
  funext q
  unfold nl
  rw [if_neg (by omega)]
theorem nl_s (f : Nat → Option Nat) {a b : Nat} (h : a ≤ b) : va_up (nl f a b) b none = nl f a (b + 1) := by
  funext q
  unfold nl va_up
  by_cases hq : q = b
  · subst hq
    rw [if_pos rfl, if_pos (by omega)]
  · rw [if_neg hq]
    show (if a ≤ q ∧ q < b then none else f q) = _
    by_cases h2 : a ≤ q ∧ q < b
    · rw [if_pos h2, if_pos (by omega)]
    · rw [if_neg h2, if_neg (by omega)]
theorem yr_yr (y : xY) (p : Nat) (f g : Nat → Option Nat) : yr (yr y p f) p g = yr y p g := by
  refine Prod.ext rfl (Prod.ext rfl (funext fun k => ?_))
  show va_up (va_up y.2.2 p f) p g k = va_up y.2.2 p g k
  unfold va_up
  split <;> rfl
theorem yr_self (y : xY) (p : Nat) : yr y p (y.2.2 p) = y := by
  refine Prod.ext rfl (Prod.ext rfl (funext fun k => ?_))
  show va_up y.2.2 p (y.2.2 p) k = y.2.2 k
  unfold va_up
  split
  · rename_i e
    rw [e]
  · rfl
theorem uI_uI (σ : xS) (k i : Nat) (v w : Int32) : uI (uI σ k i v) k i w = uI σ k i w := by
  refine Prod.ext rfl (Prod.ext (funext fun j => ?_) rfl)
  show va_up (va_up σ.2.1 k (va_up (σ.2.1 k) i v)) k (va_up (va_up σ.2.1 k (va_up (σ.2.1 k) i v) k) i w) j = va_up σ.2.1 k (va_up (σ.2.1 k) i w) j
  unfold va_up
  split
  · funext q
    simp
    split <;> simp_all
  · rename_i hj
    rfl
theorem c_trim_l {k4 : Nat → Int32 → Int32 → xM Int32} {p L a : Nat} {s0 : Int32} (hx : Wx x) (hp : p < dP x) (hL : L ≤ 400) (ha : a ≤ L) (h5 : σ.2.1 5 p = nI a) : f_RS_trim_h68 k4 1000 (en x 0 0 0) s0 (nI p) (nI L) (er x y σ h) = k4 (en x 0 0 0) (s0 + (nI L - nI a)) (nI (p + 1)) (er x (yr y p (nl (y.2.2 p) a L)) (uI σ 5 p (nI L)) h) := by
  have hP3 := hx.2.2.1
  have key : ∀ d b n, b + d = L → a ≤ b → d < n → f_RS_trim_h68 k4 n (en x 0 0 0) (s0 + nI (b - a)) (nI p) (nI L) (er x (yr y p (nl (y.2.2 p) a b)) (uI σ 5 p (nI b)) h) = k4 (en x 0 0 0) (s0 + nI (L - a)) (nI (p + 1)) (er x (yr y p (nl (y.2.2 p) a L)) (uI σ 5 p (nI L)) h) := by
    intro d
    induction d with
    | zero =>
      intro b n hb hab hn
      obtain ⟨n, rfl, -⟩ := pos_of hn
      obtain rfl : b = L := by omega
      have c1 : nI b ≤ nI b := nI_le (by omega) (by omega)
      simp (disch := first | assumption | omega) only [f_RS_trim_h68, f_RS_trim_b68, uI_g, c1, ↓rv0, ↓rg0_0, ↓rg0_1, ↓rg0_2, ↓rg0_3, ↓rg0_4, ↓rg0_5, ↓rg0_6, ↓rg0_7, ↓rg0_8, ↓rg0_9, ↓rg0_10, ↓rv5, ↓rg5_0, ↓rg5_1, ↓rg5_2, ↓rv8, ↓rg8_0, ↓rg8_1, ↓rg8_2, ↓rg8_3, ↓rg8_4, ↓rv9, ↓rg9_0, ↓rg9_1, ↓rg9_2, ↓rg9_3, ↓rv13, ↓rg13_0, ↓rv14, ↓rg14_0, ↓rg14_1, ↓rg14_2, ↓rg14_3, ↓rg14_4, ↓rv17, ↓rg17_0, ↓rg17_1, ↓rg17_2, ↓rg17_3, ↓rv18, ↓rg18_0, ↓rv20, ↓rg20_0, ↓rv22, ↓rg22_0, ↓rg22_1, ↓rg22_2, ↓rg22_3, ↓rg22_4, ↓rv23, ↓rg23_0, ↓rv25, ↓rg25_0, ↓rg25_1, ↓rg25_2, ↓rg25_3, ↓rg25_4, ↓rg25_5, ↓rg25_6, ↓rg25_7, ↓rg25_8, ↓rg25_9, ↓rg25_10, ↓rg25_11, ↓rv26, ↓rg26_0, ↓rl12, ↓rl15, ↓rl16, ↓rl19, ↓rl21, ↓rl24, ↓rl27, ↓rl11, ↓rl3, ↓rl1, ↓rl4, ↓rl7, ↓rl10, ↓ra7, ↓ra10, ↓ra4, ↓rp14_0, ↓rp14_1, ↓rp14_2, ↓rp14_3, ↓rp8_3, ↓rp8_4, ↓rp8_2, ↓rp17_0, ↓rp17_1, ↓rp5_1, ↓rp5_2, ↓rp25_7, ↓rp25_8, ↓rp25_9, ↓rp25_10, ↓rp25_11, ↓rs12, ↓rs15, ↓rs16, ↓rs19, ↓rs21, ↓rs11, ↓rp0_5, ↓rp0_10, ↓rp0_7, ↓rp0_8, ↓rp0_9, ↓rs3, ↓xb, ↓xr, rl12, rl15, rl16, rl19, rl21, rl24, rl27, rl11, rl3, rl1, rl4, rl7, rl10, rs12, rs15, rs16, rs19, rs21, rs11, rs3, n3, n30, n10, n300, n401, n4p, np1, np2, nI_add, ↓reduceIte]
    | succ d ih =>
      intro b n hb hab hn
      obtain ⟨n, rfl, hn⟩ := pos_of hn
      have c1 : ¬ nI L ≤ nI b := nI_ge (by omega) (by omega)
      have i1 := ih (b + 1) n (by omega) (by omega) (by omega)
      have e1 : (yr y p (nl (y.2.2 p) a b)).2.2 p = nl (y.2.2 p) a b := by simp [yr, va_up]
      have hb4 : b < 400 := by omega
      simp (disch := first | assumption | omega) only [f_RS_trim_h68, f_RS_trim_b68, uI_g, c1, uI_uI, rsN6, e1, nl_s, yr_yr, ↓rv0, ↓rg0_0, ↓rg0_1, ↓rg0_2, ↓rg0_3, ↓rg0_4, ↓rg0_5, ↓rg0_6, ↓rg0_7, ↓rg0_8, ↓rg0_9, ↓rg0_10, ↓rv5, ↓rg5_0, ↓rg5_1, ↓rg5_2, ↓rv8, ↓rg8_0, ↓rg8_1, ↓rg8_2, ↓rg8_3, ↓rg8_4, ↓rv9, ↓rg9_0, ↓rg9_1, ↓rg9_2, ↓rg9_3, ↓rv13, ↓rg13_0, ↓rv14, ↓rg14_0, ↓rg14_1, ↓rg14_2, ↓rg14_3, ↓rg14_4, ↓rv17, ↓rg17_0, ↓rg17_1, ↓rg17_2, ↓rg17_3, ↓rv18, ↓rg18_0, ↓rv20, ↓rg20_0, ↓rv22, ↓rg22_0, ↓rg22_1, ↓rg22_2, ↓rg22_3, ↓rg22_4, ↓rv23, ↓rg23_0, ↓rv25, ↓rg25_0, ↓rg25_1, ↓rg25_2, ↓rg25_3, ↓rg25_4, ↓rg25_5, ↓rg25_6, ↓rg25_7, ↓rg25_8, ↓rg25_9, ↓rg25_10, ↓rg25_11, ↓rv26, ↓rg26_0, ↓rl12, ↓rl15, ↓rl16, ↓rl19, ↓rl21, ↓rl24, ↓rl27, ↓rl11, ↓rl3, ↓rl1, ↓rl4, ↓rl7, ↓rl10, ↓ra7, ↓ra10, ↓ra4, ↓rp14_0, ↓rp14_1, ↓rp14_2, ↓rp14_3, ↓rp8_3, ↓rp8_4, ↓rp8_2, ↓rp17_0, ↓rp17_1, ↓rp5_1, ↓rp5_2, ↓rp25_7, ↓rp25_8, ↓rp25_9, ↓rp25_10, ↓rp25_11, ↓rs12, ↓rs15, ↓rs16, ↓rs19, ↓rs21, ↓rs11, ↓rp0_5, ↓rp0_10, ↓rp0_7, ↓rp0_8, ↓rp0_9, ↓rs3, ↓xb, ↓xr, rl12, rl15, rl16, rl19, rl21, rl24, rl27, rl11, rl3, rl1, rl4, rl7, rl10, rs12, rs15, rs16, rs19, rs21, rs11, rs3, n3, n30, n10, n300, n401, n4p, np1, np2, nI_add, ↓reduceIte]
      rw [show s0 + nI (b - a) + 1 = s0 + nI (b + 1 - a) by rw [Int32.add_assoc, np1]; congr 2; omega]
      exact i1
  have k0 := key (L - a) a 1000 (by omega) (Nat.le_refl a) (by omega)
  rw [Nat.sub_self, nI_0, Int32.add_zero, nl_0, yr_self, ← h5, uI_self, ← pk_sub ha] at k0
  exact k0
theorem c_trim (hx : Wx x) (hi : Inv (dP x) (dN x) (dR x) T (dE x) t σ) (hj : JW (dR x) y σ) (hjr : JR x y) (hjl : JL x y t) : ∃ y', f_RS_trim (en x 0 0 0) (er x y σ h) = some (.inl (trimS (dN x) σ (dP x)).1, er x y' (trimS (dN x) σ (dP x)).2 h) ∧ JW (dR x) y' (trimS (dN x) σ (dP x)).2 ∧ JR x y' ∧ JL x y' (tP (dN x) σ t (dP x)) := by
  have hP3 := hx.2.2.1
  have hN4 := hx.2.2.2.1
  have hP : σ.1 0 = nI (dP x) := hi.1.1.2.2.2.2.2.2.1
  have key : ∀ d p n y0, p + d = dP x → d < n → y0.1 = y.1 → y0.2.1 = y.2.1 → y0.2.2 3 = y.2.2 3 → JL x y0 (tP (dN x) σ t p) → ∃ y', f_RS_trim_h4 n (en x 0 0 0) (trimS (dN x) σ p).1 (nI p) (er x y0 (trimS (dN x) σ p).2 h) = some (.inl (trimS (dN x) σ (dP x)).1, er x y' (trimS (dN x) σ (dP x)).2 h) ∧ y'.1 = y.1 ∧ y'.2.1 = y.2.1 ∧ y'.2.2 3 = y.2.2 3 ∧ JL x y' (tP (dN x) σ t (dP x)) := by
    intro d
    induction d with
    | zero =>
      intro p n y0 hp hn e1 e2 e3 hl
      obtain ⟨n, rfl, -⟩ := pos_of hn
      obtain rfl : p = dP x := by omega
      have c1 : nI (dP x) ≤ nI (dP x) := nI_le (by omega) (by omega)
      refine ⟨y0, ?_, e1, e2, e3, hl⟩
      simp (disch := first | assumption | omega) only [f_RS_trim_h4, f_RS_trim_b4, (trim_same (dN x) σ (dP x)).1, hP, c1, ↓rv0, ↓rg0_0, ↓rg0_1, ↓rg0_2, ↓rg0_3, ↓rg0_4, ↓rg0_5, ↓rg0_6, ↓rg0_7, ↓rg0_8, ↓rg0_9, ↓rg0_10, ↓rv5, ↓rg5_0, ↓rg5_1, ↓rg5_2, ↓rv8, ↓rg8_0, ↓rg8_1, ↓rg8_2, ↓rg8_3, ↓rg8_4, ↓rv9, ↓rg9_0, ↓rg9_1, ↓rg9_2, ↓rg9_3, ↓rv13, ↓rg13_0, ↓rv14, ↓rg14_0, ↓rg14_1, ↓rg14_2, ↓rg14_3, ↓rg14_4, ↓rv17, ↓rg17_0, ↓rg17_1, ↓rg17_2, ↓rg17_3, ↓rv18, ↓rg18_0, ↓rv20, ↓rg20_0, ↓rv22, ↓rg22_0, ↓rg22_1, ↓rg22_2, ↓rg22_3, ↓rg22_4, ↓rv23, ↓rg23_0, ↓rv25, ↓rg25_0, ↓rg25_1, ↓rg25_2, ↓rg25_3, ↓rg25_4, ↓rg25_5, ↓rg25_6, ↓rg25_7, ↓rg25_8, ↓rg25_9, ↓rg25_10, ↓rg25_11, ↓rv26, ↓rg26_0, ↓rl12, ↓rl15, ↓rl16, ↓rl19, ↓rl21, ↓rl24, ↓rl27, ↓rl11, ↓rl3, ↓rl1, ↓rl4, ↓rl7, ↓rl10, ↓ra7, ↓ra10, ↓ra4, ↓rp14_0, ↓rp14_1, ↓rp14_2, ↓rp14_3, ↓rp8_3, ↓rp8_4, ↓rp8_2, ↓rp17_0, ↓rp17_1, ↓rp5_1, ↓rp5_2, ↓rp25_7, ↓rp25_8, ↓rp25_9, ↓rp25_10, ↓rp25_11, ↓rs12, ↓rs15, ↓rs16, ↓rs19, ↓rs21, ↓rs11, ↓rp0_5, ↓rp0_10, ↓rp0_7, ↓rp0_8, ↓rp0_9, ↓rs3, ↓xb, ↓xr, rl12, rl15, rl16, rl19, rl21, rl24, rl27, rl11, rl3, rl1, rl4, rl7, rl10, rs12, rs15, rs16, rs19, rs21, rs11, rs3, n3, n30, n10, n300, n401, n4p, np1, np2, nI_add, ↓reduceIte]
    | succ d ih =>
      intro p n y0 hp hn e1 e2 e3 hl
      obtain ⟨n, rfl, hn⟩ := pos_of hn
      have hp2 : p < dP x := by omega
      have c1 : ¬ nI (dP x) ≤ nI p := nI_ge (by omega) (by omega)
      obtain ⟨L, l1, l2, l3, l4⟩ := least_spec hi.1 hp2 (dN x) (Nat.le_refl _)
      have hs := trim_same (dN x) σ p
      have e18 := hs.2.1 18 (by decide)
      have e5 : (trimS (dN x) σ p).2.2.1 5 p = nI (t p) := by
        rw [trim_hi _ _ _ _ (Nat.le_refl p)]
        exact (hi.1.2.1 p hp2).2.1
      have e5' : σ.2.1 5 p = nI (t p) := (hi.1.2.1 p hp2).2.1
      have tl := c_trim_l (h := h) (y := y0) (σ := (trimS (dN x) σ p).2) (k4 := f_RS_trim_h4 n) (s0 := (trimS (dN x) σ p).1) hx hp2 l2 l3 e5
      have hl2 : JL x (yr y0 p (nl (y0.2.2 p) (t p) L)) (tP (dN x) σ t (p + 1)) := by
        intro q hq j hj
        have hlq := hl q hq j hj
        by_cases hqp : q = p
        · subst hqp
          show va_up y0.2.2 q (nl (y0.2.2 q) (t q) L) q j = _
          have tq : tP (dN x) σ t (q + 1) q = L := by
            unfold tP
            rw [if_pos (by omega), l1, cn_nI (by omega)]
          have tq0 : tP (dN x) σ t q q = t q := if_neg (by omega)
          rw [tq0] at hlq
          simp only [va_up, if_true]
          rw [tq]
          unfold nl
          rw [hlq]
          by_cases c2 : t q ≤ j ∧ j < L
          · rw [if_pos c2, if_neg (by omega)]
          · rw [if_neg c2]
            by_cases c3 : L ≤ j ∧ j < dE x q
            · rw [if_pos c3, if_pos (by omega)]
            · rw [if_neg c3, if_neg (by omega)]
        · show va_up y0.2.2 p (nl (y0.2.2 p) (t p) L) q j = _
          simp only [va_up, if_neg hqp]
          have tq : tP (dN x) σ t (p + 1) q = tP (dN x) σ t p q := by
            unfold tP
            by_cases c2 : q < p
            · rw [if_pos c2, if_pos (by omega)]
            · rw [if_neg c2, if_neg (by omega)]
          rw [tq]
          exact hlq
      have ih2 := ih (p + 1) n (yr y0 p (nl (y0.2.2 p) (t p) L)) (by omega) (by omega) e1 e2 (by
        show va_up y0.2.2 p _ 3 = _
        have : ¬ 3 = p := by omega
        simp only [va_up, if_neg this]
        exact e3) hl2
      obtain ⟨y', g1, g2⟩ := ih2
      refine ⟨y', ?_, g2⟩
      have htr : trimS (dN x) σ (p + 1) = ((trimS (dN x) σ p).1 + (leastS σ p (dN x) - σ.2.1 5 p), uI (trimS (dN x) σ p).2 5 p (leastS σ p (dN x))) := rfl
      rw [htr, l1, e5'] at g1
      have inner : ∀ d r n', r + d = dN x → d < n' → f_RS_trim_h30 (f_RS_trim_h4 n) n' (en x 0 0 0) (trimS (dN x) σ p).1 (nI p) (leastS σ p r) (en x 7 0 0) (nI (dN x)) (nI r) (er x y0 (trimS (dN x) σ p).2 h) = some (.inl (trimS (dN x) σ (dP x)).1, er x y' (trimS (dN x) σ (dP x)).2 h) := by
        intro d
        induction d with
        | zero =>
          intro r n' hr hn'
          obtain ⟨n', rfl, -⟩ := pos_of hn'
          obtain rfl : r = dN x := by omega
          have c2 : nI (dN x) ≤ nI (dN x) := nI_le (by omega) (by omega)
          simp only [f_RS_trim_h30, f_RS_trim_b30, c2, ↓reduceIte]
          rw [l1, tl]
          exact g1
        | succ d ih3 =>
          intro r n' hr hn'
          obtain ⟨n', rfl, hn'⟩ := pos_of hn'
          have hr2 : r < dN x := by omega
          have hs4 : sv x (4 + r) := Or.inr ⟨by omega, by omega⟩
          have c2 : ¬ nI (dN x) ≤ nI r := nI_ge (by omega) (by omega)
          have i3 := ih3 (r + 1) n' (by omega) (by omega)
          simp (disch := first | assumption | omega) only [f_RS_trim_h30, f_RS_trim_b30, c2, e18, c_min, ↓rv0, ↓rg0_0, ↓rg0_1, ↓rg0_2, ↓rg0_3, ↓rg0_4, ↓rg0_5, ↓rg0_6, ↓rg0_7, ↓rg0_8, ↓rg0_9, ↓rg0_10, ↓rv5, ↓rg5_0, ↓rg5_1, ↓rg5_2, ↓rv8, ↓rg8_0, ↓rg8_1, ↓rg8_2, ↓rg8_3, ↓rg8_4, ↓rv9, ↓rg9_0, ↓rg9_1, ↓rg9_2, ↓rg9_3, ↓rv13, ↓rg13_0, ↓rv14, ↓rg14_0, ↓rg14_1, ↓rg14_2, ↓rg14_3, ↓rg14_4, ↓rv17, ↓rg17_0, ↓rg17_1, ↓rg17_2, ↓rg17_3, ↓rv18, ↓rg18_0, ↓rv20, ↓rg20_0, ↓rv22, ↓rg22_0, ↓rg22_1, ↓rg22_2, ↓rg22_3, ↓rg22_4, ↓rv23, ↓rg23_0, ↓rv25, ↓rg25_0, ↓rg25_1, ↓rg25_2, ↓rg25_3, ↓rg25_4, ↓rg25_5, ↓rg25_6, ↓rg25_7, ↓rg25_8, ↓rg25_9, ↓rg25_10, ↓rg25_11, ↓rv26, ↓rg26_0, ↓rl12, ↓rl15, ↓rl16, ↓rl19, ↓rl21, ↓rl24, ↓rl27, ↓rl11, ↓rl3, ↓rl1, ↓rl4, ↓rl7, ↓rl10, ↓ra7, ↓ra10, ↓ra4, ↓rp14_0, ↓rp14_1, ↓rp14_2, ↓rp14_3, ↓rp8_3, ↓rp8_4, ↓rp8_2, ↓rp17_0, ↓rp17_1, ↓rp5_1, ↓rp5_2, ↓rp25_7, ↓rp25_8, ↓rp25_9, ↓rp25_10, ↓rp25_11, ↓rs12, ↓rs15, ↓rs16, ↓rs19, ↓rs21, ↓rs11, ↓rp0_5, ↓rp0_10, ↓rp0_7, ↓rp0_8, ↓rp0_9, ↓rs3, ↓xb, ↓xr, rl12, rl15, rl16, rl19, rl21, rl24, rl27, rl11, rl3, rl1, rl4, rl7, rl10, rs12, rs15, rs16, rs19, rs21, rs11, rs3, n3, n30, n10, n300, n401, n4p, np1, np2, nI_add, ↓reduceIte]
          exact i3
      simp (disch := first | assumption | omega) only [f_RS_trim_h4, f_RS_trim_b4, hs.1, hP, c1, ↓rv0, ↓rg0_0, ↓rg0_1, ↓rg0_2, ↓rg0_3, ↓rg0_4, ↓rg0_5, ↓rg0_6, ↓rg0_7, ↓rg0_8, ↓rg0_9, ↓rg0_10, ↓rv5, ↓rg5_0, ↓rg5_1, ↓rg5_2, ↓rv8, ↓rg8_0, ↓rg8_1, ↓rg8_2, ↓rg8_3, ↓rg8_4, ↓rv9, ↓rg9_0, ↓rg9_1, ↓rg9_2, ↓rg9_3, ↓rv13, ↓rg13_0, ↓rv14, ↓rg14_0, ↓rg14_1, ↓rg14_2, ↓rg14_3, ↓rg14_4, ↓rv17, ↓rg17_0, ↓rg17_1, ↓rg17_2, ↓rg17_3, ↓rv18, ↓rg18_0, ↓rv20, ↓rg20_0, ↓rv22, ↓rg22_0, ↓rg22_1, ↓rg22_2, ↓rg22_3, ↓rg22_4, ↓rv23, ↓rg23_0, ↓rv25, ↓rg25_0, ↓rg25_1, ↓rg25_2, ↓rg25_3, ↓rg25_4, ↓rg25_5, ↓rg25_6, ↓rg25_7, ↓rg25_8, ↓rg25_9, ↓rg25_10, ↓rg25_11, ↓rv26, ↓rg26_0, ↓rl12, ↓rl15, ↓rl16, ↓rl19, ↓rl21, ↓rl24, ↓rl27, ↓rl11, ↓rl3, ↓rl1, ↓rl4, ↓rl7, ↓rl10, ↓ra7, ↓ra10, ↓ra4, ↓rp14_0, ↓rp14_1, ↓rp14_2, ↓rp14_3, ↓rp8_3, ↓rp8_4, ↓rp8_2, ↓rp17_0, ↓rp17_1, ↓rp5_1, ↓rp5_2, ↓rp25_7, ↓rp25_8, ↓rp25_9, ↓rp25_10, ↓rp25_11, ↓rs12, ↓rs15, ↓rs16, ↓rs19, ↓rs21, ↓rs11, ↓rp0_5, ↓rp0_10, ↓rp0_7, ↓rp0_8, ↓rp0_9, ↓rs3, ↓xb, ↓xr, rl12, rl15, rl16, rl19, rl21, rl24, rl27, rl11, rl3, rl1, rl4, rl7, rl10, rs12, rs15, rs16, rs19, rs21, rs11, rs3, n3, n30, n10, n300, n401, n4p, np1, np2, nI_add, ↓reduceIte]
      exact inner (dN x) 0 1000 (by omega) (by omega)
  obtain ⟨y', g1, g2, g3, g4, g5⟩ := key (dP x) 0 1000 y (by omega) (by omega) rfl rfl rfl hjl
  refine ⟨y', g1, ?_, ?_, g5⟩
  · have hj2 := JW.st (τ := (trimS (dN x) σ (dP x)).2) ((trim_same _ _ _).2.1 27 (by decide)) hj
    unfold JW at hj2 ⊢
    rw [g2, g3]
    exact hj2
  · intro k hk
    rw [g4]
    exact hjr k hk
theorem c_ctold {p j w : Nat} (hx : Wx x) (hp : p < dP x) (hj : 1 ≤ j ∧ j ≤ dE x p) (hw : w < 7) : f_Cmd_told (en x 22 p j) (nI w) (er x y σ h) = some (.inl (loggedS σ (401 * p + j) w), er x y σ h) := by
  unfold f_Cmd_told loggedS
  have : w = 0 ∨ w = 1 ∨ w = 2 ∨ w = 3 ∨ 4 ≤ w := by omega
  rcases this with rfl | rfl | rfl | rfl | h5
  · rw [if_pos (by decide), if_pos rfl, rg22_0 hx hp hj]; rfl
  · rw [if_neg (by decide), if_pos (by decide), if_neg (by decide), if_pos rfl, rg22_1 hx hp hj]; rfl
  · rw [if_neg (by decide), if_neg (by decide), if_pos (by decide), if_neg (by decide), if_neg (by decide), if_pos rfl, rg22_2 hx hp hj]; rfl
  · rw [if_neg (by decide), if_neg (by decide), if_neg (by decide), if_pos (by decide), if_neg (by decide), if_neg (by decide), if_neg (by decide), if_pos rfl, rg22_3 hx hp hj]; rfl
  · have q0 : ¬ nI w = 0 := by rw [show (0 : Int32) = nI 0 from rfl, nI_eq (by omega) (by omega)]; omega
    have q1 : ¬ nI w = 1 := by rw [show (1 : Int32) = nI 1 from rfl, nI_eq (by omega) (by omega)]; omega
    have q2 : ¬ nI w = 2 := by rw [show (2 : Int32) = nI 2 from rfl, nI_eq (by omega) (by omega)]; omega
    have q3 : ¬ nI w = 3 := by rw [show (3 : Int32) = nI 3 from rfl, nI_eq (by omega) (by omega)]; omega
    have q4 : nI w - 4 = nI (w - 4) := by rw [show (4 : Int32) = nI 4 from rfl, pk_sub (by omega)]
    rw [if_neg q0, if_neg q1, if_neg q2, if_neg q3, if_neg (by omega), if_neg (by omega), if_neg (by omega), if_neg (by omega), rg22_4 hx hp hj, rg23_0 hx hp hj, q4, rl24 hx hp hj (by omega)]
    rfl
end XCK
