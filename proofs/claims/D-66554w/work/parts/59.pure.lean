/-! the component: the row of reads that wait; looking at them; failing -/
/-- the row of those that wait and the counts tell of the state -/
def JW (R : Nat) (y : xY) (σ : xS) : Prop := y.2.1 0 = nI (cnt σ 0 R) ∧ (∀ k, k < R → σ.2.1 27 k = 0 → y.1 (cnt σ 0 k) = nI k) ∧ y.2.1 1 = nI (cnt σ 1 R) ∧ y.2.1 2 = nI (cnt σ 2 R)
theorem cnt_le2 (σ : xS) (v : Int32) {a b : Nat} (h : a ≤ b) : cnt σ v a ≤ cnt σ v b := by
  induction b with
  | zero =>
    obtain rfl : a = 0 := by omega
    exact Nat.le_refl _
  | succ b ih =>
    by_cases hc : a = b + 1
    · subst hc
      exact Nat.le_refl _
    · have := ih (by omega)
      simp only [cnt]
      omega
theorem cnt_lt (σ : xS) (v : Int32) {a b : Nat} (h : a < b) (h0 : σ.2.1 27 a = v) : cnt σ v a < cnt σ v b := by
  have h1 : cnt σ v (a + 1) ≤ cnt σ v b := cnt_le2 σ v h
  simp only [cnt, h0, if_true] at h1
  omega
/-- one that waited is put to v -/
theorem cnt_up {σ τ : xS} {k : Nat} {w : Int32} (h27 : τ.2.1 27 = va_up (σ.2.1 27) k w) (v : Int32) (n : Nat) (hk : σ.2.1 27 k ≠ w) : cnt τ v n + (if k < n ∧ σ.2.1 27 k = v then 1 else 0) = cnt σ v n + (if k < n ∧ w = v then 1 else 0) := by
  induction n with
  | zero => simp [cnt]
  | succ n ih =>
    simp only [cnt, h27]
    by_cases hn : n = k
    · subst hn
      simp only [va_up, if_true]
      simp only [Nat.lt_irrefl, false_and, if_false, Nat.add_zero] at ih
      simp only [Nat.lt_succ_self, true_and]
      omega
    · simp only [va_up, if_neg hn]
      have e : (k < n + 1) = (k < n) := propext ⟨fun q => by omega, fun q => by omega⟩
      simp only [e]
      omega
/-- the row with place i taken out, ahead of place k -/
def wsh (f : Nat → Int32) (i k : Nat) : Nat → Int32 := fun q => if i ≤ q ∧ q < k then f (q + 1) else f q
theorem wsh_0 (f : Nat → Int32) (i : Nat) : wsh f i i = f := by
  funext q
  unfold wsh
  rw [if_neg (by omega)]
theorem wsh_s (f : Nat → Int32) {i k : Nat} (h : i ≤ k) : wsh f i (k + 1) = va_up (wsh f i k) k (f (k + 1)) := by
  funext q
  unfold wsh va_up
  by_cases hq : q = k
  · subst hq
    rw [if_pos (by omega), if_pos rfl]
  · rw [if_neg hq]
    show _ = if i ≤ q ∧ q < k then f (q + 1) else f q
    by_cases h2 : i ≤ q ∧ q < k
    · rw [if_pos h2, if_pos (by omega)]
    · rw [if_neg h2, if_neg (by omega)]
section XCD
variable {β : Type} {x : xX} {y y' : xY} {σ σ' : xS} {h : xH} {T : Nat} {t : Nat → Nat}
theorem c_leave {i w : Nat} (hx : Wx x) (hw : y.2.1 0 = nI (w + 1)) (hi : i ≤ w) (h40 : w < 40) : f_RS_leave (en x 0 0 0) (nI i) (er x y σ h) = some (.inl (), er x (yw (yn y 0 (nI w)) (wsh y.1 i w)) σ h) := by
  have key : ∀ d k n, k + d = w → i ≤ k → d < n → f_RS_leave_h12 n (en x 0 0 0) (nI k) (er x (yw (yn y 0 (nI w)) (wsh y.1 i k)) σ h) = some (.inl (), er x (yw (yn y 0 (nI w)) (wsh y.1 i w)) σ h) := by
    intro d
    have e0 : ∀ f, (yw (yn y 0 (nI w)) f).2.1 0 = nI w := fun f => by simp [yw, yn, va_up]
    induction d with
    | zero =>
      intro k n hk hik hn
      obtain ⟨n, rfl, -⟩ := pos_of hn
      obtain rfl : k = w := by omega
      have c1 : nI k ≤ nI k := nI_le (by omega) (by omega)
      simp (disch := first | assumption | omega) only [f_RS_leave_h12, f_RS_leave_b12, e0, c1, ↓rv0, ↓rg0_0, ↓rg0_1, ↓rg0_2, ↓rg0_3, ↓rg0_4, ↓rg0_5, ↓rg0_6, ↓rg0_7, ↓rg0_8, ↓rg0_9, ↓rg0_10, ↓rv5, ↓rg5_0, ↓rg5_1, ↓rg5_2, ↓rv8, ↓rg8_0, ↓rg8_1, ↓rg8_2, ↓rg8_3, ↓rg8_4, ↓rv9, ↓rg9_0, ↓rg9_1, ↓rg9_2, ↓rg9_3, ↓rv13, ↓rg13_0, ↓rv14, ↓rg14_0, ↓rg14_1, ↓rg14_2, ↓rg14_3, ↓rg14_4, ↓rv17, ↓rg17_0, ↓rg17_1, ↓rg17_2, ↓rg17_3, ↓rv18, ↓rg18_0, ↓rv20, ↓rg20_0, ↓rv22, ↓rg22_0, ↓rg22_1, ↓rg22_2, ↓rg22_3, ↓rg22_4, ↓rv23, ↓rg23_0, ↓rv25, ↓rg25_0, ↓rg25_1, ↓rg25_2, ↓rg25_3, ↓rg25_4, ↓rg25_5, ↓rg25_6, ↓rg25_7, ↓rg25_8, ↓rg25_9, ↓rg25_10, ↓rg25_11, ↓rv26, ↓rg26_0, ↓rl12, ↓rl15, ↓rl16, ↓rl19, ↓rl21, ↓rl24, ↓rl27, ↓rl11, ↓rl3, ↓rl1, ↓rl4, ↓rl7, ↓rl10, ↓ra7, ↓ra10, ↓ra4, ↓rp14_0, ↓rp14_1, ↓rp14_2, ↓rp14_3, ↓rp8_3, ↓rp8_4, ↓rp8_2, ↓rp17_0, ↓rp17_1, ↓rp5_1, ↓rp5_2, ↓rp25_7, ↓rp25_8, ↓rp25_9, ↓rp25_10, ↓rp25_11, ↓rs12, ↓rs15, ↓rs16, ↓rs19, ↓rs21, ↓rs11, ↓rp0_5, ↓rp0_10, ↓rp0_7, ↓rp0_8, ↓rp0_9, ↓rs3, ↓xb, ↓xr, rl12, rl15, rl16, rl19, rl21, rl24, rl27, rl11, rl3, rl1, rl4, rl7, rl10, rs12, rs15, rs16, rs19, rs21, rs11, rs3, n3, n30, n10, n300, n401, n4p, np1, np2, nI_add, ↓reduceIte]
    | succ d ih =>
      intro k n hk hik hn
      obtain ⟨n, rfl, hn⟩ := pos_of hn
      have c1 : ¬ nI w ≤ nI k := nI_ge (by omega) (by omega)
      have i1 := ih (k + 1) n (by omega) (by omega) (by omega)
      have e1 : (yw (yn y 0 (nI w)) (wsh y.1 i k)).1 (k + 1) = y.1 (k + 1) := by
        show wsh y.1 i k (k + 1) = _
        unfold wsh
        rw [if_neg (by omega)]
      simp (disch := first | assumption | omega) only [f_RS_leave_h12, f_RS_leave_b12, e0, c1, e1, ↓rv0, ↓rg0_0, ↓rg0_1, ↓rg0_2, ↓rg0_3, ↓rg0_4, ↓rg0_5, ↓rg0_6, ↓rg0_7, ↓rg0_8, ↓rg0_9, ↓rg0_10, ↓rv5, ↓rg5_0, ↓rg5_1, ↓rg5_2, ↓rv8, ↓rg8_0, ↓rg8_1, ↓rg8_2, ↓rg8_3, ↓rg8_4, ↓rv9, ↓rg9_0, ↓rg9_1, ↓rg9_2, ↓rg9_3, ↓rv13, ↓rg13_0, ↓rv14, ↓rg14_0, ↓rg14_1, ↓rg14_2, ↓rg14_3, ↓rg14_4, ↓rv17, ↓rg17_0, ↓rg17_1, ↓rg17_2, ↓rg17_3, ↓rv18, ↓rg18_0, ↓rv20, ↓rg20_0, ↓rv22, ↓rg22_0, ↓rg22_1, ↓rg22_2, ↓rg22_3, ↓rg22_4, ↓rv23, ↓rg23_0, ↓rv25, ↓rg25_0, ↓rg25_1, ↓rg25_2, ↓rg25_3, ↓rg25_4, ↓rg25_5, ↓rg25_6, ↓rg25_7, ↓rg25_8, ↓rg25_9, ↓rg25_10, ↓rg25_11, ↓rv26, ↓rg26_0, ↓rl12, ↓rl15, ↓rl16, ↓rl19, ↓rl21, ↓rl24, ↓rl27, ↓rl11, ↓rl3, ↓rl1, ↓rl4, ↓rl7, ↓rl10, ↓ra7, ↓ra10, ↓ra4, ↓rp14_0, ↓rp14_1, ↓rp14_2, ↓rp14_3, ↓rp8_3, ↓rp8_4, ↓rp8_2, ↓rp17_0, ↓rp17_1, ↓rp5_1, ↓rp5_2, ↓rp25_7, ↓rp25_8, ↓rp25_9, ↓rp25_10, ↓rp25_11, ↓rs12, ↓rs15, ↓rs16, ↓rs19, ↓rs21, ↓rs11, ↓rp0_5, ↓rp0_10, ↓rp0_7, ↓rp0_8, ↓rp0_9, ↓rs3, ↓xb, ↓xr, rl12, rl15, rl16, rl19, rl21, rl24, rl27, rl11, rl3, rl1, rl4, rl7, rl10, rs12, rs15, rs16, rs19, rs21, rs11, rs3, n3, n30, n10, n300, n401, n4p, np1, np2, nI_add, ↓reduceIte]
      rw [wsh_s y.1 hik] at i1
      exact i1
  have k0 := key (w - i) i 1000 (by omega) (by omega) (by omega)
  rw [wsh_0] at k0
  have e1 : nI (w + 1) - 1 = nI w := nI_pred w
  simp (disch := first | assumption | omega) only [f_RS_leave, hw, e1, ↓rv0, ↓rg0_0, ↓rg0_1, ↓rg0_2, ↓rg0_3, ↓rg0_4, ↓rg0_5, ↓rg0_6, ↓rg0_7, ↓rg0_8, ↓rg0_9, ↓rg0_10, ↓rv5, ↓rg5_0, ↓rg5_1, ↓rg5_2, ↓rv8, ↓rg8_0, ↓rg8_1, ↓rg8_2, ↓rg8_3, ↓rg8_4, ↓rv9, ↓rg9_0, ↓rg9_1, ↓rg9_2, ↓rg9_3, ↓rv13, ↓rg13_0, ↓rv14, ↓rg14_0, ↓rg14_1, ↓rg14_2, ↓rg14_3, ↓rg14_4, ↓rv17, ↓rg17_0, ↓rg17_1, ↓rg17_2, ↓rg17_3, ↓rv18, ↓rg18_0, ↓rv20, ↓rg20_0, ↓rv22, ↓rg22_0, ↓rg22_1, ↓rg22_2, ↓rg22_3, ↓rg22_4, ↓rv23, ↓rg23_0, ↓rv25, ↓rg25_0, ↓rg25_1, ↓rg25_2, ↓rg25_3, ↓rg25_4, ↓rg25_5, ↓rg25_6, ↓rg25_7, ↓rg25_8, ↓rg25_9, ↓rg25_10, ↓rg25_11, ↓rv26, ↓rg26_0, ↓rl12, ↓rl15, ↓rl16, ↓rl19, ↓rl21, ↓rl24, ↓rl27, ↓rl11, ↓rl3, ↓rl1, ↓rl4, ↓rl7, ↓rl10, ↓ra7, ↓ra10, ↓ra4, ↓rp14_0, ↓rp14_1, ↓rp14_2, ↓rp14_3, ↓rp8_3, ↓rp8_4, ↓rp8_2, ↓rp17_0, ↓rp17_1, ↓rp5_1, ↓rp5_2, ↓rp25_7, ↓rp25_8, ↓rp25_9, ↓rp25_10, ↓rp25_11, ↓rs12, ↓rs15, ↓rs16, ↓rs19, ↓rs21, ↓rs11, ↓rp0_5, ↓rp0_10, ↓rp0_7, ↓rp0_8, ↓rp0_9, ↓rs3, ↓xb, ↓xr, rl12, rl15, rl16, rl19, rl21, rl24, rl27, rl11, rl3, rl1, rl4, rl7, rl10, rs12, rs15, rs16, rs19, rs21, rs11, rs3, n3, n30, n10, n300, n401, n4p, np1, np2, nI_add, ↓reduceIte]
  exact k0
theorem c_numberOf {r : Nat} (hx : Wx x) (hr : r < dN x) : f_RS_numberOf (en x 0 0 0) (en x 8 r 0) (er x y σ h) = some (.inl (nI r), er x y σ h) := by
  have hN4 := hx.2.2.2.1
  have key : ∀ d k n, k + d = r → d < n → f_RS_numberOf_h2 n (en x 0 0 0) (en x 8 r 0) (nI k) (er x y σ h) = some (.inl (nI r), er x y σ h) := by
    intro d
    induction d with
    | zero =>
      intro k n hk hn
      obtain ⟨n, rfl, -⟩ := pos_of hn
      obtain rfl : k = r := by omega
      simp (disch := first | assumption | omega) only [f_RS_numberOf_h2, f_RS_numberOf_b2, ↓rv0, ↓rg0_0, ↓rg0_1, ↓rg0_2, ↓rg0_3, ↓rg0_4, ↓rg0_5, ↓rg0_6, ↓rg0_7, ↓rg0_8, ↓rg0_9, ↓rg0_10, ↓rv5, ↓rg5_0, ↓rg5_1, ↓rg5_2, ↓rv8, ↓rg8_0, ↓rg8_1, ↓rg8_2, ↓rg8_3, ↓rg8_4, ↓rv9, ↓rg9_0, ↓rg9_1, ↓rg9_2, ↓rg9_3, ↓rv13, ↓rg13_0, ↓rv14, ↓rg14_0, ↓rg14_1, ↓rg14_2, ↓rg14_3, ↓rg14_4, ↓rv17, ↓rg17_0, ↓rg17_1, ↓rg17_2, ↓rg17_3, ↓rv18, ↓rg18_0, ↓rv20, ↓rg20_0, ↓rv22, ↓rg22_0, ↓rg22_1, ↓rg22_2, ↓rg22_3, ↓rg22_4, ↓rv23, ↓rg23_0, ↓rv25, ↓rg25_0, ↓rg25_1, ↓rg25_2, ↓rg25_3, ↓rg25_4, ↓rg25_5, ↓rg25_6, ↓rg25_7, ↓rg25_8, ↓rg25_9, ↓rg25_10, ↓rg25_11, ↓rv26, ↓rg26_0, ↓rl12, ↓rl15, ↓rl16, ↓rl19, ↓rl21, ↓rl24, ↓rl27, ↓rl11, ↓rl3, ↓rl1, ↓rl4, ↓rl7, ↓rl10, ↓ra7, ↓ra10, ↓ra4, ↓rp14_0, ↓rp14_1, ↓rp14_2, ↓rp14_3, ↓rp8_3, ↓rp8_4, ↓rp8_2, ↓rp17_0, ↓rp17_1, ↓rp5_1, ↓rp5_2, ↓rp25_7, ↓rp25_8, ↓rp25_9, ↓rp25_10, ↓rp25_11, ↓rs12, ↓rs15, ↓rs16, ↓rs19, ↓rs21, ↓rs11, ↓rp0_5, ↓rp0_10, ↓rp0_7, ↓rp0_8, ↓rp0_9, ↓rs3, ↓xb, ↓xr, rl12, rl15, rl16, rl19, rl21, rl24, rl27, rl11, rl3, rl1, rl4, rl7, rl10, rs12, rs15, rs16, rs19, rs21, rs11, rs3, n3, n30, n10, n300, n401, n4p, np1, np2, nI_add, ↓reduceIte]
    | succ d ih =>
      intro k n hk hn
      obtain ⟨n, rfl, hn⟩ := pos_of hn
      have i1 := ih (k + 1) n (by omega) (by omega)
      have hk2 : k < dN x := by omega
      have c1 : ¬ en x 8 k 0 = en x 8 r 0 := by
        intro q
        have e1 := hx.1 8 k 0 (vv8 hk2)
        rw [q, hx.1 8 r 0 (vv8 hr)] at e1
        have := congrArg (fun d : xK => d.2.1) e1
        have : r = k := this
        omega
      simp (disch := first | assumption | omega) only [f_RS_numberOf_h2, f_RS_numberOf_b2, c1, ↓rv0, ↓rg0_0, ↓rg0_1, ↓rg0_2, ↓rg0_3, ↓rg0_4, ↓rg0_5, ↓rg0_6, ↓rg0_7, ↓rg0_8, ↓rg0_9, ↓rg0_10, ↓rv5, ↓rg5_0, ↓rg5_1, ↓rg5_2, ↓rv8, ↓rg8_0, ↓rg8_1, ↓rg8_2, ↓rg8_3, ↓rg8_4, ↓rv9, ↓rg9_0, ↓rg9_1, ↓rg9_2, ↓rg9_3, ↓rv13, ↓rg13_0, ↓rv14, ↓rg14_0, ↓rg14_1, ↓rg14_2, ↓rg14_3, ↓rg14_4, ↓rv17, ↓rg17_0, ↓rg17_1, ↓rg17_2, ↓rg17_3, ↓rv18, ↓rg18_0, ↓rv20, ↓rg20_0, ↓rv22, ↓rg22_0, ↓rg22_1, ↓rg22_2, ↓rg22_3, ↓rg22_4, ↓rv23, ↓rg23_0, ↓rv25, ↓rg25_0, ↓rg25_1, ↓rg25_2, ↓rg25_3, ↓rg25_4, ↓rg25_5, ↓rg25_6, ↓rg25_7, ↓rg25_8, ↓rg25_9, ↓rg25_10, ↓rg25_11, ↓rv26, ↓rg26_0, ↓rl12, ↓rl15, ↓rl16, ↓rl19, ↓rl21, ↓rl24, ↓rl27, ↓rl11, ↓rl3, ↓rl1, ↓rl4, ↓rl7, ↓rl10, ↓ra7, ↓ra10, ↓ra4, ↓rp14_0, ↓rp14_1, ↓rp14_2, ↓rp14_3, ↓rp8_3, ↓rp8_4, ↓rp8_2, ↓rp17_0, ↓rp17_1, ↓rp5_1, ↓rp5_2, ↓rp25_7, ↓rp25_8, ↓rp25_9, ↓rp25_10, ↓rp25_11, ↓rs12, ↓rs15, ↓rs16, ↓rs19, ↓rs21, ↓rs11, ↓rp0_5, ↓rp0_10, ↓rp0_7, ↓rp0_8, ↓rp0_9, ↓rs3, ↓xb, ↓xr, rl12, rl15, rl16, rl19, rl21, rl24, rl27, rl11, rl3, rl1, rl4, rl7, rl10, rs12, rs15, rs16, rs19, rs21, rs11, rs3, n3, n30, n10, n300, n401, n4p, np1, np2, nI_add, ↓reduceIte]
      exact i1
  exact key r 0 1000 (by omega) (by omega)
theorem JW.ans {R k w : Nat} {P r : Nat} (hR : R ≤ 500) (hj : JW R y σ) (hk : k < R) (h0 : σ.2.1 27 k = 0) (hw : cnt σ 0 R = w + 1) : JW R (yw (yn (yn y 1 (y.2.1 1 + 1)) 0 (nI w)) (wsh y.1 (cnt σ 0 k) w)) (ansS P σ r k) := by
  have h27 := ans_st P σ r k
  have hne : σ.2.1 27 k ≠ 1 := by rw [h0]; decide
  have u0 := fun n => cnt_up h27 0 n hne
  have u1 := fun n => cnt_up h27 1 n hne
  have u2 := fun n => cnt_up h27 2 n hne
  simp only [h0, show ((1 : Int32) = 0) = False from eq_false (by decide), show ((0 : Int32) = 1) = False from eq_false (by decide), show ((0 : Int32) = 2) = False from eq_false (by decide), show ((1 : Int32) = 2) = False from eq_false (by decide), and_true, and_false, if_false, Nat.add_zero] at u0 u1 u2
  refine ⟨?_, ?_, ?_, ?_⟩
  · show va_up (va_up y.2.1 1 (y.2.1 1 + 1)) 0 (nI w) 0 = _
    have := u0 R
    rw [if_pos hk] at this
    simp only [va_up, if_true]
    rw [show cnt (ansS P σ r k) 0 R = w by omega]
  · intro j hj2 hj0
    rw [h27] at hj0
    by_cases hjk : j = k
    · subst hjk
      simp [va_up] at hj0
    · simp only [va_up, if_neg hjk] at hj0
      have hy := hj.2.1 j hj2 hj0
      show wsh y.1 (cnt σ 0 k) w (cnt (ansS P σ r k) 0 j) = nI j
      have := u0 j
      have hlt := cnt_lt σ 0 hj2 hj0
      unfold wsh
      by_cases hjk2 : j < k
      · rw [if_neg (by omega), Nat.add_zero] at this
        have := cnt_lt σ 0 hjk2 hj0
        rw [if_neg (by omega), show cnt (ansS P σ r k) 0 j = cnt σ 0 j by omega]
        exact hy
      · rw [if_pos (show k < j by omega)] at this
        have := cnt_lt σ 0 (show k < j by omega) h0
        rw [if_pos (by omega), show cnt (ansS P σ r k) 0 j + 1 = cnt σ 0 j by omega]
        exact hy
  · show va_up (va_up y.2.1 1 (y.2.1 1 + 1)) 0 (nI w) 1 = _
    have := u1 R
    rw [if_pos hk] at this
    simp only [va_up, show ¬ (1 : Nat) = 0 by decide, if_false, if_true]
    rw [hj.2.2.1, np1, this]
  · show va_up (va_up y.2.1 1 (y.2.1 1 + 1)) 0 (nI w) 2 = _
    have := u2 R
    simp only [va_up, show ¬ (2 : Nat) = 0 by decide, show ¬ (2 : Nat) = 1 by decide, if_false]
    rw [hj.2.2.2, this]
/-- rows of references: reads, commands -/
def JR (x : xX) (y : xY) : Prop := ∀ k, k < dR x → y.2.2 3 k = some (en x 25 k 0)
theorem c_look {r : Nat} (hx : Wx x) (hi : Inv0 (dP x) (dN x) (dR x) T (dE x) t σ) (hj : JW (dR x) y σ) (hjr : JR x y) (hr : r < dN x) : ∃ y', f_RS_look (en x 0 0 0) (en x 8 r 0) (er x y σ h) = some (.inl (), er x y' (lookS (dP x) σ r (dR x)) h) ∧ JW (dR x) y' (lookS (dP x) σ r (dR x)) ∧ y'.2.2 = y.2.2 := by
  have hR := hx.2.2.2.2
  have hN4 := hx.2.2.2.1
  have key : ∀ d k n y0, k + d = dR x → d < n → JW (dR x) y0 (lookS (dP x) σ r k) → y0.2.2 = y.2.2 → ∃ y', f_RS_look_h2 n (en x 0 0 0) (en x 8 r 0) (nI (cnt (lookS (dP x) σ r k) 0 k)) (er x y0 (lookS (dP x) σ r k) h) = some (.inl (), er x y' (lookS (dP x) σ r (dR x)) h) ∧ JW (dR x) y' (lookS (dP x) σ r (dR x)) ∧ y'.2.2 = y.2.2 := by
    intro d
    induction d with
    | zero =>
      intro k n y0 hk hn hj0 hy0
      obtain ⟨n, rfl, -⟩ := pos_of hn
      obtain rfl : k = dR x := by omega
      have hc := cnt_le (lookS (dP x) σ r (dR x)) 0 (dR x)
      have c1 : nI (cnt (lookS (dP x) σ r (dR x)) 0 (dR x)) ≤ nI (cnt (lookS (dP x) σ r (dR x)) 0 (dR x)) := nI_le (by omega) (by omega)
      refine ⟨y0, ?_, hj0, hy0⟩
      simp (disch := first | assumption | omega) only [f_RS_look_h2, f_RS_look_b2, hj0.1, c1, ↓rv0, ↓rg0_0, ↓rg0_1, ↓rg0_2, ↓rg0_3, ↓rg0_4, ↓rg0_5, ↓rg0_6, ↓rg0_7, ↓rg0_8, ↓rg0_9, ↓rg0_10, ↓rv5, ↓rg5_0, ↓rg5_1, ↓rg5_2, ↓rv8, ↓rg8_0, ↓rg8_1, ↓rg8_2, ↓rg8_3, ↓rg8_4, ↓rv9, ↓rg9_0, ↓rg9_1, ↓rg9_2, ↓rg9_3, ↓rv13, ↓rg13_0, ↓rv14, ↓rg14_0, ↓rg14_1, ↓rg14_2, ↓rg14_3, ↓rg14_4, ↓rv17, ↓rg17_0, ↓rg17_1, ↓rg17_2, ↓rg17_3, ↓rv18, ↓rg18_0, ↓rv20, ↓rg20_0, ↓rv22, ↓rg22_0, ↓rg22_1, ↓rg22_2, ↓rg22_3, ↓rg22_4, ↓rv23, ↓rg23_0, ↓rv25, ↓rg25_0, ↓rg25_1, ↓rg25_2, ↓rg25_3, ↓rg25_4, ↓rg25_5, ↓rg25_6, ↓rg25_7, ↓rg25_8, ↓rg25_9, ↓rg25_10, ↓rg25_11, ↓rv26, ↓rg26_0, ↓rl12, ↓rl15, ↓rl16, ↓rl19, ↓rl21, ↓rl24, ↓rl27, ↓rl11, ↓rl3, ↓rl1, ↓rl4, ↓rl7, ↓rl10, ↓ra7, ↓ra10, ↓ra4, ↓rp14_0, ↓rp14_1, ↓rp14_2, ↓rp14_3, ↓rp8_3, ↓rp8_4, ↓rp8_2, ↓rp17_0, ↓rp17_1, ↓rp5_1, ↓rp5_2, ↓rp25_7, ↓rp25_8, ↓rp25_9, ↓rp25_10, ↓rp25_11, ↓rs12, ↓rs15, ↓rs16, ↓rs19, ↓rs21, ↓rs11, ↓rp0_5, ↓rp0_10, ↓rp0_7, ↓rp0_8, ↓rp0_9, ↓rs3, ↓xb, ↓xr, rl12, rl15, rl16, rl19, rl21, rl24, rl27, rl11, rl3, rl1, rl4, rl7, rl10, rs12, rs15, rs16, rs19, rs21, rs11, rs3, n3, n30, n10, n300, n401, n4p, np1, np2, nI_add, ↓reduceIte]
    | succ d ih =>
      intro k n y0 hk hn hj0 hy0
      have hk2 : k < dR x := by omega
      have iv := look_inv hi (r := r) (k := k) (by omega) (by omega)
      have w40 := iv.2.2.2.2.2.2.2
      rw [wl_cnt] at w40
      have hlook : lookS (dP x) σ r (k + 1) = if (lookS (dP x) σ r k).2.1 27 k = 0 ∧ mayb (dP x) (lookS (dP x) σ r k) r k = true then ansS (dP x) (lookS (dP x) σ r k) r k else lookS (dP x) σ r k := rfl
      have ih' := ih (k + 1)
      rw [hlook] at ih'
      clear ih hlook
      generalize lookS (dP x) σ r k = τ at *
      by_cases h0 : τ.2.1 27 k = 0
      · obtain ⟨n, rfl, hn⟩ := pos_of hn
        have hlt := cnt_lt τ 0 hk2 h0
        have c1 : ¬ nI (cnt τ 0 (dR x)) ≤ nI (cnt τ 0 k) := nI_ge (by omega) (by omega)
        have hw := hj0.2.1 k hk2 h0
        have hrd : y0.2.2 3 k = some (en x 25 k 0) := by rw [hy0]; exact hjr k hk2
        have l2 := fun (β : Type) (kk : Nat → xM β) => rl2 (σ := τ) (h := h) (kk := kk) hx (show k < 500 by omega) hrd
        have my := c_may (h := h) (y := y0) (σ := τ) hx iv hr hk2
        cases hm : mayb (dP x) τ r k
        · rw [hm, bI_f] at my
          have ih2 := ih' n y0 (by omega) (by omega)
          rw [if_neg (by rw [hm]; simp)] at ih2
          obtain ⟨y', g1, g2, g3⟩ := ih2 hj0 hy0
          refine ⟨y', ?_, g2, g3⟩
          simp (disch := first | assumption | omega) only [f_RS_look_h2, f_RS_look_b2, f_RS_look_b52, hj0.1, c1, hw, l2, my, ↓rv0, ↓rg0_0, ↓rg0_1, ↓rg0_2, ↓rg0_3, ↓rg0_4, ↓rg0_5, ↓rg0_6, ↓rg0_7, ↓rg0_8, ↓rg0_9, ↓rg0_10, ↓rv5, ↓rg5_0, ↓rg5_1, ↓rg5_2, ↓rv8, ↓rg8_0, ↓rg8_1, ↓rg8_2, ↓rg8_3, ↓rg8_4, ↓rv9, ↓rg9_0, ↓rg9_1, ↓rg9_2, ↓rg9_3, ↓rv13, ↓rg13_0, ↓rv14, ↓rg14_0, ↓rg14_1, ↓rg14_2, ↓rg14_3, ↓rg14_4, ↓rv17, ↓rg17_0, ↓rg17_1, ↓rg17_2, ↓rg17_3, ↓rv18, ↓rg18_0, ↓rv20, ↓rg20_0, ↓rv22, ↓rg22_0, ↓rg22_1, ↓rg22_2, ↓rg22_3, ↓rg22_4, ↓rv23, ↓rg23_0, ↓rv25, ↓rg25_0, ↓rg25_1, ↓rg25_2, ↓rg25_3, ↓rg25_4, ↓rg25_5, ↓rg25_6, ↓rg25_7, ↓rg25_8, ↓rg25_9, ↓rg25_10, ↓rg25_11, ↓rv26, ↓rg26_0, ↓rl12, ↓rl15, ↓rl16, ↓rl19, ↓rl21, ↓rl24, ↓rl27, ↓rl11, ↓rl3, ↓rl1, ↓rl4, ↓rl7, ↓rl10, ↓ra7, ↓ra10, ↓ra4, ↓rp14_0, ↓rp14_1, ↓rp14_2, ↓rp14_3, ↓rp8_3, ↓rp8_4, ↓rp8_2, ↓rp17_0, ↓rp17_1, ↓rp5_1, ↓rp5_2, ↓rp25_7, ↓rp25_8, ↓rp25_9, ↓rp25_10, ↓rp25_11, ↓rs12, ↓rs15, ↓rs16, ↓rs19, ↓rs21, ↓rs11, ↓rp0_5, ↓rp0_10, ↓rp0_7, ↓rp0_8, ↓rp0_9, ↓rs3, ↓xb, ↓xr, rl12, rl15, rl16, rl19, rl21, rl24, rl27, rl11, rl3, rl1, rl4, rl7, rl10, rs12, rs15, rs16, rs19, rs21, rs11, rs3, n3, n30, n10, n300, n401, n4p, np1, np2, nI_add, ↓reduceIte]
          have : cnt τ 0 (k + 1) = cnt τ 0 k + 1 := by simp only [cnt, h0, if_true]
          rw [← this]
          exact g1
        · rw [hm, bI_t] at my
          have no := c_numberOf (h := h) (y := y0) (σ := τ) hx hr
          have an := c_answer (h := h) (y := y0) (σ := τ) hx iv hr hk2
          obtain ⟨w, ew⟩ : ∃ w, cnt τ 0 (dR x) = w + 1 := ⟨cnt τ 0 (dR x) - 1, by omega⟩
          have lv := c_leave (h := h) (y := yn y0 1 (y0.2.1 1 + 1)) (σ := ansS (dP x) τ r k) (i := cnt τ 0 k) (w := w) hx (by
            show va_up y0.2.1 1 (y0.2.1 1 + 1) 0 = _
            simp only [va_up, show ¬ (0 : Nat) = 1 by decide, if_false]
            rw [hj0.1, ew]) (by omega) (by omega)
          have ih2 := ih' n (yw (yn (yn y0 1 (y0.2.1 1 + 1)) 0 (nI w)) (wsh y0.1 (cnt τ 0 k) w)) (by omega) (by omega)
          rw [if_pos ⟨h0, hm⟩] at ih2
          obtain ⟨y', g1, g2, g3⟩ := ih2 (hj0.ans hR hk2 h0 ew) hy0
          refine ⟨y', ?_, g2, g3⟩
          simp (disch := first | assumption | omega) only [f_RS_look_h2, f_RS_look_b2, f_RS_look_b52, hj0.1, c1, hw, l2, my, ne10, no, an, lv, ↓rv0, ↓rg0_0, ↓rg0_1, ↓rg0_2, ↓rg0_3, ↓rg0_4, ↓rg0_5, ↓rg0_6, ↓rg0_7, ↓rg0_8, ↓rg0_9, ↓rg0_10, ↓rv5, ↓rg5_0, ↓rg5_1, ↓rg5_2, ↓rv8, ↓rg8_0, ↓rg8_1, ↓rg8_2, ↓rg8_3, ↓rg8_4, ↓rv9, ↓rg9_0, ↓rg9_1, ↓rg9_2, ↓rg9_3, ↓rv13, ↓rg13_0, ↓rv14, ↓rg14_0, ↓rg14_1, ↓rg14_2, ↓rg14_3, ↓rg14_4, ↓rv17, ↓rg17_0, ↓rg17_1, ↓rg17_2, ↓rg17_3, ↓rv18, ↓rg18_0, ↓rv20, ↓rg20_0, ↓rv22, ↓rg22_0, ↓rg22_1, ↓rg22_2, ↓rg22_3, ↓rg22_4, ↓rv23, ↓rg23_0, ↓rv25, ↓rg25_0, ↓rg25_1, ↓rg25_2, ↓rg25_3, ↓rg25_4, ↓rg25_5, ↓rg25_6, ↓rg25_7, ↓rg25_8, ↓rg25_9, ↓rg25_10, ↓rg25_11, ↓rv26, ↓rg26_0, ↓rl12, ↓rl15, ↓rl16, ↓rl19, ↓rl21, ↓rl24, ↓rl27, ↓rl11, ↓rl3, ↓rl1, ↓rl4, ↓rl7, ↓rl10, ↓ra7, ↓ra10, ↓ra4, ↓rp14_0, ↓rp14_1, ↓rp14_2, ↓rp14_3, ↓rp8_3, ↓rp8_4, ↓rp8_2, ↓rp17_0, ↓rp17_1, ↓rp5_1, ↓rp5_2, ↓rp25_7, ↓rp25_8, ↓rp25_9, ↓rp25_10, ↓rp25_11, ↓rs12, ↓rs15, ↓rs16, ↓rs19, ↓rs21, ↓rs11, ↓rp0_5, ↓rp0_10, ↓rp0_7, ↓rp0_8, ↓rp0_9, ↓rs3, ↓xb, ↓xr, rl12, rl15, rl16, rl19, rl21, rl24, rl27, rl11, rl3, rl1, rl4, rl7, rl10, rs12, rs15, rs16, rs19, rs21, rs11, rs3, n3, n30, n10, n300, n401, n4p, np1, np2, nI_add, ↓reduceIte]
          have e2 : cnt (ansS (dP x) τ r k) 0 (k + 1) = cnt τ 0 k := by
            have := cnt_up (ans_st (dP x) τ r k) 0 (k + 1) (by rw [h0]; decide)
            rw [if_pos ⟨by omega, h0⟩, if_neg (fun q => absurd q.2 (by decide))] at this
            simp only [cnt, h0, if_true] at this ⊢
            omega
          rw [e2] at g1
          exact g1
      · have ih2 := ih' n y0 (by omega) (by omega)
        rw [if_neg (fun q => h0 q.1)] at ih2
        obtain ⟨y', g1, g2, g3⟩ := ih2 hj0 hy0
        refine ⟨y', ?_, g2, g3⟩
        have : cnt τ 0 (k + 1) = cnt τ 0 k := by simp only [cnt, h0, if_false, Nat.add_zero]
        rw [this] at g1
        exact g1
  exact key (dR x) 0 1000 y (by omega) (by omega) hj rfl
end XCD
