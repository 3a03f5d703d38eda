/-! the component: ticks -/
section XCF
variable {β : Type} {x : xX} {y y' : xY} {σ σ' : xS} {h : xH} {T : Nat} {t : Nat → Nat}
theorem c_fail {k : Nat} (hx : Wx x) (hk : k < dR x) : f_RS_fail (en x 0 0 0) (en x 25 k 0) (er x y σ h) = some (.inl (), er x (yn y 2 (y.2.1 2 + 1)) (uI (uI σ 27 k 2) 38 k (σ.1 3)) h) := by
  simp (disch := first | assumption | omega) only [f_RS_fail, uI_s, ↓rv0, ↓rg0_0, ↓rg0_1, ↓rg0_2, ↓rg0_3, ↓rg0_4, ↓rg0_5, ↓rg0_6, ↓rg0_7, ↓rg0_8, ↓rg0_9, ↓rg0_10, ↓rv5, ↓rg5_0, ↓rg5_1, ↓rg5_2, ↓rv8, ↓rg8_0, ↓rg8_1, ↓rg8_2, ↓rg8_3, ↓rg8_4, ↓rv9, ↓rg9_0, ↓rg9_1, ↓rg9_2, ↓rg9_3, ↓rv13, ↓rg13_0, ↓rv14, ↓rg14_0, ↓rg14_1, ↓rg14_2, ↓rg14_3, ↓rg14_4, ↓rv17, ↓rg17_0, ↓rg17_1, ↓rg17_2, ↓rg17_3, ↓rv18, ↓rg18_0, ↓rv20, ↓rg20_0, ↓rv22, ↓rg22_0, ↓rg22_1, ↓rg22_2, ↓rg22_3, ↓rg22_4, ↓rv23, ↓rg23_0, ↓rv25, ↓rg25_0, ↓rg25_1, ↓rg25_2, ↓rg25_3, ↓rg25_4, ↓rg25_5, ↓rg25_6, ↓rg25_7, ↓rg25_8, ↓rg25_9, ↓rg25_10, ↓rg25_11, ↓rv26, ↓rg26_0, ↓rl12, ↓rl15, ↓rl16, ↓rl19, ↓rl21, ↓rl24, ↓rl27, ↓rl11, ↓rl3, ↓rl1, ↓rl4, ↓rl7, ↓rl10, ↓ra7, ↓ra10, ↓ra4, ↓rp14_0, ↓rp14_1, ↓rp14_2, ↓rp14_3, ↓rp8_3, ↓rp8_4, ↓rp8_2, ↓rp17_0, ↓rp17_1, ↓rp5_1, ↓rp5_2, ↓rp25_7, ↓rp25_8, ↓rp25_9, ↓rp25_10, ↓rp25_11, ↓rs12, ↓rs15, ↓rs16, ↓rs19, ↓rs21, ↓rs11, ↓rp0_5, ↓rp0_10, ↓rp0_7, ↓rp0_8, ↓rp0_9, ↓rs3, ↓xb, ↓xr, rl12, rl15, rl16, rl19, rl21, rl24, rl27, rl11, rl3, rl1, rl4, rl7, rl10, rs12, rs15, rs16, rs19, rs21, rs11, rs3, n3, n30, n10, n300, n401, n4p, np1, np2, nI_add, ↓reduceIte]
theorem JW.fail {R k w : Nat} (hR : R ≤ 500) (hj : JW R y σ) (hk : k < R) (h0 : σ.2.1 27 k = 0) (hw : cnt σ 0 R = w + 1) (v : Int32) : JW R (yw (yn (yn y 2 (y.2.1 2 + 1)) 0 (nI w)) (wsh y.1 (cnt σ 0 k) w)) (uI (uI σ 27 k 2) 38 k v) := by
  have h27 : (uI (uI σ 27 k 2) 38 k v).2.1 27 = va_up (σ.2.1 27) k 2 := by
    rw [uI_o (by decide)]
    simp [uI, va_up]
  have hne : σ.2.1 27 k ≠ 2 := by rw [h0]; decide
  have u0 := fun n => cnt_up h27 0 n hne
  have u1 := fun n => cnt_up h27 1 n hne
  have u2 := fun n => cnt_up h27 2 n hne
  simp only [h0, show ((2 : Int32) = 0) = False from eq_false (by decide), show ((0 : Int32) = 1) = False from eq_false (by decide), show ((0 : Int32) = 2) = False from eq_false (by decide), show ((2 : Int32) = 1) = False from eq_false (by decide), and_true, and_false, if_false, Nat.add_zero] at u0 u1 u2
  refine ⟨?_, ?_, ?_, ?_⟩
  · show va_up (va_up y.2.1 2 (y.2.1 2 + 1)) 0 (nI w) 0 = _
    have := u0 R
    rw [if_pos hk] at this
    simp only [va_up, if_true]
    rw [show cnt (uI (uI σ 27 k 2) 38 k v) 0 R = w by omega]
  · intro j hj2 hj0
    rw [h27] at hj0
    by_cases hjk : j = k
    · subst hjk
      simp [va_up] at hj0
    · simp only [va_up, if_neg hjk] at hj0
      have hy := hj.2.1 j hj2 hj0
      show wsh y.1 (cnt σ 0 k) w (cnt (uI (uI σ 27 k 2) 38 k v) 0 j) = nI j
      have := u0 j
      have hlt := cnt_lt σ 0 hj2 hj0
      unfold wsh
      by_cases hjk2 : j < k
      · rw [if_neg (by omega), Nat.add_zero] at this
        have := cnt_lt σ 0 hjk2 hj0
        rw [if_neg (by omega), show cnt (uI (uI σ 27 k 2) 38 k v) 0 j = cnt σ 0 j by omega]
        exact hy
      · rw [if_pos (show k < j by omega)] at this
        have := cnt_lt σ 0 (show k < j by omega) h0
        rw [if_pos (by omega), show cnt (uI (uI σ 27 k 2) 38 k v) 0 j + 1 = cnt σ 0 j by omega]
        exact hy
  · show va_up (va_up y.2.1 2 (y.2.1 2 + 1)) 0 (nI w) 1 = _
    have := u1 R
    simp only [va_up, show ¬ (1 : Nat) = 0 by decide, show ¬ (1 : Nat) = 2 by decide, if_false]
    rw [hj.2.2.1, this]
  · show va_up (va_up y.2.1 2 (y.2.1 2 + 1)) 0 (nI w) 2 = _
    have := u2 R
    rw [if_pos hk] at this
    simp only [va_up, show ¬ (2 : Nat) = 0 by decide, if_false, if_true]
    rw [hj.2.2.2, np1, this]
/-- a read's time is over -/
theorem over_iff {a b : Nat} (ha : a ≤ T) (hT : T ≤ 100000) (hb : b ≤ 1000) : lg_cmp ((nI a).toInt64 + (nI b).toInt64) (nI T).toInt64 ≤ 0 ↔ ¬ nI T - nI a < nI b := by
  rw [lg_cmp_le, nI_l (by omega), nI_l (by omega), nI_l (by omega), Int32.lt_iff_toInt_lt, pk_sub_toInt (by omega) (by omega), nI_toInt (by omega), show lN a + lN b = lN (a + b) from (Int64.ofNat_add a b).symm, Int64.le_iff_toInt_le, lN_toInt (by omega), lN_toInt (by omega)]
  omega
theorem fail_hi (σ : xS) (k j : Nat) (hj : k ≤ j) : (failS σ k).2.1 27 j = σ.2.1 27 j := by
  induction k with
  | zero => rfl
  | succ k ih =>
    simp only [failS]
    split
    · rw [uI_o (by decide), uI_i (by omega)]
      exact ih (by omega)
    · exact ih (by omega)
theorem c_fails {k16 : Nat → Int32 → Int32 → Int32 → xM Int32} {l1 l2 l3 : Int32} (hx : Wx x) (hi : Inv (dP x) (dN x) (dR x) T (dE x) t σ) (hj : JW (dR x) y σ) (hjr : JR x y) : ∃ y', f_RS_ticks_h89 k16 1000 (en x 0 0 0) l1 l2 l3 0 (er x y σ h) = k16 (en x 0 0 0) l1 l2 (l3 + 1) (er x y' (failS σ (dR x)) h) ∧ JW (dR x) y' (failS σ (dR x)) ∧ y'.2.2 = y.2.2 := by
  have hR := hx.2.2.2.2
  have hT : σ.1 3 = nI T := hi.1.1.2.2.2.2.2.2.2.2.2
  have hT5 := hi.1.1.2.2.2.2.2.1
  have key : ∀ d k n y0, k + d = dR x → d < n → JW (dR x) y0 (failS σ k) → y0.2.2 = y.2.2 → ∃ y', f_RS_ticks_h89 k16 n (en x 0 0 0) l1 l2 l3 (nI (cnt (failS σ k) 0 k)) (er x y0 (failS σ k) h) = k16 (en x 0 0 0) l1 l2 (l3 + 1) (er x y' (failS σ (dR x)) h) ∧ JW (dR x) y' (failS σ (dR x)) ∧ y'.2.2 = y.2.2 := by
    intro d
    induction d with
    | zero =>
      intro k n y0 hk hn hj0 hy0
      obtain ⟨n, rfl, -⟩ := pos_of hn
      obtain rfl : k = dR x := by omega
      have hc := cnt_le (failS σ (dR x)) 0 (dR x)
      have c1 : nI (cnt (failS σ (dR x)) 0 (dR x)) ≤ nI (cnt (failS σ (dR x)) 0 (dR x)) := nI_le (by omega) (by omega)
      refine ⟨y0, ?_, hj0, hy0⟩
      simp (disch := first | assumption | omega) only [f_RS_ticks_h89, f_RS_ticks_b89, hj0.1, c1, ↓rv0, ↓rg0_0, ↓rg0_1, ↓rg0_2, ↓rg0_3, ↓rg0_4, ↓rg0_5, ↓rg0_6, ↓rg0_7, ↓rg0_8, ↓rg0_9, ↓rg0_10, ↓rv5, ↓rg5_0, ↓rg5_1, ↓rg5_2, ↓rv8, ↓rg8_0, ↓rg8_1, ↓rg8_2, ↓rg8_3, ↓rg8_4, ↓rv9, ↓rg9_0, ↓rg9_1, ↓rg9_2, ↓rg9_3, ↓rv13, ↓rg13_0, ↓rv14, ↓rg14_0, ↓rg14_1, ↓rg14_2, ↓rg14_3, ↓rg14_4, ↓rv17, ↓rg17_0, ↓rg17_1, ↓rg17_2, ↓rg17_3, ↓rv18, ↓rg18_0, ↓rv20, ↓rg20_0, ↓rv22, ↓rg22_0, ↓rg22_1, ↓rg22_2, ↓rg22_3, ↓rg22_4, ↓rv23, ↓rg23_0, ↓rv25, ↓rg25_0, ↓rg25_1, ↓rg25_2, ↓rg25_3, ↓rg25_4, ↓rg25_5, ↓rg25_6, ↓rg25_7, ↓rg25_8, ↓rg25_9, ↓rg25_10, ↓rg25_11, ↓rv26, ↓rg26_0, ↓rl12, ↓rl15, ↓rl16, ↓rl19, ↓rl21, ↓rl24, ↓rl27, ↓rl11, ↓rl3, ↓rl1, ↓rl4, ↓rl7, ↓rl10, ↓ra7, ↓ra10, ↓ra4, ↓rp14_0, ↓rp14_1, ↓rp14_2, ↓rp14_3, ↓rp8_3, ↓rp8_4, ↓rp8_2, ↓rp17_0, ↓rp17_1, ↓rp5_1, ↓rp5_2, ↓rp25_7, ↓rp25_8, ↓rp25_9, ↓rp25_10, ↓rp25_11, ↓rs12, ↓rs15, ↓rs16, ↓rs19, ↓rs21, ↓rs11, ↓rp0_5, ↓rp0_10, ↓rp0_7, ↓rp0_8, ↓rp0_9, ↓rs3, ↓xb, ↓xr, rl12, rl15, rl16, rl19, rl21, rl24, rl27, rl11, rl3, rl1, rl4, rl7, rl10, rs12, rs15, rs16, rs19, rs21, rs11, rs3, n3, n30, n10, n300, n401, n4p, np1, np2, nI_add, ↓reduceIte]
    | succ d ih =>
      intro k n y0 hk hn hj0 hy0
      have hk2 : k < dR x := by omega
      have iv := fail_inv hi k
      have w40 := iv.1.2.2.2.2.2.2.2
      rw [wl_cnt] at w40
      have hfail : failS σ (k + 1) = if (failS σ k).2.1 27 k = 0 ∧ ¬ σ.1 3 - σ.2.1 32 k < σ.2.1 31 k then uI (uI (failS σ k) 27 k 2) 38 k (σ.1 3) else failS σ k := rfl
      have hs := fail_same σ k
      have e32 := hs.2.1 32 (by decide)
      have e31 := hs.2.1 31 (by decide)
      have esc := hs.1
      have ih' := ih (k + 1)
      rw [hfail] at ih'
      clear ih hfail hs
      obtain ⟨-, -, -, -, ⟨a, ha, ea⟩, b, hb, eb⟩ := hi.1.2.2.2.2.2.1 k hk2
      have ov := over_iff (T := T) ha hT5 hb
      generalize failS σ k = τ at *
      by_cases h0 : τ.2.1 27 k = 0
      · obtain ⟨n, rfl, hn⟩ := pos_of hn
        have hlt := cnt_lt τ 0 hk2 h0
        have c1 : ¬ nI (cnt τ 0 (dR x)) ≤ nI (cnt τ 0 k) := nI_ge (by omega) (by omega)
        have hw := hj0.2.1 k hk2 h0
        have hrd : y0.2.2 3 k = some (en x 25 k 0) := by rw [hy0]; exact hjr k hk2
        have l2 := fun (β : Type) (kk : Nat → xM β) => rl2 (σ := τ) (h := h) (kk := kk) hx (show k < 500 by omega) hrd
        by_cases hm : nI T - nI a < nI b
        · have ov' : ¬ lg_cmp ((nI a).toInt64 + (nI b).toInt64) (nI T).toInt64 ≤ 0 := fun q => ov.mp q hm
          have ih2 := ih' n y0 (by omega) (by omega)
          rw [if_neg (by rw [hT, ea, eb]; exact fun q => q.2 hm)] at ih2
          obtain ⟨y', g1, g2, g3⟩ := ih2 hj0 hy0
          refine ⟨y', ?_, g2, g3⟩
          simp (disch := first | assumption | omega) only [f_RS_ticks_h89, f_RS_ticks_b89, f_RS_ticks_b143, hj0.1, c1, hw, l2, e32, e31, esc, hT, ea, eb, ov', ↓rv0, ↓rg0_0, ↓rg0_1, ↓rg0_2, ↓rg0_3, ↓rg0_4, ↓rg0_5, ↓rg0_6, ↓rg0_7, ↓rg0_8, ↓rg0_9, ↓rg0_10, ↓rv5, ↓rg5_0, ↓rg5_1, ↓rg5_2, ↓rv8, ↓rg8_0, ↓rg8_1, ↓rg8_2, ↓rg8_3, ↓rg8_4, ↓rv9, ↓rg9_0, ↓rg9_1, ↓rg9_2, ↓rg9_3, ↓rv13, ↓rg13_0, ↓rv14, ↓rg14_0, ↓rg14_1, ↓rg14_2, ↓rg14_3, ↓rg14_4, ↓rv17, ↓rg17_0, ↓rg17_1, ↓rg17_2, ↓rg17_3, ↓rv18, ↓rg18_0, ↓rv20, ↓rg20_0, ↓rv22, ↓rg22_0, ↓rg22_1, ↓rg22_2, ↓rg22_3, ↓rg22_4, ↓rv23, ↓rg23_0, ↓rv25, ↓rg25_0, ↓rg25_1, ↓rg25_2, ↓rg25_3, ↓rg25_4, ↓rg25_5, ↓rg25_6, ↓rg25_7, ↓rg25_8, ↓rg25_9, ↓rg25_10, ↓rg25_11, ↓rv26, ↓rg26_0, ↓rl12, ↓rl15, ↓rl16, ↓rl19, ↓rl21, ↓rl24, ↓rl27, ↓rl11, ↓rl3, ↓rl1, ↓rl4, ↓rl7, ↓rl10, ↓ra7, ↓ra10, ↓ra4, ↓rp14_0, ↓rp14_1, ↓rp14_2, ↓rp14_3, ↓rp8_3, ↓rp8_4, ↓rp8_2, ↓rp17_0, ↓rp17_1, ↓rp5_1, ↓rp5_2, ↓rp25_7, ↓rp25_8, ↓rp25_9, ↓rp25_10, ↓rp25_11, ↓rs12, ↓rs15, ↓rs16, ↓rs19, ↓rs21, ↓rs11, ↓rp0_5, ↓rp0_10, ↓rp0_7, ↓rp0_8, ↓rp0_9, ↓rs3, ↓xb, ↓xr, rl12, rl15, rl16, rl19, rl21, rl24, rl27, rl11, rl3, rl1, rl4, rl7, rl10, rs12, rs15, rs16, rs19, rs21, rs11, rs3, n3, n30, n10, n300, n401, n4p, np1, np2, nI_add, ↓reduceIte]
          have : cnt τ 0 (k + 1) = cnt τ 0 k + 1 := by simp only [cnt, h0, if_true]
          rw [← this]
          exact g1
        · have ov' : lg_cmp ((nI a).toInt64 + (nI b).toInt64) (nI T).toInt64 ≤ 0 := ov.mpr hm
          have fl := c_fail (h := h) (y := y0) (σ := τ) hx hk2
          obtain ⟨w, ew⟩ : ∃ w, cnt τ 0 (dR x) = w + 1 := ⟨cnt τ 0 (dR x) - 1, by omega⟩
          rw [esc, hT] at fl
          have lv := c_leave (h := h) (y := yn y0 2 (y0.2.1 2 + 1)) (σ := uI (uI τ 27 k 2) 38 k (nI T)) (i := cnt τ 0 k) (w := w) hx (by
            show va_up y0.2.1 2 (y0.2.1 2 + 1) 0 = _
            simp only [va_up, show ¬ (0 : Nat) = 2 by decide, if_false]
            rw [hj0.1, ew]) (by omega) (by omega)
          have ih2 := ih' n (yw (yn (yn y0 2 (y0.2.1 2 + 1)) 0 (nI w)) (wsh y0.1 (cnt τ 0 k) w)) (by omega) (by omega)
          rw [if_pos ⟨h0, by rw [hT, ea, eb]; exact hm⟩, hT] at ih2
          obtain ⟨y', g1, g2, g3⟩ := ih2 (hj0.fail hR hk2 h0 ew _) hy0
          refine ⟨y', ?_, g2, g3⟩
          simp (disch := first | assumption | omega) only [f_RS_ticks_h89, f_RS_ticks_b89, f_RS_ticks_b143, hj0.1, c1, hw, l2, e32, e31, esc, hT, ea, eb, ov', fl, lv, ↓rv0, ↓rg0_0, ↓rg0_1, ↓rg0_2, ↓rg0_3, ↓rg0_4, ↓rg0_5, ↓rg0_6, ↓rg0_7, ↓rg0_8, ↓rg0_9, ↓rg0_10, ↓rv5, ↓rg5_0, ↓rg5_1, ↓rg5_2, ↓rv8, ↓rg8_0, ↓rg8_1, ↓rg8_2, ↓rg8_3, ↓rg8_4, ↓rv9, ↓rg9_0, ↓rg9_1, ↓rg9_2, ↓rg9_3, ↓rv13, ↓rg13_0, ↓rv14, ↓rg14_0, ↓rg14_1, ↓rg14_2, ↓rg14_3, ↓rg14_4, ↓rv17, ↓rg17_0, ↓rg17_1, ↓rg17_2, ↓rg17_3, ↓rv18, ↓rg18_0, ↓rv20, ↓rg20_0, ↓rv22, ↓rg22_0, ↓rg22_1, ↓rg22_2, ↓rg22_3, ↓rg22_4, ↓rv23, ↓rg23_0, ↓rv25, ↓rg25_0, ↓rg25_1, ↓rg25_2, ↓rg25_3, ↓rg25_4, ↓rg25_5, ↓rg25_6, ↓rg25_7, ↓rg25_8, ↓rg25_9, ↓rg25_10, ↓rg25_11, ↓rv26, ↓rg26_0, ↓rl12, ↓rl15, ↓rl16, ↓rl19, ↓rl21, ↓rl24, ↓rl27, ↓rl11, ↓rl3, ↓rl1, ↓rl4, ↓rl7, ↓rl10, ↓ra7, ↓ra10, ↓ra4, ↓rp14_0, ↓rp14_1, ↓rp14_2, ↓rp14_3, ↓rp8_3, ↓rp8_4, ↓rp8_2, ↓rp17_0, ↓rp17_1, ↓rp5_1, ↓rp5_2, ↓rp25_7, ↓rp25_8, ↓rp25_9, ↓rp25_10, ↓rp25_11, ↓rs12, ↓rs15, ↓rs16, ↓rs19, ↓rs21, ↓rs11, ↓rp0_5, ↓rp0_10, ↓rp0_7, ↓rp0_8, ↓rp0_9, ↓rs3, ↓xb, ↓xr, rl12, rl15, rl16, rl19, rl21, rl24, rl27, rl11, rl3, rl1, rl4, rl7, rl10, rs12, rs15, rs16, rs19, rs21, rs11, rs3, n3, n30, n10, n300, n401, n4p, np1, np2, nI_add, ↓reduceIte]
          have e2 : cnt (uI (uI τ 27 k 2) 38 k (nI T)) 0 (k + 1) = cnt τ 0 k := by
            have := cnt_up (σ := τ) (τ := uI (uI τ 27 k 2) 38 k (nI T)) (k := k) (w := 2) (by rw [uI_o (by decide)]; simp [uI, va_up]) 0 (k + 1) (by rw [h0]; decide)
            rw [if_pos ⟨by omega, h0⟩, if_neg (fun q => absurd q.2 (by decide))] at this
            have e3 : cnt τ 0 (k + 1) = cnt τ 0 k + 1 := by simp only [cnt, h0, if_true]
            omega
          rw [e2] at g1
          exact g1
      · have ih2 := ih' n y0 (by omega) (by omega)
        rw [if_neg (fun q => h0 q.1)] at ih2
        obtain ⟨y', g1, g2, g3⟩ := ih2 hj0 hy0
        refine ⟨y', ?_, g2, g3⟩
        have : cnt τ 0 (k + 1) = cnt τ 0 k := by simp only [cnt, h0, if_false, Nat.add_zero]
        rw [this] at g1
        exact g1
  exact key (dR x) 0 1000 y (by omega) (by omega) hj rfl
theorem cnt_c {τ : xS} (h27 : τ.2.1 27 = σ.2.1 27) (v : Int32) (n : Nat) : cnt τ v n = cnt σ v n := by
  induction n with
  | zero => rfl
  | succ n ih => simp only [cnt, ih, h27]
theorem JW.st {τ : xS} {R : Nat} (h27 : τ.2.1 27 = σ.2.1 27) (hj : JW R y σ) : JW R y τ := by
  unfold JW
  simp only [cnt_c h27, h27]
  exact hj
theorem c_tick {k16 : Nat → Int32 → Int32 → Int32 → xM Int32} {l1 l2 l3 : Int32} (hx : Wx x) (hi : Inv (dP x) (dN x) (dR x) T (dE x) t σ) (hT : T + 1 ≤ 100000) (hj : JW (dR x) y σ) (hjr : JR x y) (hjl : JL x y t) : ∃ y', f_RS_ticks_h45 k16 1000 (en x 0 0 0) l1 l2 l3 (en x 7 0 0) (nI (dN x)) 0 (er x y (uS σ 3 (σ.1 3 + 1)) h) = k16 (en x 0 0 0) l1 (l2 + (tickS (dP x) (dN x) (dR x) σ).1) (l3 + 1) (er x y' (tickS (dP x) (dN x) (dR x) σ).2 h) ∧ JW (dR x) y' (tickS (dP x) (dN x) (dR x) σ).2 ∧ y'.2.2 = y.2.2 := by
  have i0 := time_inv hi hT
  have hN := hi.1.1.2.2.2.1
  have hP3 := hi.1.1.2.1
  have eT : σ.1 3 + 1 = nI (T + 1) := by rw [hi.1.1.2.2.2.2.2.2.2.2.2, np1]
  unfold tickS
  rw [eT]
  have key : ∀ d r n y0, r + d = dN x → d < n → JW (dR x) y0 (trS (dP x) (uS σ 3 (nI (T + 1))) r).2 → y0.2.2 = y.2.2 → ∃ y', f_RS_ticks_h45 k16 n (en x 0 0 0) l1 (l2 + (trS (dP x) (uS σ 3 (nI (T + 1))) r).1) l3 (en x 7 0 0) (nI (dN x)) (nI r) (er x y0 (trS (dP x) (uS σ 3 (nI (T + 1))) r).2 h) = k16 (en x 0 0 0) l1 (l2 + (trS (dP x) (uS σ 3 (nI (T + 1))) (dN x)).1) (l3 + 1) (er x y' (failS (trS (dP x) (uS σ 3 (nI (T + 1))) (dN x)).2 (dR x)) h) ∧ JW (dR x) y' (failS (trS (dP x) (uS σ 3 (nI (T + 1))) (dN x)).2 (dR x)) ∧ y'.2.2 = y.2.2 := by
    intro d
    induction d with
    | zero =>
      intro r n y0 hr hn hj0 hy0
      obtain ⟨n, rfl, -⟩ := pos_of hn
      obtain rfl : r = dN x := by omega
      have c1 : nI (dN x) ≤ nI (dN x) := nI_le (by omega) (by omega)
      have iv := tr_inv i0 (dN x) (Nat.le_refl _)
      have hjr0 : JR x y0 := fun k hk => by rw [hy0]; exact hjr k hk
      obtain ⟨y', g1, g2, g3⟩ := c_fails (h := h) (k16 := k16) (l1 := l1) (l2 := l2 + (trS (dP x) (uS σ 3 (nI (T + 1))) (dN x)).1) (l3 := l3) hx iv hj0 hjr0
      refine ⟨y', ?_, g2, g3.trans hy0⟩
      simp only [f_RS_ticks_h45, f_RS_ticks_b45, c1, ↓reduceIte]
      exact g1
    | succ d ih =>
      intro r n y0 hr hn hj0 hy0
      obtain ⟨n, rfl, hn⟩ := pos_of hn
      have hr2 : r < dN x := by omega
      have c1 : ¬ nI (dN x) ≤ nI r := nI_ge (by omega) (by omega)
      have iv := tr_inv i0 r (by omega)
      have hjr0 : JR x y0 := fun k hk => by rw [hy0]; exact hjr k hk
      have hjl0 : JL x y0 t := fun q hq j hj => by rw [hy0]; exact hjl q hq j hj
      have htr : trS (dP x) (uS σ 3 (nI (T + 1))) (r + 1) = ((trS (dP x) (uS σ 3 (nI (T + 1))) r).1 + nI (hur (dP x) (trS (dP x) (uS σ 3 (nI (T + 1))) r).2 r).1, (hur (dP x) (trS (dP x) (uS σ 3 (nI (T + 1))) r).2 r).2) := rfl
      have ih' := ih (r + 1)
      rw [htr] at ih'
      clear ih htr
      generalize trS (dP x) (uS σ 3 (nI (T + 1))) r = A at *
      by_cases hup : A.2.2.1 21 r = 0
      · have hu : hur (dP x) A.2 r = (0, A.2) := by
          unfold hur
          have : ∀ n p, hurS (dP x) r (n + 1) A.2 0 0 p = (0, A.2) := fun n p => by
            simp only [hurS]
            rw [if_pos (Or.inl hup)]
          exact this 999 _
        rw [hu] at ih'
        obtain ⟨y', g1, g2, g3⟩ := ih' n y0 (by omega) (by omega) hj0 hy0
        refine ⟨y', ?_, g2, g3⟩
        simp (disch := first | assumption | omega) only [f_RS_ticks_h45, f_RS_ticks_b45, f_RS_ticks_b78, c1, hup, ↓rv0, ↓rg0_0, ↓rg0_1, ↓rg0_2, ↓rg0_3, ↓rg0_4, ↓rg0_5, ↓rg0_6, ↓rg0_7, ↓rg0_8, ↓rg0_9, ↓rg0_10, ↓rv5, ↓rg5_0, ↓rg5_1, ↓rg5_2, ↓rv8, ↓rg8_0, ↓rg8_1, ↓rg8_2, ↓rg8_3, ↓rg8_4, ↓rv9, ↓rg9_0, ↓rg9_1, ↓rg9_2, ↓rg9_3, ↓rv13, ↓rg13_0, ↓rv14, ↓rg14_0, ↓rg14_1, ↓rg14_2, ↓rg14_3, ↓rg14_4, ↓rv17, ↓rg17_0, ↓rg17_1, ↓rg17_2, ↓rg17_3, ↓rv18, ↓rg18_0, ↓rv20, ↓rg20_0, ↓rv22, ↓rg22_0, ↓rg22_1, ↓rg22_2, ↓rg22_3, ↓rg22_4, ↓rv23, ↓rg23_0, ↓rv25, ↓rg25_0, ↓rg25_1, ↓rg25_2, ↓rg25_3, ↓rg25_4, ↓rg25_5, ↓rg25_6, ↓rg25_7, ↓rg25_8, ↓rg25_9, ↓rg25_10, ↓rg25_11, ↓rv26, ↓rg26_0, ↓rl12, ↓rl15, ↓rl16, ↓rl19, ↓rl21, ↓rl24, ↓rl27, ↓rl11, ↓rl3, ↓rl1, ↓rl4, ↓rl7, ↓rl10, ↓ra7, ↓ra10, ↓ra4, ↓rp14_0, ↓rp14_1, ↓rp14_2, ↓rp14_3, ↓rp8_3, ↓rp8_4, ↓rp8_2, ↓rp17_0, ↓rp17_1, ↓rp5_1, ↓rp5_2, ↓rp25_7, ↓rp25_8, ↓rp25_9, ↓rp25_10, ↓rp25_11, ↓rs12, ↓rs15, ↓rs16, ↓rs19, ↓rs21, ↓rs11, ↓rp0_5, ↓rp0_10, ↓rp0_7, ↓rp0_8, ↓rp0_9, ↓rs3, ↓xb, ↓xr, rl12, rl15, rl16, rl19, rl21, rl24, rl27, rl11, rl3, rl1, rl4, rl7, rl10, rs12, rs15, rs16, rs19, rs21, rs11, rs3, n3, n30, n10, n300, n401, n4p, np1, np2, nI_add, ↓reduceIte]
        rw [nI_0, Int32.add_zero] at g1
        rw [Int32.add_zero]
        exact g1
      · obtain ⟨y1, hu, hj1, hy1⟩ := c_hurry (h := h) hx iv hj0 hjr0 hjl0 hr2 hup
        obtain ⟨y', g1, g2, g3⟩ := ih' n y1 (by omega) (by omega) hj1 (hy1.trans hy0)
        refine ⟨y', ?_, g2, g3⟩
        simp (disch := first | assumption | omega) only [f_RS_ticks_h45, f_RS_ticks_b45, f_RS_ticks_b78, c1, hup, hu, ↓rv0, ↓rg0_0, ↓rg0_1, ↓rg0_2, ↓rg0_3, ↓rg0_4, ↓rg0_5, ↓rg0_6, ↓rg0_7, ↓rg0_8, ↓rg0_9, ↓rg0_10, ↓rv5, ↓rg5_0, ↓rg5_1, ↓rg5_2, ↓rv8, ↓rg8_0, ↓rg8_1, ↓rg8_2, ↓rg8_3, ↓rg8_4, ↓rv9, ↓rg9_0, ↓rg9_1, ↓rg9_2, ↓rg9_3, ↓rv13, ↓rg13_0, ↓rv14, ↓rg14_0, ↓rg14_1, ↓rg14_2, ↓rg14_3, ↓rg14_4, ↓rv17, ↓rg17_0, ↓rg17_1, ↓rg17_2, ↓rg17_3, ↓rv18, ↓rg18_0, ↓rv20, ↓rg20_0, ↓rv22, ↓rg22_0, ↓rg22_1, ↓rg22_2, ↓rg22_3, ↓rg22_4, ↓rv23, ↓rg23_0, ↓rv25, ↓rg25_0, ↓rg25_1, ↓rg25_2, ↓rg25_3, ↓rg25_4, ↓rg25_5, ↓rg25_6, ↓rg25_7, ↓rg25_8, ↓rg25_9, ↓rg25_10, ↓rg25_11, ↓rv26, ↓rg26_0, ↓rl12, ↓rl15, ↓rl16, ↓rl19, ↓rl21, ↓rl24, ↓rl27, ↓rl11, ↓rl3, ↓rl1, ↓rl4, ↓rl7, ↓rl10, ↓ra7, ↓ra10, ↓ra4, ↓rp14_0, ↓rp14_1, ↓rp14_2, ↓rp14_3, ↓rp8_3, ↓rp8_4, ↓rp8_2, ↓rp17_0, ↓rp17_1, ↓rp5_1, ↓rp5_2, ↓rp25_7, ↓rp25_8, ↓rp25_9, ↓rp25_10, ↓rp25_11, ↓rs12, ↓rs15, ↓rs16, ↓rs19, ↓rs21, ↓rs11, ↓rp0_5, ↓rp0_10, ↓rp0_7, ↓rp0_8, ↓rp0_9, ↓rs3, ↓xb, ↓xr, rl12, rl15, rl16, rl19, rl21, rl24, rl27, rl11, rl3, rl1, rl4, rl7, rl10, rs12, rs15, rs16, rs19, rs21, rs11, rs3, n3, n30, n10, n300, n401, n4p, np1, np2, nI_add, ↓reduceIte]
        rw [← Int32.add_assoc] at g1
        exact g1
  have hj0 : JW (dR x) y (uS σ 3 (nI (T + 1))) := JW.st (σ := σ) rfl hj
  have k0 := key (dN x) 0 1000 y (by omega) (by omega) hj0 rfl
  obtain ⟨y', g1, g2, g3⟩ := k0
  refine ⟨y', ?_, g2, g3⟩
  have e : l2 + (trS (dP x) (uS σ 3 (nI (T + 1))) 0).1 = l2 := Int32.add_zero _
  rw [e] at g1
  exact g1
theorem c_ticks {n : Nat} (hx : Wx x) (hi : Inv (dP x) (dN x) (dR x) T (dE x) t σ) (hn : n ≤ 100) (hT : T + n ≤ 100000) (hj : JW (dR x) y σ) (hjr : JR x y) (hjl : JL x y t) : ∃ y', f_RS_ticks (en x 0 0 0) (nI n) (er x y σ h) = some (.inl (ticksS (dP x) (dN x) (dR x) σ n).1, er x y' (ticksS (dP x) (dN x) (dR x) σ n).2 h) ∧ JW (dR x) y' (ticksS (dP x) (dN x) (dR x) σ n).2 ∧ y'.2.2 = y.2.2 := by
  have h1 : inb (nI n).toInt64 0 100 = true := inb_nI (n := 101) (by omega) (by omega) (by decide)
  have key : ∀ d k f y0, k + d = n → d < f → JW (dR x) y0 (ticksS (dP x) (dN x) (dR x) σ k).2 → y0.2.2 = y.2.2 → ∃ y', f_RS_ticks_h16 f (en x 0 0 0) (nI n) (ticksS (dP x) (dN x) (dR x) σ k).1 (nI k) (er x y0 (ticksS (dP x) (dN x) (dR x) σ k).2 h) = some (.inl (ticksS (dP x) (dN x) (dR x) σ n).1, er x y' (ticksS (dP x) (dN x) (dR x) σ n).2 h) ∧ JW (dR x) y' (ticksS (dP x) (dN x) (dR x) σ n).2 ∧ y'.2.2 = y.2.2 := by
    intro d
    induction d with
    | zero =>
      intro k f y0 hk hf hj0 hy0
      obtain ⟨f, rfl, -⟩ := pos_of hf
      obtain rfl : k = n := by omega
      have c1 : nI k ≤ nI k := nI_le (by omega) (by omega)
      refine ⟨y0, ?_, hj0, hy0⟩
      simp only [f_RS_ticks_h16, f_RS_ticks_b16, c1, ↓reduceIte, xr]
    | succ d ih =>
      intro k f y0 hk hf hj0 hy0
      obtain ⟨f, rfl, hf⟩ := pos_of hf
      have c1 : ¬ nI n ≤ nI k := nI_ge (by omega) (by omega)
      have iv := ticks_inv hi k (by omega)
      have hjr0 : JR x y0 := fun k hk => by rw [hy0]; exact hjr k hk
      have hjl0 : JL x y0 t := fun q hq j hj => by rw [hy0]; exact hjl q hq j hj
      obtain ⟨y1, g1, hj1, hy1⟩ := c_tick (h := h) (k16 := f_RS_ticks_h16 f) (l1 := nI n) (l2 := (ticksS (dP x) (dN x) (dR x) σ k).1) (l3 := nI k) hx iv (by omega) hj0 hjr0 hjl0
      obtain ⟨y', g2, g3, g4⟩ := ih (k + 1) f y1 (by omega) (by omega) hj1 (hy1.trans hy0)
      refine ⟨y', ?_, g3, g4⟩
      have e3 : (ticksS (dP x) (dN x) (dR x) σ k).2.1 3 = nI (T + k) := iv.1.1.2.2.2.2.2.2.2.2.2
      have el : (nI (T + k)).toInt64 + 1 = (nI (T + k + 1)).toInt64 := by
        rw [nI_l (by omega), nI_l (by omega)]
        exact (Int64.ofNat_add (T + k) 1).symm
      rw [e3, np1] at g1
      simp (disch := first | assumption | omega) only [f_RS_ticks_h16, f_RS_ticks_b16, c1, e3, el, ↓rv0, ↓rg0_0, ↓rg0_1, ↓rg0_2, ↓rg0_3, ↓rg0_4, ↓rg0_5, ↓rg0_6, ↓rg0_7, ↓rg0_8, ↓rg0_9, ↓rg0_10, ↓rv5, ↓rg5_0, ↓rg5_1, ↓rg5_2, ↓rv8, ↓rg8_0, ↓rg8_1, ↓rg8_2, ↓rg8_3, ↓rg8_4, ↓rv9, ↓rg9_0, ↓rg9_1, ↓rg9_2, ↓rg9_3, ↓rv13, ↓rg13_0, ↓rv14, ↓rg14_0, ↓rg14_1, ↓rg14_2, ↓rg14_3, ↓rg14_4, ↓rv17, ↓rg17_0, ↓rg17_1, ↓rg17_2, ↓rg17_3, ↓rv18, ↓rg18_0, ↓rv20, ↓rg20_0, ↓rv22, ↓rg22_0, ↓rg22_1, ↓rg22_2, ↓rg22_3, ↓rg22_4, ↓rv23, ↓rg23_0, ↓rv25, ↓rg25_0, ↓rg25_1, ↓rg25_2, ↓rg25_3, ↓rg25_4, ↓rg25_5, ↓rg25_6, ↓rg25_7, ↓rg25_8, ↓rg25_9, ↓rg25_10, ↓rg25_11, ↓rv26, ↓rg26_0, ↓rl12, ↓rl15, ↓rl16, ↓rl19, ↓rl21, ↓rl24, ↓rl27, ↓rl11, ↓rl3, ↓rl1, ↓rl4, ↓rl7, ↓rl10, ↓ra7, ↓ra10, ↓ra4, ↓rp14_0, ↓rp14_1, ↓rp14_2, ↓rp14_3, ↓rp8_3, ↓rp8_4, ↓rp8_2, ↓rp17_0, ↓rp17_1, ↓rp5_1, ↓rp5_2, ↓rp25_7, ↓rp25_8, ↓rp25_9, ↓rp25_10, ↓rp25_11, ↓rs12, ↓rs15, ↓rs16, ↓rs19, ↓rs21, ↓rs11, ↓rp0_5, ↓rp0_10, ↓rp0_7, ↓rp0_8, ↓rp0_9, ↓rs3, ↓xb, ↓xr, rl12, rl15, rl16, rl19, rl21, rl24, rl27, rl11, rl3, rl1, rl4, rl7, rl10, rs12, rs15, rs16, rs19, rs21, rs11, rs3, n3, n30, n10, n300, n401, n4p, np1, np2, nI_add, ↓reduceIte]
      rw [g1, np1]
      exact g2
  obtain ⟨y', g1, g2, g3⟩ := key n 0 1000 y (by omega) (by omega) hj rfl
  refine ⟨y', ?_, g2, g3⟩
  unfold f_RS_ticks
  rw [xb_ok (c_in _ _ _), h1, bI_t, xb_ok c_want_ok]
  exact g1
end XCF
