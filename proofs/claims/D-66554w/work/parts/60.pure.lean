/-! the component: steps, ticks -/
/-- the logs' rows -/
def JL (x : xX) (y : xY) (t : Nat → Nat) : Prop := ∀ p, p < dP x → ∀ j, j < 400 → y.2.2 p j = if t p ≤ j ∧ j < dE x p then some (en x 22 p (j + 1)) else none
section XCE
variable {β : Type} {x : xX} {y y' : xY} {σ σ' : xS} {h : xH} {T : Nat} {t : Nat → Nat}
theorem c_take {s p j : Nat} (hx : Wx x) (hs : sv x s) (hp : p < dP x) (hj : 1 ≤ j ∧ j ≤ dE x p) (hi : ∃ i, i < 30 ∧ σ.2.1 7 (401 * p + j) = nI i) (hc : ∃ c, c < 10 ∧ σ.2.1 8 (401 * p + j) = nI c) : f_St_take (en x 9 s 0) (en x 22 p j) (er x y σ h) = some (.inl (), er x y (takeS σ s (401 * p + j)) h) := by
  obtain ⟨i, hi, ei⟩ := hi
  obtain ⟨c, hc, ec⟩ := hc
  unfold takeS
  rw [ei, ec, cn_nI (by omega), cn_nI (by omega)]
  by_cases h0 : σ.2.1 6 (401 * p + j) = 0
  · by_cases h1 : 100000 < σ.2.1 11 (30 * s + i) + σ.2.1 9 (401 * p + j)
    · simp (disch := first | assumption | omega) only [f_St_take, f_St_take_b212, ei, ec, h0, h1, ↓rv0, ↓rg0_0, ↓rg0_1, ↓rg0_2, ↓rg0_3, ↓rg0_4, ↓rg0_5, ↓rg0_6, ↓rg0_7, ↓rg0_8, ↓rg0_9, ↓rg0_10, ↓rv5, ↓rg5_0, ↓rg5_1, ↓rg5_2, ↓rv8, ↓rg8_0, ↓rg8_1, ↓rg8_2, ↓rg8_3, ↓rg8_4, ↓rv9, ↓rg9_0, ↓rg9_1, ↓rg9_2, ↓rg9_3, ↓rv13, ↓rg13_0, ↓rv14, ↓rg14_0, ↓rg14_1, ↓rg14_2, ↓rg14_3, ↓rg14_4, ↓rv17, ↓rg17_0, ↓rg17_1, ↓rg17_2, ↓rg17_3, ↓rv18, ↓rg18_0, ↓rv20, ↓rg20_0, ↓rv22, ↓rg22_0, ↓rg22_1, ↓rg22_2, ↓rg22_3, ↓rg22_4, ↓rv23, ↓rg23_0, ↓rv25, ↓rg25_0, ↓rg25_1, ↓rg25_2, ↓rg25_3, ↓rg25_4, ↓rg25_5, ↓rg25_6, ↓rg25_7, ↓rg25_8, ↓rg25_9, ↓rg25_10, ↓rg25_11, ↓rv26, ↓rg26_0, ↓rl12, ↓rl15, ↓rl16, ↓rl19, ↓rl21, ↓rl24, ↓rl27, ↓rl11, ↓rl3, ↓rl1, ↓rl4, ↓rl7, ↓rl10, ↓ra7, ↓ra10, ↓ra4, ↓rp14_0, ↓rp14_1, ↓rp14_2, ↓rp14_3, ↓rp8_3, ↓rp8_4, ↓rp8_2, ↓rp17_0, ↓rp17_1, ↓rp5_1, ↓rp5_2, ↓rp25_7, ↓rp25_8, ↓rp25_9, ↓rp25_10, ↓rp25_11, ↓rs12, ↓rs15, ↓rs16, ↓rs19, ↓rs21, ↓rs11, ↓rp0_5, ↓rp0_10, ↓rp0_7, ↓rp0_8, ↓rp0_9, ↓rs3, ↓xb, ↓xr, rl12, rl15, rl16, rl19, rl21, rl24, rl27, rl11, rl3, rl1, rl4, rl7, rl10, rs12, rs15, rs16, rs19, rs21, rs11, rs3, n3, n30, n10, n300, n401, n4p, np1, np2, nI_add, ↓reduceIte]
    · simp (disch := first | assumption | omega) only [f_St_take, f_St_take_b212, ei, ec, h0, h1, ↓rv0, ↓rg0_0, ↓rg0_1, ↓rg0_2, ↓rg0_3, ↓rg0_4, ↓rg0_5, ↓rg0_6, ↓rg0_7, ↓rg0_8, ↓rg0_9, ↓rg0_10, ↓rv5, ↓rg5_0, ↓rg5_1, ↓rg5_2, ↓rv8, ↓rg8_0, ↓rg8_1, ↓rg8_2, ↓rg8_3, ↓rg8_4, ↓rv9, ↓rg9_0, ↓rg9_1, ↓rg9_2, ↓rg9_3, ↓rv13, ↓rg13_0, ↓rv14, ↓rg14_0, ↓rg14_1, ↓rg14_2, ↓rg14_3, ↓rg14_4, ↓rv17, ↓rg17_0, ↓rg17_1, ↓rg17_2, ↓rg17_3, ↓rv18, ↓rg18_0, ↓rv20, ↓rg20_0, ↓rv22, ↓rg22_0, ↓rg22_1, ↓rg22_2, ↓rg22_3, ↓rg22_4, ↓rv23, ↓rg23_0, ↓rv25, ↓rg25_0, ↓rg25_1, ↓rg25_2, ↓rg25_3, ↓rg25_4, ↓rg25_5, ↓rg25_6, ↓rg25_7, ↓rg25_8, ↓rg25_9, ↓rg25_10, ↓rg25_11, ↓rv26, ↓rg26_0, ↓rl12, ↓rl15, ↓rl16, ↓rl19, ↓rl21, ↓rl24, ↓rl27, ↓rl11, ↓rl3, ↓rl1, ↓rl4, ↓rl7, ↓rl10, ↓ra7, ↓ra10, ↓ra4, ↓rp14_0, ↓rp14_1, ↓rp14_2, ↓rp14_3, ↓rp8_3, ↓rp8_4, ↓rp8_2, ↓rp17_0, ↓rp17_1, ↓rp5_1, ↓rp5_2, ↓rp25_7, ↓rp25_8, ↓rp25_9, ↓rp25_10, ↓rp25_11, ↓rs12, ↓rs15, ↓rs16, ↓rs19, ↓rs21, ↓rs11, ↓rp0_5, ↓rp0_10, ↓rp0_7, ↓rp0_8, ↓rp0_9, ↓rs3, ↓xb, ↓xr, rl12, rl15, rl16, rl19, rl21, rl24, rl27, rl11, rl3, rl1, rl4, rl7, rl10, rs12, rs15, rs16, rs19, rs21, rs11, rs3, n3, n30, n10, n300, n401, n4p, np1, np2, nI_add, ↓reduceIte]
  by_cases h1 : σ.2.1 6 (401 * p + j) = 1
  · by_cases h2 : σ.2.1 11 (30 * s + i) - σ.2.1 12 (30 * s + i) < σ.2.1 9 (401 * p + j)
    · have h2' : ¬ σ.2.1 9 (401 * p + j) ≤ σ.2.1 11 (30 * s + i) - σ.2.1 12 (30 * s + i) := by rw [Int32.not_le]; exact h2
      simp (disch := first | assumption | omega) only [f_St_take, f_St_take_b212, ei, ec, h1, h2, h2', ne10, ↓rv0, ↓rg0_0, ↓rg0_1, ↓rg0_2, ↓rg0_3, ↓rg0_4, ↓rg0_5, ↓rg0_6, ↓rg0_7, ↓rg0_8, ↓rg0_9, ↓rg0_10, ↓rv5, ↓rg5_0, ↓rg5_1, ↓rg5_2, ↓rv8, ↓rg8_0, ↓rg8_1, ↓rg8_2, ↓rg8_3, ↓rg8_4, ↓rv9, ↓rg9_0, ↓rg9_1, ↓rg9_2, ↓rg9_3, ↓rv13, ↓rg13_0, ↓rv14, ↓rg14_0, ↓rg14_1, ↓rg14_2, ↓rg14_3, ↓rg14_4, ↓rv17, ↓rg17_0, ↓rg17_1, ↓rg17_2, ↓rg17_3, ↓rv18, ↓rg18_0, ↓rv20, ↓rg20_0, ↓rv22, ↓rg22_0, ↓rg22_1, ↓rg22_2, ↓rg22_3, ↓rg22_4, ↓rv23, ↓rg23_0, ↓rv25, ↓rg25_0, ↓rg25_1, ↓rg25_2, ↓rg25_3, ↓rg25_4, ↓rg25_5, ↓rg25_6, ↓rg25_7, ↓rg25_8, ↓rg25_9, ↓rg25_10, ↓rg25_11, ↓rv26, ↓rg26_0, ↓rl12, ↓rl15, ↓rl16, ↓rl19, ↓rl21, ↓rl24, ↓rl27, ↓rl11, ↓rl3, ↓rl1, ↓rl4, ↓rl7, ↓rl10, ↓ra7, ↓ra10, ↓ra4, ↓rp14_0, ↓rp14_1, ↓rp14_2, ↓rp14_3, ↓rp8_3, ↓rp8_4, ↓rp8_2, ↓rp17_0, ↓rp17_1, ↓rp5_1, ↓rp5_2, ↓rp25_7, ↓rp25_8, ↓rp25_9, ↓rp25_10, ↓rp25_11, ↓rs12, ↓rs15, ↓rs16, ↓rs19, ↓rs21, ↓rs11, ↓rp0_5, ↓rp0_10, ↓rp0_7, ↓rp0_8, ↓rp0_9, ↓rs3, ↓xb, ↓xr, rl12, rl15, rl16, rl19, rl21, rl24, rl27, rl11, rl3, rl1, rl4, rl7, rl10, rs12, rs15, rs16, rs19, rs21, rs11, rs3, n3, n30, n10, n300, n401, n4p, np1, np2, nI_add, ↓reduceIte]
    · have h2' : σ.2.1 9 (401 * p + j) ≤ σ.2.1 11 (30 * s + i) - σ.2.1 12 (30 * s + i) := by rw [← Int32.not_lt]; exact h2
      simp (disch := first | assumption | omega) only [f_St_take, f_St_take_b212, f_St_hold, ei, ec, h1, h2, h2', ne10, uI_o, ↓rv0, ↓rg0_0, ↓rg0_1, ↓rg0_2, ↓rg0_3, ↓rg0_4, ↓rg0_5, ↓rg0_6, ↓rg0_7, ↓rg0_8, ↓rg0_9, ↓rg0_10, ↓rv5, ↓rg5_0, ↓rg5_1, ↓rg5_2, ↓rv8, ↓rg8_0, ↓rg8_1, ↓rg8_2, ↓rg8_3, ↓rg8_4, ↓rv9, ↓rg9_0, ↓rg9_1, ↓rg9_2, ↓rg9_3, ↓rv13, ↓rg13_0, ↓rv14, ↓rg14_0, ↓rg14_1, ↓rg14_2, ↓rg14_3, ↓rg14_4, ↓rv17, ↓rg17_0, ↓rg17_1, ↓rg17_2, ↓rg17_3, ↓rv18, ↓rg18_0, ↓rv20, ↓rg20_0, ↓rv22, ↓rg22_0, ↓rg22_1, ↓rg22_2, ↓rg22_3, ↓rg22_4, ↓rv23, ↓rg23_0, ↓rv25, ↓rg25_0, ↓rg25_1, ↓rg25_2, ↓rg25_3, ↓rg25_4, ↓rg25_5, ↓rg25_6, ↓rg25_7, ↓rg25_8, ↓rg25_9, ↓rg25_10, ↓rg25_11, ↓rv26, ↓rg26_0, ↓rl12, ↓rl15, ↓rl16, ↓rl19, ↓rl21, ↓rl24, ↓rl27, ↓rl11, ↓rl3, ↓rl1, ↓rl4, ↓rl7, ↓rl10, ↓ra7, ↓ra10, ↓ra4, ↓rp14_0, ↓rp14_1, ↓rp14_2, ↓rp14_3, ↓rp8_3, ↓rp8_4, ↓rp8_2, ↓rp17_0, ↓rp17_1, ↓rp5_1, ↓rp5_2, ↓rp25_7, ↓rp25_8, ↓rp25_9, ↓rp25_10, ↓rp25_11, ↓rs12, ↓rs15, ↓rs16, ↓rs19, ↓rs21, ↓rs11, ↓rp0_5, ↓rp0_10, ↓rp0_7, ↓rp0_8, ↓rp0_9, ↓rs3, ↓xb, ↓xr, rl12, rl15, rl16, rl19, rl21, rl24, rl27, rl11, rl3, rl1, rl4, rl7, rl10, rs12, rs15, rs16, rs19, rs21, rs11, rs3, n3, n30, n10, n300, n401, n4p, np1, np2, nI_add, ↓reduceIte]
  by_cases h2 : σ.2.1 6 (401 * p + j) = 2
  · by_cases h3 : σ.2.1 9 (401 * p + j) ≤ σ.2.1 15 (30 * (10 * s + c) + i)
    · simp (disch := first | assumption | omega | decide) only [f_St_take, f_St_take_b212, f_St_hold, ei, ec, h2, h3, ne20, show ¬ (2 : Int32) = 1 by decide, uI_o, uI_J, ← Int32.sub_eq_add_neg, ↓rv0, ↓rg0_0, ↓rg0_1, ↓rg0_2, ↓rg0_3, ↓rg0_4, ↓rg0_5, ↓rg0_6, ↓rg0_7, ↓rg0_8, ↓rg0_9, ↓rg0_10, ↓rv5, ↓rg5_0, ↓rg5_1, ↓rg5_2, ↓rv8, ↓rg8_0, ↓rg8_1, ↓rg8_2, ↓rg8_3, ↓rg8_4, ↓rv9, ↓rg9_0, ↓rg9_1, ↓rg9_2, ↓rg9_3, ↓rv13, ↓rg13_0, ↓rv14, ↓rg14_0, ↓rg14_1, ↓rg14_2, ↓rg14_3, ↓rg14_4, ↓rv17, ↓rg17_0, ↓rg17_1, ↓rg17_2, ↓rg17_3, ↓rv18, ↓rg18_0, ↓rv20, ↓rg20_0, ↓rv22, ↓rg22_0, ↓rg22_1, ↓rg22_2, ↓rg22_3, ↓rg22_4, ↓rv23, ↓rg23_0, ↓rv25, ↓rg25_0, ↓rg25_1, ↓rg25_2, ↓rg25_3, ↓rg25_4, ↓rg25_5, ↓rg25_6, ↓rg25_7, ↓rg25_8, ↓rg25_9, ↓rg25_10, ↓rg25_11, ↓rv26, ↓rg26_0, ↓rl12, ↓rl15, ↓rl16, ↓rl19, ↓rl21, ↓rl24, ↓rl27, ↓rl11, ↓rl3, ↓rl1, ↓rl4, ↓rl7, ↓rl10, ↓ra7, ↓ra10, ↓ra4, ↓rp14_0, ↓rp14_1, ↓rp14_2, ↓rp14_3, ↓rp8_3, ↓rp8_4, ↓rp8_2, ↓rp17_0, ↓rp17_1, ↓rp5_1, ↓rp5_2, ↓rp25_7, ↓rp25_8, ↓rp25_9, ↓rp25_10, ↓rp25_11, ↓rs12, ↓rs15, ↓rs16, ↓rs19, ↓rs21, ↓rs11, ↓rp0_5, ↓rp0_10, ↓rp0_7, ↓rp0_8, ↓rp0_9, ↓rs3, ↓xb, ↓xr, rl12, rl15, rl16, rl19, rl21, rl24, rl27, rl11, rl3, rl1, rl4, rl7, rl10, rs12, rs15, rs16, rs19, rs21, rs11, rs3, n3, n30, n10, n300, n401, n4p, np1, np2, nI_add, ↓reduceIte]
    · simp (disch := first | assumption | omega) only [f_St_take, f_St_take_b212, ei, ec, h2, h3, ne20, show ¬ (2 : Int32) = 1 by decide, ↓rv0, ↓rg0_0, ↓rg0_1, ↓rg0_2, ↓rg0_3, ↓rg0_4, ↓rg0_5, ↓rg0_6, ↓rg0_7, ↓rg0_8, ↓rg0_9, ↓rg0_10, ↓rv5, ↓rg5_0, ↓rg5_1, ↓rg5_2, ↓rv8, ↓rg8_0, ↓rg8_1, ↓rg8_2, ↓rg8_3, ↓rg8_4, ↓rv9, ↓rg9_0, ↓rg9_1, ↓rg9_2, ↓rg9_3, ↓rv13, ↓rg13_0, ↓rv14, ↓rg14_0, ↓rg14_1, ↓rg14_2, ↓rg14_3, ↓rg14_4, ↓rv17, ↓rg17_0, ↓rg17_1, ↓rg17_2, ↓rg17_3, ↓rv18, ↓rg18_0, ↓rv20, ↓rg20_0, ↓rv22, ↓rg22_0, ↓rg22_1, ↓rg22_2, ↓rg22_3, ↓rg22_4, ↓rv23, ↓rg23_0, ↓rv25, ↓rg25_0, ↓rg25_1, ↓rg25_2, ↓rg25_3, ↓rg25_4, ↓rg25_5, ↓rg25_6, ↓rg25_7, ↓rg25_8, ↓rg25_9, ↓rg25_10, ↓rg25_11, ↓rv26, ↓rg26_0, ↓rl12, ↓rl15, ↓rl16, ↓rl19, ↓rl21, ↓rl24, ↓rl27, ↓rl11, ↓rl3, ↓rl1, ↓rl4, ↓rl7, ↓rl10, ↓ra7, ↓ra10, ↓ra4, ↓rp14_0, ↓rp14_1, ↓rp14_2, ↓rp14_3, ↓rp8_3, ↓rp8_4, ↓rp8_2, ↓rp17_0, ↓rp17_1, ↓rp5_1, ↓rp5_2, ↓rp25_7, ↓rp25_8, ↓rp25_9, ↓rp25_10, ↓rp25_11, ↓rs12, ↓rs15, ↓rs16, ↓rs19, ↓rs21, ↓rs11, ↓rp0_5, ↓rp0_10, ↓rp0_7, ↓rp0_8, ↓rp0_9, ↓rs3, ↓xb, ↓xr, rl12, rl15, rl16, rl19, rl21, rl24, rl27, rl11, rl3, rl1, rl4, rl7, rl10, rs12, rs15, rs16, rs19, rs21, rs11, rs3, n3, n30, n10, n300, n401, n4p, np1, np2, nI_add, ↓reduceIte]
  by_cases h3 : σ.2.1 6 (401 * p + j) = 3
  · simp (disch := first | assumption | omega | decide) only [f_St_take, f_St_take_b212, f_St_hold, ei, ec, h3, show ¬ (3 : Int32) = 0 by decide, show ¬ (3 : Int32) = 1 by decide, show ¬ (3 : Int32) = 2 by decide, c_min, uI_o, ← Int32.sub_eq_add_neg, ↓rv0, ↓rg0_0, ↓rg0_1, ↓rg0_2, ↓rg0_3, ↓rg0_4, ↓rg0_5, ↓rg0_6, ↓rg0_7, ↓rg0_8, ↓rg0_9, ↓rg0_10, ↓rv5, ↓rg5_0, ↓rg5_1, ↓rg5_2, ↓rv8, ↓rg8_0, ↓rg8_1, ↓rg8_2, ↓rg8_3, ↓rg8_4, ↓rv9, ↓rg9_0, ↓rg9_1, ↓rg9_2, ↓rg9_3, ↓rv13, ↓rg13_0, ↓rv14, ↓rg14_0, ↓rg14_1, ↓rg14_2, ↓rg14_3, ↓rg14_4, ↓rv17, ↓rg17_0, ↓rg17_1, ↓rg17_2, ↓rg17_3, ↓rv18, ↓rg18_0, ↓rv20, ↓rg20_0, ↓rv22, ↓rg22_0, ↓rg22_1, ↓rg22_2, ↓rg22_3, ↓rg22_4, ↓rv23, ↓rg23_0, ↓rv25, ↓rg25_0, ↓rg25_1, ↓rg25_2, ↓rg25_3, ↓rg25_4, ↓rg25_5, ↓rg25_6, ↓rg25_7, ↓rg25_8, ↓rg25_9, ↓rg25_10, ↓rg25_11, ↓rv26, ↓rg26_0, ↓rl12, ↓rl15, ↓rl16, ↓rl19, ↓rl21, ↓rl24, ↓rl27, ↓rl11, ↓rl3, ↓rl1, ↓rl4, ↓rl7, ↓rl10, ↓ra7, ↓ra10, ↓ra4, ↓rp14_0, ↓rp14_1, ↓rp14_2, ↓rp14_3, ↓rp8_3, ↓rp8_4, ↓rp8_2, ↓rp17_0, ↓rp17_1, ↓rp5_1, ↓rp5_2, ↓rp25_7, ↓rp25_8, ↓rp25_9, ↓rp25_10, ↓rp25_11, ↓rs12, ↓rs15, ↓rs16, ↓rs19, ↓rs21, ↓rs11, ↓rp0_5, ↓rp0_10, ↓rp0_7, ↓rp0_8, ↓rp0_9, ↓rs3, ↓xb, ↓xr, rl12, rl15, rl16, rl19, rl21, rl24, rl27, rl11, rl3, rl1, rl4, rl7, rl10, rs12, rs15, rs16, rs19, rs21, rs11, rs3, n3, n30, n10, n300, n401, n4p, np1, np2, nI_add, ↓reduceIte]
  simp (disch := first | assumption | omega) only [f_St_take, f_St_take_b212, ei, ec, h0, h1, h2, h3, ↓rv0, ↓rg0_0, ↓rg0_1, ↓rg0_2, ↓rg0_3, ↓rg0_4, ↓rg0_5, ↓rg0_6, ↓rg0_7, ↓rg0_8, ↓rg0_9, ↓rg0_10, ↓rv5, ↓rg5_0, ↓rg5_1, ↓rg5_2, ↓rv8, ↓rg8_0, ↓rg8_1, ↓rg8_2, ↓rg8_3, ↓rg8_4, ↓rv9, ↓rg9_0, ↓rg9_1, ↓rg9_2, ↓rg9_3, ↓rv13, ↓rg13_0, ↓rv14, ↓rg14_0, ↓rg14_1, ↓rg14_2, ↓rg14_3, ↓rg14_4, ↓rv17, ↓rg17_0, ↓rg17_1, ↓rg17_2, ↓rg17_3, ↓rv18, ↓rg18_0, ↓rv20, ↓rg20_0, ↓rv22, ↓rg22_0, ↓rg22_1, ↓rg22_2, ↓rg22_3, ↓rg22_4, ↓rv23, ↓rg23_0, ↓rv25, ↓rg25_0, ↓rg25_1, ↓rg25_2, ↓rg25_3, ↓rg25_4, ↓rg25_5, ↓rg25_6, ↓rg25_7, ↓rg25_8, ↓rg25_9, ↓rg25_10, ↓rg25_11, ↓rv26, ↓rg26_0, ↓rl12, ↓rl15, ↓rl16, ↓rl19, ↓rl21, ↓rl24, ↓rl27, ↓rl11, ↓rl3, ↓rl1, ↓rl4, ↓rl7, ↓rl10, ↓ra7, ↓ra10, ↓ra4, ↓rp14_0, ↓rp14_1, ↓rp14_2, ↓rp14_3, ↓rp8_3, ↓rp8_4, ↓rp8_2, ↓rp17_0, ↓rp17_1, ↓rp5_1, ↓rp5_2, ↓rp25_7, ↓rp25_8, ↓rp25_9, ↓rp25_10, ↓rp25_11, ↓rs12, ↓rs15, ↓rs16, ↓rs19, ↓rs21, ↓rs11, ↓rp0_5, ↓rp0_10, ↓rp0_7, ↓rp0_8, ↓rp0_9, ↓rs3, ↓xb, ↓xr, rl12, rl15, rl16, rl19, rl21, rl24, rl27, rl11, rl3, rl1, rl4, rl7, rl10, rs12, rs15, rs16, rs19, rs21, rs11, rs3, n3, n30, n10, n300, n401, n4p, np1, np2, nI_add, ↓reduceIte]
theorem c_advance {r p : Nat} (hx : Wx x) (hi : Inv (dP x) (dN x) (dR x) T (dE x) t σ) (hj : JW (dR x) y σ) (hjr : JR x y) (hjl : JL x y t) (hr : r < dN x) (hp : p < dP x) : ∃ y', f_RS_advance (en x 0 0 0) (en x 8 r 0) (nI p) (er x y σ h) = some (.inl (advS (dP x) σ r p).1, er x y' (advS (dP x) σ r p).2 h) ∧ JW (dR x) y' (advS (dP x) σ r p).2 ∧ y'.2.2 = y.2.2 := by
  have hN := hi.1.1.2.2.2.1
  have hP1 := hi.1.1.1
  have hP3 := hi.1.1.2.1
  have hP := hi.1.1.2.2.2.2.2.2.1
  have hsv : sv x r := Or.inl hr
  obtain ⟨a, ea, h1, h2, h3, h4⟩ := hi.1.at (r := r) (p := p) (by omega) hp
  rw [adv_eq, hi.1.nr]
  by_cases c1 : σ.2.1 18 (3 * r + p) = σ.2.1 4 p
  · rw [if_pos c1]
    refine ⟨y, ?_, hj, rfl⟩
    simp (disch := first | assumption | omega) only [f_RS_advance, c1, ↓rv0, ↓rg0_0, ↓rg0_1, ↓rg0_2, ↓rg0_3, ↓rg0_4, ↓rg0_5, ↓rg0_6, ↓rg0_7, ↓rg0_8, ↓rg0_9, ↓rg0_10, ↓rv5, ↓rg5_0, ↓rg5_1, ↓rg5_2, ↓rv8, ↓rg8_0, ↓rg8_1, ↓rg8_2, ↓rg8_3, ↓rg8_4, ↓rv9, ↓rg9_0, ↓rg9_1, ↓rg9_2, ↓rg9_3, ↓rv13, ↓rg13_0, ↓rv14, ↓rg14_0, ↓rg14_1, ↓rg14_2, ↓rg14_3, ↓rg14_4, ↓rv17, ↓rg17_0, ↓rg17_1, ↓rg17_2, ↓rg17_3, ↓rv18, ↓rg18_0, ↓rv20, ↓rg20_0, ↓rv22, ↓rg22_0, ↓rg22_1, ↓rg22_2, ↓rg22_3, ↓rg22_4, ↓rv23, ↓rg23_0, ↓rv25, ↓rg25_0, ↓rg25_1, ↓rg25_2, ↓rg25_3, ↓rg25_4, ↓rg25_5, ↓rg25_6, ↓rg25_7, ↓rg25_8, ↓rg25_9, ↓rg25_10, ↓rg25_11, ↓rv26, ↓rg26_0, ↓rl12, ↓rl15, ↓rl16, ↓rl19, ↓rl21, ↓rl24, ↓rl27, ↓rl11, ↓rl3, ↓rl1, ↓rl4, ↓rl7, ↓rl10, ↓ra7, ↓ra10, ↓ra4, ↓rp14_0, ↓rp14_1, ↓rp14_2, ↓rp14_3, ↓rp8_3, ↓rp8_4, ↓rp8_2, ↓rp17_0, ↓rp17_1, ↓rp5_1, ↓rp5_2, ↓rp25_7, ↓rp25_8, ↓rp25_9, ↓rp25_10, ↓rp25_11, ↓rs12, ↓rs15, ↓rs16, ↓rs19, ↓rs21, ↓rs11, ↓rp0_5, ↓rp0_10, ↓rp0_7, ↓rp0_8, ↓rp0_9, ↓rs3, ↓xb, ↓xr, rl12, rl15, rl16, rl19, rl21, rl24, rl27, rl11, rl3, rl1, rl4, rl7, rl10, rs12, rs15, rs16, rs19, rs21, rs11, rs3, n3, n30, n10, n300, n401, n4p, np1, np2, nI_add, ↓reduceIte]
  rw [if_neg c1]
  have ha := h4 c1
  have iv0 := adv0_inv hi.1 hr hp ea ha
  obtain ⟨ci, cc, -, cn0⟩ := (hi.1.2.1 p hp).2.2.2.2 (a + 1) (by omega) (by omega)
  have hca : cn (σ.2.1 18 (3 * r + p)) = a := by rw [ea, cn_nI (by omega)]
  have c1' : ¬ nI a = σ.2.1 4 p := by rw [← ea]; exact c1
  have hj1 : 1 ≤ a + 1 ∧ a + 1 ≤ dE x p := by omega
  have tk := c_take (h := h) (y := y) (σ := σ) (s := r) (p := p) (j := a + 1) hx hsv hp hj1 ci cc
  have cvr := c_covers (h := h) (y := y) (σ := σ) (s := r) (B := en x 23 p (a + 1)) (f := σ.2.1 10) (b := 3 * (401 * p + (a + 1))) hx hsv (fun c hc kk => by rw [rg23_0 hx hp hj1, rl24 hx hp hj1 hc])
  rw [cv_P hx.2.2.1 cn0 (hi.1.a0 (by omega))] at cvr
  rw [hca]
  have ht : t p ≤ a := by
    obtain ⟨g1, g2⟩ := hi.1.2.2.1.2 r hr p hp
    rw [hca] at g2
    omega
  have hrow : y.2.2 p a = some (en x 22 p (a + 1)) := by
    rw [hjl p hp a (by omega), if_pos ⟨ht, ha⟩]
  have l6 := fun (β : Type) (kk : Nat → xM β) => rl6 (σ := σ) (h := h) (kk := kk) hx hp (show a < 400 by omega) hrow
  have ep : nI (a + 1) - 1 = nI a := nI_pred a
  by_cases c2 : cv σ (σ.2.1 10) (3 * (401 * p + a + 1)) r (dP x) = true
  · rw [if_pos c2]
    rw [show 401 * p + (a + 1) = 401 * p + a + 1 from rfl, c2, bI_t] at cvr
    rw [show 401 * p + (a + 1) = 401 * p + a + 1 from rfl] at tk
    have e18 := (take_same σ r (401 * p + a + 1)).2.1 18 (by decide)
    have e0 : (takeS σ r (401 * p + a + 1)).1 0 = nI (dP x) := by rw [(take_same _ _ _).1]; exact hP
    have c3 : ¬ nI (dP x) = 0 := nI_ne0 (by omega) (by omega)
    have e27 : (adv0 (dP x) σ r p).2.1 27 = σ.2.1 27 := (adv0_same _ _ _ _).2.1 27 (by decide)
    have ec : ∀ v n, cnt (adv0 (dP x) σ r p) v n = cnt σ v n := by
      intro v n
      induction n with
      | zero => rfl
      | succ n ih => simp only [cnt, ih, e27]
    have hj0 : JW (dR x) y (adv0 (dP x) σ r p) := by
      unfold JW
      simp only [ec, e27]
      exact hj
    obtain ⟨y', g1, g2, g3⟩ := c_look (h := h) hx iv0 hj0 hjr hr
    refine ⟨y', ?_, g2, g3⟩
    have lk' : f_RS_look (en x 0 0 0) (en x 8 r 0) (er x y (uI (uI (takeS σ r (401 * p + a + 1)) 18 (3 * r + p) (nI (a + 1))) 20 r (nI ((p + 1) % dP x))) h) = some (Sum.inl (), er x y' (lookS (dP x) (adv0 (dP x) σ r p) r (dR x)) h) := by
      rw [← g1]
      unfold adv0
      rw [hca, ea, np1]
    simp (disch := first | assumption | omega) only [f_RS_advance, f_Log_at, ea, c1', ep, l6, cvr, tk, ne10, e18, e0, c3, rI, pk_rem, uI_s, lk', ↓rv0, ↓rg0_0, ↓rg0_1, ↓rg0_2, ↓rg0_3, ↓rg0_4, ↓rg0_5, ↓rg0_6, ↓rg0_7, ↓rg0_8, ↓rg0_9, ↓rg0_10, ↓rv5, ↓rg5_0, ↓rg5_1, ↓rg5_2, ↓rv8, ↓rg8_0, ↓rg8_1, ↓rg8_2, ↓rg8_3, ↓rg8_4, ↓rv9, ↓rg9_0, ↓rg9_1, ↓rg9_2, ↓rg9_3, ↓rv13, ↓rg13_0, ↓rv14, ↓rg14_0, ↓rg14_1, ↓rg14_2, ↓rg14_3, ↓rg14_4, ↓rv17, ↓rg17_0, ↓rg17_1, ↓rg17_2, ↓rg17_3, ↓rv18, ↓rg18_0, ↓rv20, ↓rg20_0, ↓rv22, ↓rg22_0, ↓rg22_1, ↓rg22_2, ↓rg22_3, ↓rg22_4, ↓rv23, ↓rg23_0, ↓rv25, ↓rg25_0, ↓rg25_1, ↓rg25_2, ↓rg25_3, ↓rg25_4, ↓rg25_5, ↓rg25_6, ↓rg25_7, ↓rg25_8, ↓rg25_9, ↓rg25_10, ↓rg25_11, ↓rv26, ↓rg26_0, ↓rl12, ↓rl15, ↓rl16, ↓rl19, ↓rl21, ↓rl24, ↓rl27, ↓rl11, ↓rl3, ↓rl1, ↓rl4, ↓rl7, ↓rl10, ↓ra7, ↓ra10, ↓ra4, ↓rp14_0, ↓rp14_1, ↓rp14_2, ↓rp14_3, ↓rp8_3, ↓rp8_4, ↓rp8_2, ↓rp17_0, ↓rp17_1, ↓rp5_1, ↓rp5_2, ↓rp25_7, ↓rp25_8, ↓rp25_9, ↓rp25_10, ↓rp25_11, ↓rs12, ↓rs15, ↓rs16, ↓rs19, ↓rs21, ↓rs11, ↓rp0_5, ↓rp0_10, ↓rp0_7, ↓rp0_8, ↓rp0_9, ↓rs3, ↓xb, ↓xr, rl12, rl15, rl16, rl19, rl21, rl24, rl27, rl11, rl3, rl1, rl4, rl7, rl10, rs12, rs15, rs16, rs19, rs21, rs11, rs3, n3, n30, n10, n300, n401, n4p, np1, np2, nI_add, ↓reduceIte]
  · rw [if_neg c2]
    rw [Bool.not_eq_true] at c2
    rw [show 401 * p + (a + 1) = 401 * p + a + 1 from rfl, c2, bI_f] at cvr
    refine ⟨y, ?_, hj, rfl⟩
    simp (disch := first | assumption | omega) only [f_RS_advance, f_Log_at, ea, c1', ep, l6, cvr, ↓rv0, ↓rg0_0, ↓rg0_1, ↓rg0_2, ↓rg0_3, ↓rg0_4, ↓rg0_5, ↓rg0_6, ↓rg0_7, ↓rg0_8, ↓rg0_9, ↓rg0_10, ↓rv5, ↓rg5_0, ↓rg5_1, ↓rg5_2, ↓rv8, ↓rg8_0, ↓rg8_1, ↓rg8_2, ↓rg8_3, ↓rg8_4, ↓rv9, ↓rg9_0, ↓rg9_1, ↓rg9_2, ↓rg9_3, ↓rv13, ↓rg13_0, ↓rv14, ↓rg14_0, ↓rg14_1, ↓rg14_2, ↓rg14_3, ↓rg14_4, ↓rv17, ↓rg17_0, ↓rg17_1, ↓rg17_2, ↓rg17_3, ↓rv18, ↓rg18_0, ↓rv20, ↓rg20_0, ↓rv22, ↓rg22_0, ↓rg22_1, ↓rg22_2, ↓rg22_3, ↓rg22_4, ↓rv23, ↓rg23_0, ↓rv25, ↓rg25_0, ↓rg25_1, ↓rg25_2, ↓rg25_3, ↓rg25_4, ↓rg25_5, ↓rg25_6, ↓rg25_7, ↓rg25_8, ↓rg25_9, ↓rg25_10, ↓rg25_11, ↓rv26, ↓rg26_0, ↓rl12, ↓rl15, ↓rl16, ↓rl19, ↓rl21, ↓rl24, ↓rl27, ↓rl11, ↓rl3, ↓rl1, ↓rl4, ↓rl7, ↓rl10, ↓ra7, ↓ra10, ↓ra4, ↓rp14_0, ↓rp14_1, ↓rp14_2, ↓rp14_3, ↓rp8_3, ↓rp8_4, ↓rp8_2, ↓rp17_0, ↓rp17_1, ↓rp5_1, ↓rp5_2, ↓rp25_7, ↓rp25_8, ↓rp25_9, ↓rp25_10, ↓rp25_11, ↓rs12, ↓rs15, ↓rs16, ↓rs19, ↓rs21, ↓rs11, ↓rp0_5, ↓rp0_10, ↓rp0_7, ↓rp0_8, ↓rp0_9, ↓rs3, ↓xb, ↓xr, rl12, rl15, rl16, rl19, rl21, rl24, rl27, rl11, rl3, rl1, rl4, rl7, rl10, rs12, rs15, rs16, rs19, rs21, rs11, rs3, n3, n30, n10, n300, n401, n4p, np1, np2, nI_add, ↓reduceIte]
theorem adv_same (P : Nat) (σ : xS) (r p : Nat) : same [11, 12, 13, 14, 15, 16, 17, 18, 20, 25, 27, 35, 36, 37, 38] σ (advS P σ r p).2 := by
  rw [adv_eq]
  split
  · exact same.refl _ _
  split
  · exact ((adv0_same _ _ _ _).mono (by decide)).trans ((look_same _ _ _ _).mono (by decide))
  · exact same.refl _ _
theorem c_hurry_l {r : Nat} (hx : Wx x) (hr : r < dN x) (n : Nat) : ∀ (σ : xS) (y0 : xY) (p t' i : Nat), Inv (dP x) (dN x) (dR x) T (dE x) t σ → JW (dR x) y0 σ → y0.2.2 = y.2.2 → JR x y → JL x y t → ¬ σ.2.1 21 r = 0 → p < dP x → t' ≤ 10 → i ≤ dP x → (10 - t') * 4 + (dP x - i) < n → ∃ y', f_RS_hurry_h10 n (en x 0 0 0) (en x 8 r 0) (nI t') (nI p) (nI i) (er x y0 σ h) = some (.inl (nI (hurS (dP x) r n σ t' i p).1), er x y' (hurS (dP x) r n σ t' i p).2 h) ∧ JW (dR x) y' (hurS (dP x) r n σ t' i p).2 ∧ y'.2.2 = y.2.2 := by
  induction n with
  | zero =>
    intros
    omega
  | succ n ih =>
    intro σ y0 p t' i hi hj hy0 hjr hjl hup hp hti hii hn
    have hN := hi.1.1.2.2.2.1
    have hP1 := hi.1.1.1
    have hP3 := hi.1.1.2.1
    have hP := hi.1.1.2.2.2.2.2.2.1
    have c3 : ¬ nI (dP x) = 0 := nI_ne0 (by omega) (by omega)
    obtain ⟨-, ⟨v, hv, ev⟩, -⟩ := hi.1.2.2.2.2.2.2.1 r (by omega)
    simp only [hurS]
    by_cases c2 : σ.2.1 19 r ≤ nI t'
    · rw [if_pos (Or.inr (Or.inl c2))]
      refine ⟨y0, ?_, hj, hy0⟩
      simp (disch := first | assumption | omega) only [f_RS_hurry_h10, f_RS_hurry_b10, f_RS_hurry_b84, c2, ↓rv0, ↓rg0_0, ↓rg0_1, ↓rg0_2, ↓rg0_3, ↓rg0_4, ↓rg0_5, ↓rg0_6, ↓rg0_7, ↓rg0_8, ↓rg0_9, ↓rg0_10, ↓rv5, ↓rg5_0, ↓rg5_1, ↓rg5_2, ↓rv8, ↓rg8_0, ↓rg8_1, ↓rg8_2, ↓rg8_3, ↓rg8_4, ↓rv9, ↓rg9_0, ↓rg9_1, ↓rg9_2, ↓rg9_3, ↓rv13, ↓rg13_0, ↓rv14, ↓rg14_0, ↓rg14_1, ↓rg14_2, ↓rg14_3, ↓rg14_4, ↓rv17, ↓rg17_0, ↓rg17_1, ↓rg17_2, ↓rg17_3, ↓rv18, ↓rg18_0, ↓rv20, ↓rg20_0, ↓rv22, ↓rg22_0, ↓rg22_1, ↓rg22_2, ↓rg22_3, ↓rg22_4, ↓rv23, ↓rg23_0, ↓rv25, ↓rg25_0, ↓rg25_1, ↓rg25_2, ↓rg25_3, ↓rg25_4, ↓rg25_5, ↓rg25_6, ↓rg25_7, ↓rg25_8, ↓rg25_9, ↓rg25_10, ↓rg25_11, ↓rv26, ↓rg26_0, ↓rl12, ↓rl15, ↓rl16, ↓rl19, ↓rl21, ↓rl24, ↓rl27, ↓rl11, ↓rl3, ↓rl1, ↓rl4, ↓rl7, ↓rl10, ↓ra7, ↓ra10, ↓ra4, ↓rp14_0, ↓rp14_1, ↓rp14_2, ↓rp14_3, ↓rp8_3, ↓rp8_4, ↓rp8_2, ↓rp17_0, ↓rp17_1, ↓rp5_1, ↓rp5_2, ↓rp25_7, ↓rp25_8, ↓rp25_9, ↓rp25_10, ↓rp25_11, ↓rs12, ↓rs15, ↓rs16, ↓rs19, ↓rs21, ↓rs11, ↓rp0_5, ↓rp0_10, ↓rp0_7, ↓rp0_8, ↓rp0_9, ↓rs3, ↓xb, ↓xr, rl12, rl15, rl16, rl19, rl21, rl24, rl27, rl11, rl3, rl1, rl4, rl7, rl10, rs12, rs15, rs16, rs19, rs21, rs11, rs3, n3, n30, n10, n300, n401, n4p, np1, np2, nI_add, ↓reduceIte]
    by_cases c4 : dP x ≤ i
    · rw [if_pos (Or.inr (Or.inr c4))]
      have c4' : nI (dP x) ≤ nI i := nI_le c4 (by omega)
      refine ⟨y0, ?_, hj, hy0⟩
      simp (disch := first | assumption | omega) only [f_RS_hurry_h10, f_RS_hurry_b10, f_RS_hurry_b84, c2, c4', hP, ↓rv0, ↓rg0_0, ↓rg0_1, ↓rg0_2, ↓rg0_3, ↓rg0_4, ↓rg0_5, ↓rg0_6, ↓rg0_7, ↓rg0_8, ↓rg0_9, ↓rg0_10, ↓rv5, ↓rg5_0, ↓rg5_1, ↓rg5_2, ↓rv8, ↓rg8_0, ↓rg8_1, ↓rg8_2, ↓rg8_3, ↓rg8_4, ↓rv9, ↓rg9_0, ↓rg9_1, ↓rg9_2, ↓rg9_3, ↓rv13, ↓rg13_0, ↓rv14, ↓rg14_0, ↓rg14_1, ↓rg14_2, ↓rg14_3, ↓rg14_4, ↓rv17, ↓rg17_0, ↓rg17_1, ↓rg17_2, ↓rg17_3, ↓rv18, ↓rg18_0, ↓rv20, ↓rg20_0, ↓rv22, ↓rg22_0, ↓rg22_1, ↓rg22_2, ↓rg22_3, ↓rg22_4, ↓rv23, ↓rg23_0, ↓rv25, ↓rg25_0, ↓rg25_1, ↓rg25_2, ↓rg25_3, ↓rg25_4, ↓rg25_5, ↓rg25_6, ↓rg25_7, ↓rg25_8, ↓rg25_9, ↓rg25_10, ↓rg25_11, ↓rv26, ↓rg26_0, ↓rl12, ↓rl15, ↓rl16, ↓rl19, ↓rl21, ↓rl24, ↓rl27, ↓rl11, ↓rl3, ↓rl1, ↓rl4, ↓rl7, ↓rl10, ↓ra7, ↓ra10, ↓ra4, ↓rp14_0, ↓rp14_1, ↓rp14_2, ↓rp14_3, ↓rp8_3, ↓rp8_4, ↓rp8_2, ↓rp17_0, ↓rp17_1, ↓rp5_1, ↓rp5_2, ↓rp25_7, ↓rp25_8, ↓rp25_9, ↓rp25_10, ↓rp25_11, ↓rs12, ↓rs15, ↓rs16, ↓rs19, ↓rs21, ↓rs11, ↓rp0_5, ↓rp0_10, ↓rp0_7, ↓rp0_8, ↓rp0_9, ↓rs3, ↓xb, ↓xr, rl12, rl15, rl16, rl19, rl21, rl24, rl27, rl11, rl3, rl1, rl4, rl7, rl10, rs12, rs15, rs16, rs19, rs21, rs11, rs3, n3, n30, n10, n300, n401, n4p, np1, np2, nI_add, ↓reduceIte]
    rw [if_neg (fun q => q.elim hup (fun q => q.elim c2 c4))]
    have c4' : ¬ nI (dP x) ≤ nI i := nI_ge (by omega) (by omega)
    have hjr0 : JR x y0 := fun k hk => by rw [hy0]; exact hjr k hk
    have hjl0 : JL x y0 t := fun q hq j hj => by rw [hy0]; exact hjl q hq j hj
    obtain ⟨y1, av, hj1, hy1⟩ := c_advance (h := h) hx hi hj hjr0 hjl0 hr hp
    have iv := adv_inv hi hr hp
    have hP' := iv.1.1.2.2.2.2.2.2.1
    have hv2 : ¬ v ≤ t' := by rw [ev, nI_leI (by omega) (by omega)] at c2; exact c2
    have hup' : ¬ (advS (dP x) σ r p).2.2.1 21 r = 0 := by rw [(adv_same _ _ _ _).2.1 21 (by decide)]; exact hup
    by_cases c5 : (advS (dP x) σ r p).1 = 1
    · rw [if_pos c5]
      obtain ⟨y', g1, g2, g3⟩ := ih (advS (dP x) σ r p).2 y1 ((p + 1) % dP x) (t' + 1) 0 iv hj1 (hy1.trans hy0) hjr hjl hup' (Nat.mod_lt _ (by omega)) (by omega) (by omega) (by omega)
      rw [nI_0] at g1
      refine ⟨y', ?_, g2, g3⟩
      simp (disch := first | assumption | omega) only [f_RS_hurry_h10, f_RS_hurry_b10, f_RS_hurry_b42, f_RS_hurry_b55, f_RS_hurry_b70, c2, c4', hP, av, c5, ne10, hP', rI, c3, pk_rem, ↓rv0, ↓rg0_0, ↓rg0_1, ↓rg0_2, ↓rg0_3, ↓rg0_4, ↓rg0_5, ↓rg0_6, ↓rg0_7, ↓rg0_8, ↓rg0_9, ↓rg0_10, ↓rv5, ↓rg5_0, ↓rg5_1, ↓rg5_2, ↓rv8, ↓rg8_0, ↓rg8_1, ↓rg8_2, ↓rg8_3, ↓rg8_4, ↓rv9, ↓rg9_0, ↓rg9_1, ↓rg9_2, ↓rg9_3, ↓rv13, ↓rg13_0, ↓rv14, ↓rg14_0, ↓rg14_1, ↓rg14_2, ↓rg14_3, ↓rg14_4, ↓rv17, ↓rg17_0, ↓rg17_1, ↓rg17_2, ↓rg17_3, ↓rv18, ↓rg18_0, ↓rv20, ↓rg20_0, ↓rv22, ↓rg22_0, ↓rg22_1, ↓rg22_2, ↓rg22_3, ↓rg22_4, ↓rv23, ↓rg23_0, ↓rv25, ↓rg25_0, ↓rg25_1, ↓rg25_2, ↓rg25_3, ↓rg25_4, ↓rg25_5, ↓rg25_6, ↓rg25_7, ↓rg25_8, ↓rg25_9, ↓rg25_10, ↓rg25_11, ↓rv26, ↓rg26_0, ↓rl12, ↓rl15, ↓rl16, ↓rl19, ↓rl21, ↓rl24, ↓rl27, ↓rl11, ↓rl3, ↓rl1, ↓rl4, ↓rl7, ↓rl10, ↓ra7, ↓ra10, ↓ra4, ↓rp14_0, ↓rp14_1, ↓rp14_2, ↓rp14_3, ↓rp8_3, ↓rp8_4, ↓rp8_2, ↓rp17_0, ↓rp17_1, ↓rp5_1, ↓rp5_2, ↓rp25_7, ↓rp25_8, ↓rp25_9, ↓rp25_10, ↓rp25_11, ↓rs12, ↓rs15, ↓rs16, ↓rs19, ↓rs21, ↓rs11, ↓rp0_5, ↓rp0_10, ↓rp0_7, ↓rp0_8, ↓rp0_9, ↓rs3, ↓xb, ↓xr, rl12, rl15, rl16, rl19, rl21, rl24, rl27, rl11, rl3, rl1, rl4, rl7, rl10, rs12, rs15, rs16, rs19, rs21, rs11, rs3, n3, n30, n10, n300, n401, n4p, np1, np2, nI_add, ↓reduceIte]
      exact g1
    · rw [if_neg c5]
      obtain ⟨y', g1, g2, g3⟩ := ih (advS (dP x) σ r p).2 y1 ((p + 1) % dP x) t' (i + 1) iv hj1 (hy1.trans hy0) hjr hjl hup' (Nat.mod_lt _ (by omega)) (by omega) (by omega) (by omega)
      refine ⟨y', ?_, g2, g3⟩
      simp (disch := first | assumption | omega) only [f_RS_hurry_h10, f_RS_hurry_b10, f_RS_hurry_b42, f_RS_hurry_b55, f_RS_hurry_b70, c2, c4', hP, av, c5, hP', rI, c3, pk_rem, Int32.add_zero, ↓rv0, ↓rg0_0, ↓rg0_1, ↓rg0_2, ↓rg0_3, ↓rg0_4, ↓rg0_5, ↓rg0_6, ↓rg0_7, ↓rg0_8, ↓rg0_9, ↓rg0_10, ↓rv5, ↓rg5_0, ↓rg5_1, ↓rg5_2, ↓rv8, ↓rg8_0, ↓rg8_1, ↓rg8_2, ↓rg8_3, ↓rg8_4, ↓rv9, ↓rg9_0, ↓rg9_1, ↓rg9_2, ↓rg9_3, ↓rv13, ↓rg13_0, ↓rv14, ↓rg14_0, ↓rg14_1, ↓rg14_2, ↓rg14_3, ↓rg14_4, ↓rv17, ↓rg17_0, ↓rg17_1, ↓rg17_2, ↓rg17_3, ↓rv18, ↓rg18_0, ↓rv20, ↓rg20_0, ↓rv22, ↓rg22_0, ↓rg22_1, ↓rg22_2, ↓rg22_3, ↓rg22_4, ↓rv23, ↓rg23_0, ↓rv25, ↓rg25_0, ↓rg25_1, ↓rg25_2, ↓rg25_3, ↓rg25_4, ↓rg25_5, ↓rg25_6, ↓rg25_7, ↓rg25_8, ↓rg25_9, ↓rg25_10, ↓rg25_11, ↓rv26, ↓rg26_0, ↓rl12, ↓rl15, ↓rl16, ↓rl19, ↓rl21, ↓rl24, ↓rl27, ↓rl11, ↓rl3, ↓rl1, ↓rl4, ↓rl7, ↓rl10, ↓ra7, ↓ra10, ↓ra4, ↓rp14_0, ↓rp14_1, ↓rp14_2, ↓rp14_3, ↓rp8_3, ↓rp8_4, ↓rp8_2, ↓rp17_0, ↓rp17_1, ↓rp5_1, ↓rp5_2, ↓rp25_7, ↓rp25_8, ↓rp25_9, ↓rp25_10, ↓rp25_11, ↓rs12, ↓rs15, ↓rs16, ↓rs19, ↓rs21, ↓rs11, ↓rp0_5, ↓rp0_10, ↓rp0_7, ↓rp0_8, ↓rp0_9, ↓rs3, ↓xb, ↓xr, rl12, rl15, rl16, rl19, rl21, rl24, rl27, rl11, rl3, rl1, rl4, rl7, rl10, rs12, rs15, rs16, rs19, rs21, rs11, rs3, n3, n30, n10, n300, n401, n4p, np1, np2, nI_add, ↓reduceIte]
      exact g1
theorem c_hurry {r : Nat} (hx : Wx x) (hi : Inv (dP x) (dN x) (dR x) T (dE x) t σ) (hj : JW (dR x) y σ) (hjr : JR x y) (hjl : JL x y t) (hr : r < dN x) (hup : ¬ σ.2.1 21 r = 0) : ∃ y', f_RS_hurry (en x 0 0 0) (en x 8 r 0) (er x y σ h) = some (.inl (nI (hur (dP x) σ r).1), er x y' (hur (dP x) σ r).2 h) ∧ JW (dR x) y' (hur (dP x) σ r).2 ∧ y'.2.2 = y.2.2 := by
  have hN := hi.1.1.2.2.2.1
  have hP3 := hi.1.1.2.1
  obtain ⟨p, hp, e1, e2⟩ := hi.1.next (r := r) (by omega)
  obtain ⟨y', g1, g2, g3⟩ := c_hurry_l (h := h) hx hr 1000 σ y p 0 0 hi hj rfl hjr hjl hup hp (by omega) (by omega) (by omega)
  unfold hur
  rw [e2]
  refine ⟨y', ?_, g2, g3⟩
  rw [nI_0] at g1
  simp (disch := first | assumption | omega) only [f_RS_hurry, e1, ↓rv0, ↓rg0_0, ↓rg0_1, ↓rg0_2, ↓rg0_3, ↓rg0_4, ↓rg0_5, ↓rg0_6, ↓rg0_7, ↓rg0_8, ↓rg0_9, ↓rg0_10, ↓rv5, ↓rg5_0, ↓rg5_1, ↓rg5_2, ↓rv8, ↓rg8_0, ↓rg8_1, ↓rg8_2, ↓rg8_3, ↓rg8_4, ↓rv9, ↓rg9_0, ↓rg9_1, ↓rg9_2, ↓rg9_3, ↓rv13, ↓rg13_0, ↓rv14, ↓rg14_0, ↓rg14_1, ↓rg14_2, ↓rg14_3, ↓rg14_4, ↓rv17, ↓rg17_0, ↓rg17_1, ↓rg17_2, ↓rg17_3, ↓rv18, ↓rg18_0, ↓rv20, ↓rg20_0, ↓rv22, ↓rg22_0, ↓rg22_1, ↓rg22_2, ↓rg22_3, ↓rg22_4, ↓rv23, ↓rg23_0, ↓rv25, ↓rg25_0, ↓rg25_1, ↓rg25_2, ↓rg25_3, ↓rg25_4, ↓rg25_5, ↓rg25_6, ↓rg25_7, ↓rg25_8, ↓rg25_9, ↓rg25_10, ↓rg25_11, ↓rv26, ↓rg26_0, ↓rl12, ↓rl15, ↓rl16, ↓rl19, ↓rl21, ↓rl24, ↓rl27, ↓rl11, ↓rl3, ↓rl1, ↓rl4, ↓rl7, ↓rl10, ↓ra7, ↓ra10, ↓ra4, ↓rp14_0, ↓rp14_1, ↓rp14_2, ↓rp14_3, ↓rp8_3, ↓rp8_4, ↓rp8_2, ↓rp17_0, ↓rp17_1, ↓rp5_1, ↓rp5_2, ↓rp25_7, ↓rp25_8, ↓rp25_9, ↓rp25_10, ↓rp25_11, ↓rs12, ↓rs15, ↓rs16, ↓rs19, ↓rs21, ↓rs11, ↓rp0_5, ↓rp0_10, ↓rp0_7, ↓rp0_8, ↓rp0_9, ↓rs3, ↓xb, ↓xr, rl12, rl15, rl16, rl19, rl21, rl24, rl27, rl11, rl3, rl1, rl4, rl7, rl10, rs12, rs15, rs16, rs19, rs21, rs11, rs3, n3, n30, n10, n300, n401, n4p, np1, np2, nI_add, ↓reduceIte]
  exact g1
end XCE
