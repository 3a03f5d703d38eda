/-! the component: what states answer, answers to reads -/
section XCC
variable {β : Type} {x : xX} {y y' : xY} {σ σ' : xS} {h : xH} {T : Nat} {t : Nat → Nat}
theorem c_held {s c : Nat} (hx : Wx x) (hs : sv x s) (hc : c < 10) : f_St_held (en x 9 s 0) (nI c) (er x y σ h) = some (.inl (heldS σ (10 * s + c) 30), er x y σ h) := by
  have key : ∀ d k n, k + d = 30 → d < n → f_St_held_h16 n (nI c) (heldS σ (10 * s + c) k) (en x 10 s 0) (nI 30) (nI k) (er x y σ h) = some (.inl (heldS σ (10 * s + c) 30), er x y σ h) := by
    intro d
    induction d with
    | zero =>
      intro k n hk hn
      obtain ⟨n, rfl, -⟩ := pos_of hn
      obtain rfl : k = 30 := by omega
      have c1 : nI 30 ≤ nI 30 := by decide
      simp only [f_St_held_h16, f_St_held_b16, c1, ↓reduceIte, xr]
    | succ d ih =>
      intro k n hk hn
      obtain ⟨n, rfl, hn⟩ := pos_of hn
      have c1 : ¬ nI 30 ≤ nI k := nI_ge (by omega) (by omega)
      have i1 := ih (k + 1) n (by omega) (by omega)
      simp (disch := first | assumption | omega) only [f_St_held_h16, f_St_held_b16, c1, ↓rv0, ↓rg0_0, ↓rg0_1, ↓rg0_2, ↓rg0_3, ↓rg0_4, ↓rg0_5, ↓rg0_6, ↓rg0_7, ↓rg0_8, ↓rg0_9, ↓rg0_10, ↓rv5, ↓rg5_0, ↓rg5_1, ↓rg5_2, ↓rv8, ↓rg8_0, ↓rg8_1, ↓rg8_2, ↓rg8_3, ↓rg8_4, ↓rv9, ↓rg9_0, ↓rg9_1, ↓rg9_2, ↓rg9_3, ↓rv13, ↓rg13_0, ↓rv14, ↓rg14_0, ↓rg14_1, ↓rg14_2, ↓rg14_3, ↓rg14_4, ↓rv17, ↓rg17_0, ↓rg17_1, ↓rg17_2, ↓rg17_3, ↓rv18, ↓rg18_0, ↓rv20, ↓rg20_0, ↓rv22, ↓rg22_0, ↓rg22_1, ↓rg22_2, ↓rg22_3, ↓rg22_4, ↓rv23, ↓rg23_0, ↓rv25, ↓rg25_0, ↓rg25_1, ↓rg25_2, ↓rg25_3, ↓rg25_4, ↓rg25_5, ↓rg25_6, ↓rg25_7, ↓rg25_8, ↓rg25_9, ↓rg25_10, ↓rg25_11, ↓rv26, ↓rg26_0, ↓rl12, ↓rl15, ↓rl16, ↓rl19, ↓rl21, ↓rl24, ↓rl27, ↓rl11, ↓rl3, ↓rl1, ↓rl4, ↓rl7, ↓rl10, ↓ra7, ↓ra10, ↓ra4, ↓rp14_0, ↓rp14_1, ↓rp14_2, ↓rp14_3, ↓rp8_3, ↓rp8_4, ↓rp8_2, ↓rp17_0, ↓rp17_1, ↓rp5_1, ↓rp5_2, ↓rp25_7, ↓rp25_8, ↓rp25_9, ↓rp25_10, ↓rp25_11, ↓rs12, ↓rs15, ↓rs16, ↓rs19, ↓rs21, ↓rs11, ↓rp0_5, ↓rp0_10, ↓rp0_7, ↓rp0_8, ↓rp0_9, ↓rs3, ↓xb, ↓xr, rl12, rl15, rl16, rl19, rl21, rl24, rl27, rl11, rl3, rl1, rl4, rl7, rl10, rs12, rs15, rs16, rs19, rs21, rs11, rs3, n3, n30, n10, n300, n401, n4p, np1, np2, nI_add, ↓reduceIte]
      exact i1
  have k0 := key 30 0 1000 (by omega) (by omega)
  simp (disch := first | assumption | omega) only [f_St_held, ↓rv0, ↓rg0_0, ↓rg0_1, ↓rg0_2, ↓rg0_3, ↓rg0_4, ↓rg0_5, ↓rg0_6, ↓rg0_7, ↓rg0_8, ↓rg0_9, ↓rg0_10, ↓rv5, ↓rg5_0, ↓rg5_1, ↓rg5_2, ↓rv8, ↓rg8_0, ↓rg8_1, ↓rg8_2, ↓rg8_3, ↓rg8_4, ↓rv9, ↓rg9_0, ↓rg9_1, ↓rg9_2, ↓rg9_3, ↓rv13, ↓rg13_0, ↓rv14, ↓rg14_0, ↓rg14_1, ↓rg14_2, ↓rg14_3, ↓rg14_4, ↓rv17, ↓rg17_0, ↓rg17_1, ↓rg17_2, ↓rg17_3, ↓rv18, ↓rg18_0, ↓rv20, ↓rg20_0, ↓rv22, ↓rg22_0, ↓rg22_1, ↓rg22_2, ↓rg22_3, ↓rg22_4, ↓rv23, ↓rg23_0, ↓rv25, ↓rg25_0, ↓rg25_1, ↓rg25_2, ↓rg25_3, ↓rg25_4, ↓rg25_5, ↓rg25_6, ↓rg25_7, ↓rg25_8, ↓rg25_9, ↓rg25_10, ↓rg25_11, ↓rv26, ↓rg26_0, ↓rl12, ↓rl15, ↓rl16, ↓rl19, ↓rl21, ↓rl24, ↓rl27, ↓rl11, ↓rl3, ↓rl1, ↓rl4, ↓rl7, ↓rl10, ↓ra7, ↓ra10, ↓ra4, ↓rp14_0, ↓rp14_1, ↓rp14_2, ↓rp14_3, ↓rp8_3, ↓rp8_4, ↓rp8_2, ↓rp17_0, ↓rp17_1, ↓rp5_1, ↓rp5_2, ↓rp25_7, ↓rp25_8, ↓rp25_9, ↓rp25_10, ↓rp25_11, ↓rs12, ↓rs15, ↓rs16, ↓rs19, ↓rs21, ↓rs11, ↓rp0_5, ↓rp0_10, ↓rp0_7, ↓rp0_8, ↓rp0_9, ↓rs3, ↓xb, ↓xr, rl12, rl15, rl16, rl19, rl21, rl24, rl27, rl11, rl3, rl1, rl4, rl7, rl10, rs12, rs15, rs16, rs19, rs21, rs11, rs3, n3, n30, n10, n300, n401, n4p, np1, np2, nI_add, ↓reduceIte]
  exact k0
theorem c_worth {s : Nat} {a : Int32} (hx : Wx x) (hs : sv x s) (hP1 : 1 ≤ dP x) (ha : -1 ≤ a) : f_St_worth (en x 9 s 0) a (nI (dP x)) (er x y σ h) = some (.inl (worthS (dP x) σ s a 30), er x y σ h) := by
  have hP3 := hx.2.2.1
  have c2 : ¬ nI (dP x) = 0 := nI_ne0 (by omega) (by omega)
  have am : a = -1 ↔ a < 0 := by
    rw [Int32.lt_iff_toInt_lt, ← Int32.toInt_inj]
    rw [Int32.le_iff_toInt_le] at ha
    have ha : (-1 : Int) ≤ _ := ha
    show _ = (-1 : Int) ↔ _ < (0 : Int)
    omega
  have key : ∀ d k n, k + d = 30 → d < n → f_St_worth_h5 n (en x 9 s 0) a (nI (dP x)) (worthS (dP x) σ s a k) (nI k) (er x y σ h) = some (.inl (worthS (dP x) σ s a 30), er x y σ h) := by
    intro d
    induction d with
    | zero =>
      intro k n hk hn
      obtain ⟨n, rfl, -⟩ := pos_of hn
      obtain rfl : k = 30 := by omega
      have c1 : (30 : Int32) ≤ nI 30 := by decide
      simp only [f_St_worth_h5, f_St_worth_b5, c1, ↓reduceIte, xr]
    | succ d ih =>
      intro k n hk hn
      obtain ⟨n, rfl, hn⟩ := pos_of hn
      have c1 : ¬ (30 : Int32) ≤ nI k := nI_ge (b := 30) (by omega) (by omega)
      have i1 := ih (k + 1) n (by omega) (by omega)
      by_cases h1 : a < 0
      · have h1' := am.mpr h1
        simp (disch := first | assumption | omega) only [f_St_worth_h5, f_St_worth_b5, f_St_worth_b25, f_St_worth_b51, c1, h1', ↓rv0, ↓rg0_0, ↓rg0_1, ↓rg0_2, ↓rg0_3, ↓rg0_4, ↓rg0_5, ↓rg0_6, ↓rg0_7, ↓rg0_8, ↓rg0_9, ↓rg0_10, ↓rv5, ↓rg5_0, ↓rg5_1, ↓rg5_2, ↓rv8, ↓rg8_0, ↓rg8_1, ↓rg8_2, ↓rg8_3, ↓rg8_4, ↓rv9, ↓rg9_0, ↓rg9_1, ↓rg9_2, ↓rg9_3, ↓rv13, ↓rg13_0, ↓rv14, ↓rg14_0, ↓rg14_1, ↓rg14_2, ↓rg14_3, ↓rg14_4, ↓rv17, ↓rg17_0, ↓rg17_1, ↓rg17_2, ↓rg17_3, ↓rv18, ↓rg18_0, ↓rv20, ↓rg20_0, ↓rv22, ↓rg22_0, ↓rg22_1, ↓rg22_2, ↓rg22_3, ↓rg22_4, ↓rv23, ↓rg23_0, ↓rv25, ↓rg25_0, ↓rg25_1, ↓rg25_2, ↓rg25_3, ↓rg25_4, ↓rg25_5, ↓rg25_6, ↓rg25_7, ↓rg25_8, ↓rg25_9, ↓rg25_10, ↓rg25_11, ↓rv26, ↓rg26_0, ↓rl12, ↓rl15, ↓rl16, ↓rl19, ↓rl21, ↓rl24, ↓rl27, ↓rl11, ↓rl3, ↓rl1, ↓rl4, ↓rl7, ↓rl10, ↓ra7, ↓ra10, ↓ra4, ↓rp14_0, ↓rp14_1, ↓rp14_2, ↓rp14_3, ↓rp8_3, ↓rp8_4, ↓rp8_2, ↓rp17_0, ↓rp17_1, ↓rp5_1, ↓rp5_2, ↓rp25_7, ↓rp25_8, ↓rp25_9, ↓rp25_10, ↓rp25_11, ↓rs12, ↓rs15, ↓rs16, ↓rs19, ↓rs21, ↓rs11, ↓rp0_5, ↓rp0_10, ↓rp0_7, ↓rp0_8, ↓rp0_9, ↓rs3, ↓xb, ↓xr, rl12, rl15, rl16, rl19, rl21, rl24, rl27, rl11, rl3, rl1, rl4, rl7, rl10, rs12, rs15, rs16, rs19, rs21, rs11, rs3, n3, n30, n10, n300, n401, n4p, np1, np2, nI_add, ↓reduceIte]
        rw [← h1']
        simpa only [worthS, h1, true_or, if_true] using i1
      · have h1' : ¬ a = -1 := fun q => h1 (am.mp q)
        by_cases h2 : nI (k % dP x) = a
        · simp (disch := first | assumption | omega) only [f_St_worth_h5, f_St_worth_b5, f_St_worth_b25, f_St_worth_b51, rI, c1, c2, h1', pk_rem, h2, ↓rv0, ↓rg0_0, ↓rg0_1, ↓rg0_2, ↓rg0_3, ↓rg0_4, ↓rg0_5, ↓rg0_6, ↓rg0_7, ↓rg0_8, ↓rg0_9, ↓rg0_10, ↓rv5, ↓rg5_0, ↓rg5_1, ↓rg5_2, ↓rv8, ↓rg8_0, ↓rg8_1, ↓rg8_2, ↓rg8_3, ↓rg8_4, ↓rv9, ↓rg9_0, ↓rg9_1, ↓rg9_2, ↓rg9_3, ↓rv13, ↓rg13_0, ↓rv14, ↓rg14_0, ↓rg14_1, ↓rg14_2, ↓rg14_3, ↓rg14_4, ↓rv17, ↓rg17_0, ↓rg17_1, ↓rg17_2, ↓rg17_3, ↓rv18, ↓rg18_0, ↓rv20, ↓rg20_0, ↓rv22, ↓rg22_0, ↓rg22_1, ↓rg22_2, ↓rg22_3, ↓rg22_4, ↓rv23, ↓rg23_0, ↓rv25, ↓rg25_0, ↓rg25_1, ↓rg25_2, ↓rg25_3, ↓rg25_4, ↓rg25_5, ↓rg25_6, ↓rg25_7, ↓rg25_8, ↓rg25_9, ↓rg25_10, ↓rg25_11, ↓rv26, ↓rg26_0, ↓rl12, ↓rl15, ↓rl16, ↓rl19, ↓rl21, ↓rl24, ↓rl27, ↓rl11, ↓rl3, ↓rl1, ↓rl4, ↓rl7, ↓rl10, ↓ra7, ↓ra10, ↓ra4, ↓rp14_0, ↓rp14_1, ↓rp14_2, ↓rp14_3, ↓rp8_3, ↓rp8_4, ↓rp8_2, ↓rp17_0, ↓rp17_1, ↓rp5_1, ↓rp5_2, ↓rp25_7, ↓rp25_8, ↓rp25_9, ↓rp25_10, ↓rp25_11, ↓rs12, ↓rs15, ↓rs16, ↓rs19, ↓rs21, ↓rs11, ↓rp0_5, ↓rp0_10, ↓rp0_7, ↓rp0_8, ↓rp0_9, ↓rs3, ↓xb, ↓xr, rl12, rl15, rl16, rl19, rl21, rl24, rl27, rl11, rl3, rl1, rl4, rl7, rl10, rs12, rs15, rs16, rs19, rs21, rs11, rs3, n3, n30, n10, n300, n401, n4p, np1, np2, nI_add, ↓reduceIte]
          simpa only [worthS, h1, h2, or_true, if_true] using i1
        · simp (disch := first | assumption | omega) only [f_St_worth_h5, f_St_worth_b5, f_St_worth_b25, f_St_worth_b51, rI, c1, c2, h1', pk_rem, h2, ↓rv0, ↓rg0_0, ↓rg0_1, ↓rg0_2, ↓rg0_3, ↓rg0_4, ↓rg0_5, ↓rg0_6, ↓rg0_7, ↓rg0_8, ↓rg0_9, ↓rg0_10, ↓rv5, ↓rg5_0, ↓rg5_1, ↓rg5_2, ↓rv8, ↓rg8_0, ↓rg8_1, ↓rg8_2, ↓rg8_3, ↓rg8_4, ↓rv9, ↓rg9_0, ↓rg9_1, ↓rg9_2, ↓rg9_3, ↓rv13, ↓rg13_0, ↓rv14, ↓rg14_0, ↓rg14_1, ↓rg14_2, ↓rg14_3, ↓rg14_4, ↓rv17, ↓rg17_0, ↓rg17_1, ↓rg17_2, ↓rg17_3, ↓rv18, ↓rg18_0, ↓rv20, ↓rg20_0, ↓rv22, ↓rg22_0, ↓rg22_1, ↓rg22_2, ↓rg22_3, ↓rg22_4, ↓rv23, ↓rg23_0, ↓rv25, ↓rg25_0, ↓rg25_1, ↓rg25_2, ↓rg25_3, ↓rg25_4, ↓rg25_5, ↓rg25_6, ↓rg25_7, ↓rg25_8, ↓rg25_9, ↓rg25_10, ↓rg25_11, ↓rv26, ↓rg26_0, ↓rl12, ↓rl15, ↓rl16, ↓rl19, ↓rl21, ↓rl24, ↓rl27, ↓rl11, ↓rl3, ↓rl1, ↓rl4, ↓rl7, ↓rl10, ↓ra7, ↓ra10, ↓ra4, ↓rp14_0, ↓rp14_1, ↓rp14_2, ↓rp14_3, ↓rp8_3, ↓rp8_4, ↓rp8_2, ↓rp17_0, ↓rp17_1, ↓rp5_1, ↓rp5_2, ↓rp25_7, ↓rp25_8, ↓rp25_9, ↓rp25_10, ↓rp25_11, ↓rs12, ↓rs15, ↓rs16, ↓rs19, ↓rs21, ↓rs11, ↓rp0_5, ↓rp0_10, ↓rp0_7, ↓rp0_8, ↓rp0_9, ↓rs3, ↓xb, ↓xr, rl12, rl15, rl16, rl19, rl21, rl24, rl27, rl11, rl3, rl1, rl4, rl7, rl10, rs12, rs15, rs16, rs19, rs21, rs11, rs3, n3, n30, n10, n300, n401, n4p, np1, np2, nI_add, ↓reduceIte]
          simpa only [worthS, h1, h2, or_false, if_false] using i1
  exact key 30 0 1000 (by omega) (by omega)
theorem c_ranked {s a : Nat} (hx : Wx x) (hs : sv x s) (ha : a < 30) : f_St_ranked (en x 9 s 0) (nI a) (er x y σ h) = some (.inl (nI (rankS σ s a 30)), er x y σ h) := by
  obtain ⟨r1, r2, r3⟩ := rank_spec σ s a ha
  have key : ∀ d k n, k + d = rankS σ s a 30 → d < n → f_St_ranked_h2 n (en x 9 s 0) (nI a) (nI k) (er x y σ h) = some (.inl (nI (rankS σ s a 30)), er x y σ h) := by
    intro d
    have outer : ∀ k n, k < 30 → (∀ K : xM Int32, K = f_St_ranked_h2 n (en x 9 s 0) (nI a) (nI (k + 1)) → befs σ s k 30 ≠ a → K (er x y σ h) = some (.inl (nI (rankS σ s a 30)), er x y σ h)) → (befs σ s k 30 = a → k = rankS σ s a 30) → f_St_ranked_h2 (n + 1) (en x 9 s 0) (nI a) (nI k) (er x y σ h) = some (.inl (nI (rankS σ s a 30)), er x y σ h) := by
      intro k n hk hK hE
      have c1 : ¬ (30 : Int32) ≤ nI k := nI_ge (b := 30) (by omega) (by omega)
      have inner : ∀ d j n', j + d = 30 → d < n' → f_St_ranked_h13 (f_St_ranked_h2 n) n' (en x 9 s 0) (nI a) (nI k) (nI (befs σ s k j)) (nI j) (er x y σ h) = some (.inl (nI (rankS σ s a 30)), er x y σ h) := by
        intro d
        induction d with
        | zero =>
          intro j n' hj hn'
          obtain ⟨n', rfl, -⟩ := pos_of hn'
          obtain rfl : j = 30 := by omega
          have c1 : (30 : Int32) ≤ nI 30 := by decide
          have hb := befs_le σ s k 30
          by_cases h2 : befs σ s k 30 = a
          · have c2 : nI (befs σ s k 30) = nI a := by rw [h2]
            simp only [f_St_ranked_h13, f_St_ranked_b13, c1, c2, ↓reduceIte, xr]
            rw [← hE h2]
          · have c2 : ¬ nI (befs σ s k 30) = nI a := by rw [nI_eq (by omega) (by omega)]; exact h2
            simp only [f_St_ranked_h13, f_St_ranked_b13, c1, c2, ↓reduceIte, np1]
            exact hK _ rfl h2
        | succ d ih2 =>
          intro j n' hj hn'
          obtain ⟨n', rfl, hn'⟩ := pos_of hn'
          have c2 : ¬ (30 : Int32) ≤ nI j := nI_ge (b := 30) (by omega) (by omega)
          have i2 := ih2 (j + 1) n' (by omega) (by omega)
          have c3 : nI k ≤ nI j ↔ ¬ j < k := by rw [nI_leI (by omega) (by omega)]; omega
          by_cases h1 : σ.2.1 13 (30 * s + k) < σ.2.1 13 (30 * s + j)
          · simp (disch := first | assumption | omega) only [f_St_ranked_h13, f_St_ranked_b13, f_St_ranked_b70, f_St_ranked_b75, f_St_ranked_b88, c2, h1, ne10, ↓rv0, ↓rg0_0, ↓rg0_1, ↓rg0_2, ↓rg0_3, ↓rg0_4, ↓rg0_5, ↓rg0_6, ↓rg0_7, ↓rg0_8, ↓rg0_9, ↓rg0_10, ↓rv5, ↓rg5_0, ↓rg5_1, ↓rg5_2, ↓rv8, ↓rg8_0, ↓rg8_1, ↓rg8_2, ↓rg8_3, ↓rg8_4, ↓rv9, ↓rg9_0, ↓rg9_1, ↓rg9_2, ↓rg9_3, ↓rv13, ↓rg13_0, ↓rv14, ↓rg14_0, ↓rg14_1, ↓rg14_2, ↓rg14_3, ↓rg14_4, ↓rv17, ↓rg17_0, ↓rg17_1, ↓rg17_2, ↓rg17_3, ↓rv18, ↓rg18_0, ↓rv20, ↓rg20_0, ↓rv22, ↓rg22_0, ↓rg22_1, ↓rg22_2, ↓rg22_3, ↓rg22_4, ↓rv23, ↓rg23_0, ↓rv25, ↓rg25_0, ↓rg25_1, ↓rg25_2, ↓rg25_3, ↓rg25_4, ↓rg25_5, ↓rg25_6, ↓rg25_7, ↓rg25_8, ↓rg25_9, ↓rg25_10, ↓rg25_11, ↓rv26, ↓rg26_0, ↓rl12, ↓rl15, ↓rl16, ↓rl19, ↓rl21, ↓rl24, ↓rl27, ↓rl11, ↓rl3, ↓rl1, ↓rl4, ↓rl7, ↓rl10, ↓ra7, ↓ra10, ↓ra4, ↓rp14_0, ↓rp14_1, ↓rp14_2, ↓rp14_3, ↓rp8_3, ↓rp8_4, ↓rp8_2, ↓rp17_0, ↓rp17_1, ↓rp5_1, ↓rp5_2, ↓rp25_7, ↓rp25_8, ↓rp25_9, ↓rp25_10, ↓rp25_11, ↓rs12, ↓rs15, ↓rs16, ↓rs19, ↓rs21, ↓rs11, ↓rp0_5, ↓rp0_10, ↓rp0_7, ↓rp0_8, ↓rp0_9, ↓rs3, ↓xb, ↓xr, rl12, rl15, rl16, rl19, rl21, rl24, rl27, rl11, rl3, rl1, rl4, rl7, rl10, rs12, rs15, rs16, rs19, rs21, rs11, rs3, n3, n30, n10, n300, n401, n4p, np1, np2, nI_add, ↓reduceIte]
            simpa only [befs, bef, h1, true_or, decide_true, if_true] using i2
          · by_cases h2 : σ.2.1 13 (30 * s + j) = σ.2.1 13 (30 * s + k)
            · have h1' : ¬ σ.2.1 13 (30 * s + k) < σ.2.1 13 (30 * s + k) := Int32.lt_irrefl
              by_cases h3 : j < k
              · have c3' : ¬ nI k ≤ nI j := fun q => c3.mp q h3
                simp (disch := first | assumption | omega) only [f_St_ranked_h13, f_St_ranked_b13, f_St_ranked_b70, f_St_ranked_b75, f_St_ranked_b88, c2, h1', h2, c3', ne10, ↓rv0, ↓rg0_0, ↓rg0_1, ↓rg0_2, ↓rg0_3, ↓rg0_4, ↓rg0_5, ↓rg0_6, ↓rg0_7, ↓rg0_8, ↓rg0_9, ↓rg0_10, ↓rv5, ↓rg5_0, ↓rg5_1, ↓rg5_2, ↓rv8, ↓rg8_0, ↓rg8_1, ↓rg8_2, ↓rg8_3, ↓rg8_4, ↓rv9, ↓rg9_0, ↓rg9_1, ↓rg9_2, ↓rg9_3, ↓rv13, ↓rg13_0, ↓rv14, ↓rg14_0, ↓rg14_1, ↓rg14_2, ↓rg14_3, ↓rg14_4, ↓rv17, ↓rg17_0, ↓rg17_1, ↓rg17_2, ↓rg17_3, ↓rv18, ↓rg18_0, ↓rv20, ↓rg20_0, ↓rv22, ↓rg22_0, ↓rg22_1, ↓rg22_2, ↓rg22_3, ↓rg22_4, ↓rv23, ↓rg23_0, ↓rv25, ↓rg25_0, ↓rg25_1, ↓rg25_2, ↓rg25_3, ↓rg25_4, ↓rg25_5, ↓rg25_6, ↓rg25_7, ↓rg25_8, ↓rg25_9, ↓rg25_10, ↓rg25_11, ↓rv26, ↓rg26_0, ↓rl12, ↓rl15, ↓rl16, ↓rl19, ↓rl21, ↓rl24, ↓rl27, ↓rl11, ↓rl3, ↓rl1, ↓rl4, ↓rl7, ↓rl10, ↓ra7, ↓ra10, ↓ra4, ↓rp14_0, ↓rp14_1, ↓rp14_2, ↓rp14_3, ↓rp8_3, ↓rp8_4, ↓rp8_2, ↓rp17_0, ↓rp17_1, ↓rp5_1, ↓rp5_2, ↓rp25_7, ↓rp25_8, ↓rp25_9, ↓rp25_10, ↓rp25_11, ↓rs12, ↓rs15, ↓rs16, ↓rs19, ↓rs21, ↓rs11, ↓rp0_5, ↓rp0_10, ↓rp0_7, ↓rp0_8, ↓rp0_9, ↓rs3, ↓xb, ↓xr, rl12, rl15, rl16, rl19, rl21, rl24, rl27, rl11, rl3, rl1, rl4, rl7, rl10, rs12, rs15, rs16, rs19, rs21, rs11, rs3, n3, n30, n10, n300, n401, n4p, np1, np2, nI_add, ↓reduceIte]
                simpa only [befs, bef, h2, h3, and_self, or_true, decide_true, if_true] using i2
              · have c3' : nI k ≤ nI j := c3.mpr h3
                simp (disch := first | assumption | omega) only [f_St_ranked_h13, f_St_ranked_b13, f_St_ranked_b74, f_St_ranked_b75, f_St_ranked_b88, c2, h1', h2, c3', Int32.add_zero, ↓rv0, ↓rg0_0, ↓rg0_1, ↓rg0_2, ↓rg0_3, ↓rg0_4, ↓rg0_5, ↓rg0_6, ↓rg0_7, ↓rg0_8, ↓rg0_9, ↓rg0_10, ↓rv5, ↓rg5_0, ↓rg5_1, ↓rg5_2, ↓rv8, ↓rg8_0, ↓rg8_1, ↓rg8_2, ↓rg8_3, ↓rg8_4, ↓rv9, ↓rg9_0, ↓rg9_1, ↓rg9_2, ↓rg9_3, ↓rv13, ↓rg13_0, ↓rv14, ↓rg14_0, ↓rg14_1, ↓rg14_2, ↓rg14_3, ↓rg14_4, ↓rv17, ↓rg17_0, ↓rg17_1, ↓rg17_2, ↓rg17_3, ↓rv18, ↓rg18_0, ↓rv20, ↓rg20_0, ↓rv22, ↓rg22_0, ↓rg22_1, ↓rg22_2, ↓rg22_3, ↓rg22_4, ↓rv23, ↓rg23_0, ↓rv25, ↓rg25_0, ↓rg25_1, ↓rg25_2, ↓rg25_3, ↓rg25_4, ↓rg25_5, ↓rg25_6, ↓rg25_7, ↓rg25_8, ↓rg25_9, ↓rg25_10, ↓rg25_11, ↓rv26, ↓rg26_0, ↓rl12, ↓rl15, ↓rl16, ↓rl19, ↓rl21, ↓rl24, ↓rl27, ↓rl11, ↓rl3, ↓rl1, ↓rl4, ↓rl7, ↓rl10, ↓ra7, ↓ra10, ↓ra4, ↓rp14_0, ↓rp14_1, ↓rp14_2, ↓rp14_3, ↓rp8_3, ↓rp8_4, ↓rp8_2, ↓rp17_0, ↓rp17_1, ↓rp5_1, ↓rp5_2, ↓rp25_7, ↓rp25_8, ↓rp25_9, ↓rp25_10, ↓rp25_11, ↓rs12, ↓rs15, ↓rs16, ↓rs19, ↓rs21, ↓rs11, ↓rp0_5, ↓rp0_10, ↓rp0_7, ↓rp0_8, ↓rp0_9, ↓rs3, ↓xb, ↓xr, rl12, rl15, rl16, rl19, rl21, rl24, rl27, rl11, rl3, rl1, rl4, rl7, rl10, rs12, rs15, rs16, rs19, rs21, rs11, rs3, n3, n30, n10, n300, n401, n4p, np1, np2, nI_add, ↓reduceIte]
                simpa only [befs, bef, h1, h2, h3, and_false, or_false, decide_false, if_false, Nat.add_zero, Bool.false_eq_true, Int32.lt_irrefl] using i2
            · simp (disch := first | assumption | omega) only [f_St_ranked_h13, f_St_ranked_b13, f_St_ranked_b74, f_St_ranked_b75, f_St_ranked_b88, c2, h1, h2, Int32.add_zero, ↓rv0, ↓rg0_0, ↓rg0_1, ↓rg0_2, ↓rg0_3, ↓rg0_4, ↓rg0_5, ↓rg0_6, ↓rg0_7, ↓rg0_8, ↓rg0_9, ↓rg0_10, ↓rv5, ↓rg5_0, ↓rg5_1, ↓rg5_2, ↓rv8, ↓rg8_0, ↓rg8_1, ↓rg8_2, ↓rg8_3, ↓rg8_4, ↓rv9, ↓rg9_0, ↓rg9_1, ↓rg9_2, ↓rg9_3, ↓rv13, ↓rg13_0, ↓rv14, ↓rg14_0, ↓rg14_1, ↓rg14_2, ↓rg14_3, ↓rg14_4, ↓rv17, ↓rg17_0, ↓rg17_1, ↓rg17_2, ↓rg17_3, ↓rv18, ↓rg18_0, ↓rv20, ↓rg20_0, ↓rv22, ↓rg22_0, ↓rg22_1, ↓rg22_2, ↓rg22_3, ↓rg22_4, ↓rv23, ↓rg23_0, ↓rv25, ↓rg25_0, ↓rg25_1, ↓rg25_2, ↓rg25_3, ↓rg25_4, ↓rg25_5, ↓rg25_6, ↓rg25_7, ↓rg25_8, ↓rg25_9, ↓rg25_10, ↓rg25_11, ↓rv26, ↓rg26_0, ↓rl12, ↓rl15, ↓rl16, ↓rl19, ↓rl21, ↓rl24, ↓rl27, ↓rl11, ↓rl3, ↓rl1, ↓rl4, ↓rl7, ↓rl10, ↓ra7, ↓ra10, ↓ra4, ↓rp14_0, ↓rp14_1, ↓rp14_2, ↓rp14_3, ↓rp8_3, ↓rp8_4, ↓rp8_2, ↓rp17_0, ↓rp17_1, ↓rp5_1, ↓rp5_2, ↓rp25_7, ↓rp25_8, ↓rp25_9, ↓rp25_10, ↓rp25_11, ↓rs12, ↓rs15, ↓rs16, ↓rs19, ↓rs21, ↓rs11, ↓rp0_5, ↓rp0_10, ↓rp0_7, ↓rp0_8, ↓rp0_9, ↓rs3, ↓xb, ↓xr, rl12, rl15, rl16, rl19, rl21, rl24, rl27, rl11, rl3, rl1, rl4, rl7, rl10, rs12, rs15, rs16, rs19, rs21, rs11, rs3, n3, n30, n10, n300, n401, n4p, np1, np2, nI_add, ↓reduceIte]
              simpa only [befs, bef, h1, h2, false_and, or_false, decide_false, if_false, Nat.add_zero, Bool.false_eq_true] using i2
      simp only [f_St_ranked_h2, f_St_ranked_b2, c1, ↓reduceIte]
      exact inner 30 0 1000 (by omega) (by omega)
    induction d with
    | zero =>
      intro k n hk hn
      obtain ⟨n, rfl, -⟩ := pos_of hn
      have hk : k = rankS σ s a 30 := by omega
      refine outer k n (by omega) (fun K _ hne => ?_) (fun _ => hk)
      rw [hk] at hne
      exact absurd r2 hne
    | succ d ih =>
      intro k n hk hn
      obtain ⟨n, rfl, hn⟩ := pos_of hn
      refine outer k n (by omega) (fun K hK _ => ?_) (fun hb => absurd hb (r3 k (by omega)))
      subst hK
      exact ih (k + 1) n (by omega) (by omega)
  exact key (rankS σ s a 30) 0 1000 (by omega) (by omega)
theorem c_tell {s : Nat} {kd a : Int32} (hx : Wx x) (hs : sv x s) (hP1 : 1 ≤ dP x) (hq : qok (dP x) kd a) : f_St_answer (en x 9 s 0) kd a (nI (dP x)) (er x y σ h) = some (.inl (tellS (dP x) σ s kd a), er x y σ h) := by
  obtain ⟨k, hk8, rfl, hq⟩ := hq
  have hk : k = 0 ∨ k = 1 ∨ k = 2 ∨ k = 3 ∨ k = 4 ∨ k = 5 ∨ k = 6 ∨ k = 7 ∨ k = 8 := by omega
  rcases hq with ⟨hk2, i, hi, rfl⟩ | ⟨hk2, i, hi, rfl⟩ | ⟨rfl, hq⟩
  · have hcn : cn (nI i) = i := cn_nI (by omega)
    have e1 := c_ranked (h := h) (y := y) (σ := σ) hx hs hi
    unfold tellS
    rw [hcn]
    rcases hk with rfl | rfl | rfl | rfl | rfl | rfl | rfl | rfl | rfl <;> first | omega | (simp (disch := first | assumption | omega) only [f_St_answer, show nI 0 = 0 from rfl, show nI 1 = 1 from rfl, show nI 2 = 2 from rfl, show nI 3 = 3 from rfl, show nI 7 = 7 from rfl, show ¬ (1 : Int32) = 0 by decide, show ¬ (2 : Int32) = 0 by decide, show ¬ (2 : Int32) = 1 by decide, show ¬ (3 : Int32) = 0 by decide, show ¬ (3 : Int32) = 1 by decide, show ¬ (3 : Int32) = 2 by decide, show ¬ (7 : Int32) = 0 by decide, show ¬ (7 : Int32) = 1 by decide, show ¬ (7 : Int32) = 2 by decide, show ¬ (7 : Int32) = 3 by decide, show ¬ (7 : Int32) = 4 by decide, show ¬ (7 : Int32) = 5 by decide, show ¬ (7 : Int32) = 6 by decide, e1, ↓rv0, ↓rg0_0, ↓rg0_1, ↓rg0_2, ↓rg0_3, ↓rg0_4, ↓rg0_5, ↓rg0_6, ↓rg0_7, ↓rg0_8, ↓rg0_9, ↓rg0_10, ↓rv5, ↓rg5_0, ↓rg5_1, ↓rg5_2, ↓rv8, ↓rg8_0, ↓rg8_1, ↓rg8_2, ↓rg8_3, ↓rg8_4, ↓rv9, ↓rg9_0, ↓rg9_1, ↓rg9_2, ↓rg9_3, ↓rv13, ↓rg13_0, ↓rv14, ↓rg14_0, ↓rg14_1, ↓rg14_2, ↓rg14_3, ↓rg14_4, ↓rv17, ↓rg17_0, ↓rg17_1, ↓rg17_2, ↓rg17_3, ↓rv18, ↓rg18_0, ↓rv20, ↓rg20_0, ↓rv22, ↓rg22_0, ↓rg22_1, ↓rg22_2, ↓rg22_3, ↓rg22_4, ↓rv23, ↓rg23_0, ↓rv25, ↓rg25_0, ↓rg25_1, ↓rg25_2, ↓rg25_3, ↓rg25_4, ↓rg25_5, ↓rg25_6, ↓rg25_7, ↓rg25_8, ↓rg25_9, ↓rg25_10, ↓rg25_11, ↓rv26, ↓rg26_0, ↓rl12, ↓rl15, ↓rl16, ↓rl19, ↓rl21, ↓rl24, ↓rl27, ↓rl11, ↓rl3, ↓rl1, ↓rl4, ↓rl7, ↓rl10, ↓ra7, ↓ra10, ↓ra4, ↓rp14_0, ↓rp14_1, ↓rp14_2, ↓rp14_3, ↓rp8_3, ↓rp8_4, ↓rp8_2, ↓rp17_0, ↓rp17_1, ↓rp5_1, ↓rp5_2, ↓rp25_7, ↓rp25_8, ↓rp25_9, ↓rp25_10, ↓rp25_11, ↓rs12, ↓rs15, ↓rs16, ↓rs19, ↓rs21, ↓rs11, ↓rp0_5, ↓rp0_10, ↓rp0_7, ↓rp0_8, ↓rp0_9, ↓rs3, ↓xb, ↓xr, rl12, rl15, rl16, rl19, rl21, rl24, rl27, rl11, rl3, rl1, rl4, rl7, rl10, rs12, rs15, rs16, rs19, rs21, rs11, rs3, n3, n30, n10, n300, n401, n4p, np1, np2, nI_add, ↓reduceIte])
  · have hcn : cn (nI i) = i := cn_nI (by omega)
    have e1 := c_held (h := h) (y := y) (σ := σ) (c := i) hx hs hi
    unfold tellS
    rw [hcn]
    rcases hk with rfl | rfl | rfl | rfl | rfl | rfl | rfl | rfl | rfl <;> first | omega | (simp (disch := first | assumption | omega) only [f_St_answer, show nI 4 = 4 from rfl, show nI 5 = 5 from rfl, show nI 6 = 6 from rfl, show ¬ (4 : Int32) = 0 by decide, show ¬ (4 : Int32) = 1 by decide, show ¬ (4 : Int32) = 2 by decide, show ¬ (4 : Int32) = 3 by decide, show ¬ (5 : Int32) = 0 by decide, show ¬ (5 : Int32) = 1 by decide, show ¬ (5 : Int32) = 2 by decide, show ¬ (5 : Int32) = 3 by decide, show ¬ (5 : Int32) = 4 by decide, show ¬ (6 : Int32) = 0 by decide, show ¬ (6 : Int32) = 1 by decide, show ¬ (6 : Int32) = 2 by decide, show ¬ (6 : Int32) = 3 by decide, show ¬ (6 : Int32) = 4 by decide, show ¬ (6 : Int32) = 5 by decide, e1, ↓rv0, ↓rg0_0, ↓rg0_1, ↓rg0_2, ↓rg0_3, ↓rg0_4, ↓rg0_5, ↓rg0_6, ↓rg0_7, ↓rg0_8, ↓rg0_9, ↓rg0_10, ↓rv5, ↓rg5_0, ↓rg5_1, ↓rg5_2, ↓rv8, ↓rg8_0, ↓rg8_1, ↓rg8_2, ↓rg8_3, ↓rg8_4, ↓rv9, ↓rg9_0, ↓rg9_1, ↓rg9_2, ↓rg9_3, ↓rv13, ↓rg13_0, ↓rv14, ↓rg14_0, ↓rg14_1, ↓rg14_2, ↓rg14_3, ↓rg14_4, ↓rv17, ↓rg17_0, ↓rg17_1, ↓rg17_2, ↓rg17_3, ↓rv18, ↓rg18_0, ↓rv20, ↓rg20_0, ↓rv22, ↓rg22_0, ↓rg22_1, ↓rg22_2, ↓rg22_3, ↓rg22_4, ↓rv23, ↓rg23_0, ↓rv25, ↓rg25_0, ↓rg25_1, ↓rg25_2, ↓rg25_3, ↓rg25_4, ↓rg25_5, ↓rg25_6, ↓rg25_7, ↓rg25_8, ↓rg25_9, ↓rg25_10, ↓rg25_11, ↓rv26, ↓rg26_0, ↓rl12, ↓rl15, ↓rl16, ↓rl19, ↓rl21, ↓rl24, ↓rl27, ↓rl11, ↓rl3, ↓rl1, ↓rl4, ↓rl7, ↓rl10, ↓ra7, ↓ra10, ↓ra4, ↓rp14_0, ↓rp14_1, ↓rp14_2, ↓rp14_3, ↓rp8_3, ↓rp8_4, ↓rp8_2, ↓rp17_0, ↓rp17_1, ↓rp5_1, ↓rp5_2, ↓rp25_7, ↓rp25_8, ↓rp25_9, ↓rp25_10, ↓rp25_11, ↓rs12, ↓rs15, ↓rs16, ↓rs19, ↓rs21, ↓rs11, ↓rp0_5, ↓rp0_10, ↓rp0_7, ↓rp0_8, ↓rp0_9, ↓rs3, ↓xb, ↓xr, rl12, rl15, rl16, rl19, rl21, rl24, rl27, rl11, rl3, rl1, rl4, rl7, rl10, rs12, rs15, rs16, rs19, rs21, rs11, rs3, n3, n30, n10, n300, n401, n4p, np1, np2, nI_add, ↓reduceIte])
  · have ha : -1 ≤ a := by
      rcases hq with rfl | ⟨i, hi, rfl⟩
      · decide
      · have hP3 := hx.2.2.1
        exact Int32.le_trans (show (-1 : Int32) ≤ 0 by decide) (nI_pos' (by omega))
    have e1 := c_worth (h := h) (y := y) (σ := σ) (a := a) hx hs hP1 ha
    unfold tellS f_St_answer
    simp (disch := first | assumption | omega) only [show ¬ nI 8 = 0 by decide, show ¬ nI 8 = 1 by decide, show ¬ nI 8 = 2 by decide, show ¬ nI 8 = 3 by decide, show ¬ nI 8 = 4 by decide, show ¬ nI 8 = 5 by decide, show ¬ nI 8 = 6 by decide, show ¬ nI 8 = 7 by decide, e1, ↓rv0, ↓rg0_0, ↓rg0_1, ↓rg0_2, ↓rg0_3, ↓rg0_4, ↓rg0_5, ↓rg0_6, ↓rg0_7, ↓rg0_8, ↓rg0_9, ↓rg0_10, ↓rv5, ↓rg5_0, ↓rg5_1, ↓rg5_2, ↓rv8, ↓rg8_0, ↓rg8_1, ↓rg8_2, ↓rg8_3, ↓rg8_4, ↓rv9, ↓rg9_0, ↓rg9_1, ↓rg9_2, ↓rg9_3, ↓rv13, ↓rg13_0, ↓rv14, ↓rg14_0, ↓rg14_1, ↓rg14_2, ↓rg14_3, ↓rg14_4, ↓rv17, ↓rg17_0, ↓rg17_1, ↓rg17_2, ↓rg17_3, ↓rv18, ↓rg18_0, ↓rv20, ↓rg20_0, ↓rv22, ↓rg22_0, ↓rg22_1, ↓rg22_2, ↓rg22_3, ↓rg22_4, ↓rv23, ↓rg23_0, ↓rv25, ↓rg25_0, ↓rg25_1, ↓rg25_2, ↓rg25_3, ↓rg25_4, ↓rg25_5, ↓rg25_6, ↓rg25_7, ↓rg25_8, ↓rg25_9, ↓rg25_10, ↓rg25_11, ↓rv26, ↓rg26_0, ↓rl12, ↓rl15, ↓rl16, ↓rl19, ↓rl21, ↓rl24, ↓rl27, ↓rl11, ↓rl3, ↓rl1, ↓rl4, ↓rl7, ↓rl10, ↓ra7, ↓ra10, ↓ra4, ↓rp14_0, ↓rp14_1, ↓rp14_2, ↓rp14_3, ↓rp8_3, ↓rp8_4, ↓rp8_2, ↓rp17_0, ↓rp17_1, ↓rp5_1, ↓rp5_2, ↓rp25_7, ↓rp25_8, ↓rp25_9, ↓rp25_10, ↓rp25_11, ↓rs12, ↓rs15, ↓rs16, ↓rs19, ↓rs21, ↓rs11, ↓rp0_5, ↓rp0_10, ↓rp0_7, ↓rp0_8, ↓rp0_9, ↓rs3, ↓xb, ↓xr, rl12, rl15, rl16, rl19, rl21, rl24, rl27, rl11, rl3, rl1, rl4, rl7, rl10, rs12, rs15, rs16, rs19, rs21, rs11, rs3, n3, n30, n10, n300, n401, n4p, np1, np2, nI_add, ↓reduceIte]
theorem tok_eq (l0 : Nat) : f_Vec_token l0 = (gA l0 8 0 fun v1 => lI v1 (nI 0) fun v2 => gA l0 8 0 fun v3 => lI v3 (nI 1) fun v4 => gA l0 8 0 fun v5 => lI v5 (nI 2) fun v6 => xb (f_Vec_check (xof v2 v4 v6)) fun v7 => xr ((xof v2 v4 v6 <<< ((20 : Int32).toInt64 &&& 63)) + v7)) := rfl
theorem c_check (v : Int64) {H : xH} : f_Vec_check v H = some (.inl (chkS v), H) := rfl
theorem c_token {s : Nat} (hx : Wx x) (hs : sv x s) : f_Vec_token (en x 13 s 0) (er x y σ h) = some (.inl (tokS (σ.2.1 18 (3 * s)) (σ.2.1 18 (3 * s + 1)) (σ.2.1 18 (3 * s + 2))), er x y σ h) := by
  rw [tok_eq]
  simp (disch := first | assumption | omega) only [shl20, c_check, Nat.add_zero, ↓rv0, ↓rg0_0, ↓rg0_1, ↓rg0_2, ↓rg0_3, ↓rg0_4, ↓rg0_5, ↓rg0_6, ↓rg0_7, ↓rg0_8, ↓rg0_9, ↓rg0_10, ↓rv5, ↓rg5_0, ↓rg5_1, ↓rg5_2, ↓rv8, ↓rg8_0, ↓rg8_1, ↓rg8_2, ↓rg8_3, ↓rg8_4, ↓rv9, ↓rg9_0, ↓rg9_1, ↓rg9_2, ↓rg9_3, ↓rv13, ↓rg13_0, ↓rv14, ↓rg14_0, ↓rg14_1, ↓rg14_2, ↓rg14_3, ↓rg14_4, ↓rv17, ↓rg17_0, ↓rg17_1, ↓rg17_2, ↓rg17_3, ↓rv18, ↓rg18_0, ↓rv20, ↓rg20_0, ↓rv22, ↓rg22_0, ↓rg22_1, ↓rg22_2, ↓rg22_3, ↓rg22_4, ↓rv23, ↓rg23_0, ↓rv25, ↓rg25_0, ↓rg25_1, ↓rg25_2, ↓rg25_3, ↓rg25_4, ↓rg25_5, ↓rg25_6, ↓rg25_7, ↓rg25_8, ↓rg25_9, ↓rg25_10, ↓rg25_11, ↓rv26, ↓rg26_0, ↓rl12, ↓rl15, ↓rl16, ↓rl19, ↓rl21, ↓rl24, ↓rl27, ↓rl11, ↓rl3, ↓rl1, ↓rl4, ↓rl7, ↓rl10, ↓ra7, ↓ra10, ↓ra4, ↓rp14_0, ↓rp14_1, ↓rp14_2, ↓rp14_3, ↓rp8_3, ↓rp8_4, ↓rp8_2, ↓rp17_0, ↓rp17_1, ↓rp5_1, ↓rp5_2, ↓rp25_7, ↓rp25_8, ↓rp25_9, ↓rp25_10, ↓rp25_11, ↓rs12, ↓rs15, ↓rs16, ↓rs19, ↓rs21, ↓rs11, ↓rp0_5, ↓rp0_10, ↓rp0_7, ↓rp0_8, ↓rp0_9, ↓rs3, ↓xb, ↓xr, rl12, rl15, rl16, rl19, rl21, rl24, rl27, rl11, rl3, rl1, rl4, rl7, rl10, rs12, rs15, rs16, rs19, rs21, rs11, rs3, n3, n30, n10, n300, n401, n4p, np1, np2, nI_add, ↓reduceIte]
  rfl
theorem sum_eq (l0 : Nat) : f_Vec_sum l0 = (gA l0 8 0 fun v1 => lI v1 (nI 0) fun v2 => gA l0 8 0 fun v3 => lI v3 (nI 1) fun v4 => gA l0 8 0 fun v5 => lI v5 (nI 2) fun v6 => xr ((v2 + v4) + v6)) := rfl
theorem c_sum {s : Nat} (hx : Wx x) (hs : sv x s) : f_Vec_sum (en x 13 s 0) (er x y σ h) = some (.inl (σ.2.1 18 (3 * s) + σ.2.1 18 (3 * s + 1) + σ.2.1 18 (3 * s + 2)), er x y σ h) := by
  rw [sum_eq]
  simp (disch := first | assumption | omega) only [Nat.add_zero, ↓rv0, ↓rg0_0, ↓rg0_1, ↓rg0_2, ↓rg0_3, ↓rg0_4, ↓rg0_5, ↓rg0_6, ↓rg0_7, ↓rg0_8, ↓rg0_9, ↓rg0_10, ↓rv5, ↓rg5_0, ↓rg5_1, ↓rg5_2, ↓rv8, ↓rg8_0, ↓rg8_1, ↓rg8_2, ↓rg8_3, ↓rg8_4, ↓rv9, ↓rg9_0, ↓rg9_1, ↓rg9_2, ↓rg9_3, ↓rv13, ↓rg13_0, ↓rv14, ↓rg14_0, ↓rg14_1, ↓rg14_2, ↓rg14_3, ↓rg14_4, ↓rv17, ↓rg17_0, ↓rg17_1, ↓rg17_2, ↓rg17_3, ↓rv18, ↓rg18_0, ↓rv20, ↓rg20_0, ↓rv22, ↓rg22_0, ↓rg22_1, ↓rg22_2, ↓rg22_3, ↓rg22_4, ↓rv23, ↓rg23_0, ↓rv25, ↓rg25_0, ↓rg25_1, ↓rg25_2, ↓rg25_3, ↓rg25_4, ↓rg25_5, ↓rg25_6, ↓rg25_7, ↓rg25_8, ↓rg25_9, ↓rg25_10, ↓rg25_11, ↓rv26, ↓rg26_0, ↓rl12, ↓rl15, ↓rl16, ↓rl19, ↓rl21, ↓rl24, ↓rl27, ↓rl11, ↓rl3, ↓rl1, ↓rl4, ↓rl7, ↓rl10, ↓ra7, ↓ra10, ↓ra4, ↓rp14_0, ↓rp14_1, ↓rp14_2, ↓rp14_3, ↓rp8_3, ↓rp8_4, ↓rp8_2, ↓rp17_0, ↓rp17_1, ↓rp5_1, ↓rp5_2, ↓rp25_7, ↓rp25_8, ↓rp25_9, ↓rp25_10, ↓rp25_11, ↓rs12, ↓rs15, ↓rs16, ↓rs19, ↓rs21, ↓rs11, ↓rp0_5, ↓rp0_10, ↓rp0_7, ↓rp0_8, ↓rp0_9, ↓rs3, ↓xb, ↓xr, rl12, rl15, rl16, rl19, rl21, rl24, rl27, rl11, rl3, rl1, rl4, rl7, rl10, rs12, rs15, rs16, rs19, rs21, rs11, rs3, n3, n30, n10, n300, n401, n4p, np1, np2, nI_add, ↓reduceIte]
theorem rise_18 (σ : xS) (s r p : Nat) : (riseS σ s r p).2.1 18 = σ.2.1 18 := (rise_same σ s r p).2.1 18 (by decide)
theorem c_rise {s r : Nat} (hx : Wx x) (hs : s < 8) (hr : sv x r) : f_Vec_rise (en x 20 s 0) (en x 13 r 0) (er x y σ h) = some (.inl (), er x y (riseS σ s r 3) h) := by
  have key : ∀ d p n, p + d = 3 → d < n → f_Vec_rise_h2 n (en x 20 s 0) (en x 13 r 0) (nI p) (er x y (riseS σ s r p) h) = some (.inl (), er x y (riseS σ s r 3) h) := by
    intro d
    induction d with
    | zero =>
      intro p n hp hn
      obtain ⟨n, rfl, -⟩ := pos_of hn
      obtain rfl : p = 3 := by omega
      have c1 : (3 : Int32) ≤ nI 3 := by decide
      simp only [f_Vec_rise_h2, f_Vec_rise_b2, c1, ↓reduceIte, xr]
    | succ d ih =>
      intro p n hp hn
      obtain ⟨n, rfl, hn⟩ := pos_of hn
      have c1 : ¬ (3 : Int32) ≤ nI p := nI_ge (b := 3) (by omega) (by omega)
      have i1 := ih (p + 1) n (by omega) (by omega)
      simp (disch := first | assumption | omega) only [f_Vec_rise_h2, f_Vec_rise_b2, c1, c_max, rise_18, ↓rv0, ↓rg0_0, ↓rg0_1, ↓rg0_2, ↓rg0_3, ↓rg0_4, ↓rg0_5, ↓rg0_6, ↓rg0_7, ↓rg0_8, ↓rg0_9, ↓rg0_10, ↓rv5, ↓rg5_0, ↓rg5_1, ↓rg5_2, ↓rv8, ↓rg8_0, ↓rg8_1, ↓rg8_2, ↓rg8_3, ↓rg8_4, ↓rv9, ↓rg9_0, ↓rg9_1, ↓rg9_2, ↓rg9_3, ↓rv13, ↓rg13_0, ↓rv14, ↓rg14_0, ↓rg14_1, ↓rg14_2, ↓rg14_3, ↓rg14_4, ↓rv17, ↓rg17_0, ↓rg17_1, ↓rg17_2, ↓rg17_3, ↓rv18, ↓rg18_0, ↓rv20, ↓rg20_0, ↓rv22, ↓rg22_0, ↓rg22_1, ↓rg22_2, ↓rg22_3, ↓rg22_4, ↓rv23, ↓rg23_0, ↓rv25, ↓rg25_0, ↓rg25_1, ↓rg25_2, ↓rg25_3, ↓rg25_4, ↓rg25_5, ↓rg25_6, ↓rg25_7, ↓rg25_8, ↓rg25_9, ↓rg25_10, ↓rg25_11, ↓rv26, ↓rg26_0, ↓rl12, ↓rl15, ↓rl16, ↓rl19, ↓rl21, ↓rl24, ↓rl27, ↓rl11, ↓rl3, ↓rl1, ↓rl4, ↓rl7, ↓rl10, ↓ra7, ↓ra10, ↓ra4, ↓rp14_0, ↓rp14_1, ↓rp14_2, ↓rp14_3, ↓rp8_3, ↓rp8_4, ↓rp8_2, ↓rp17_0, ↓rp17_1, ↓rp5_1, ↓rp5_2, ↓rp25_7, ↓rp25_8, ↓rp25_9, ↓rp25_10, ↓rp25_11, ↓rs12, ↓rs15, ↓rs16, ↓rs19, ↓rs21, ↓rs11, ↓rp0_5, ↓rp0_10, ↓rp0_7, ↓rp0_8, ↓rp0_9, ↓rs3, ↓xb, ↓xr, rl12, rl15, rl16, rl19, rl21, rl24, rl27, rl11, rl3, rl1, rl4, rl7, rl10, rs12, rs15, rs16, rs19, rs21, rs11, rs3, n3, n30, n10, n300, n401, n4p, np1, np2, nI_add, ↓reduceIte]
      exact i1
  exact key 3 0 1000 (by omega) (by omega)
theorem uI_self (σ : xS) (k i : Nat) : uI σ k i (σ.2.1 k i) = σ := by
  refine Prod.ext rfl (Prod.ext (funext fun k' => ?_) rfl)
  show va_up σ.2.1 k (va_up (σ.2.1 k) i (σ.2.1 k i)) k' = σ.2.1 k'
  unfold va_up
  split
  · rename_i e
    subst e
    funext q
    split
    · rename_i e
      subst e
      rfl
    · rfl
  · rfl
theorem rise_P {P s r : Nat} (hP : P ≤ 3) (hs : ∀ q, P ≤ q → q < 3 → σ.2.1 25 (3 * s + q) = 0) (ha : ∀ q, P ≤ q → q < 3 → σ.2.1 18 (3 * r + q) = 0) : riseS σ s r 3 = riseS σ s r P := by
  have : ∀ n, P + n ≤ 3 → riseS σ s r (P + n) = riseS σ s r P := by
    intro n
    induction n with
    | zero => intro _; rfl
    | succ n ih =>
      intro hn
      show uI (riseS σ s r (P + n)) 25 (3 * s + (P + n)) (mx ((riseS σ s r (P + n)).2.1 25 (3 * s + (P + n))) (σ.2.1 18 (3 * r + (P + n)))) = _
      rw [ih (by omega)]
      have e : (riseS σ s r P).2.1 25 (3 * s + (P + n)) = 0 := by
        rw [rise_out _ _ _ _ _ (fun q hq => by omega)]
        exact hs _ (by omega) (by omega)
      rw [e, ha _ (by omega) (by omega)]
      rw [show mx 0 0 = (riseS σ s r P).2.1 25 (3 * s + (P + n)) by rw [e]; rfl]
      exact uI_self _ _ _
  have h3 := this (3 - P) (by omega)
  rwa [show P + (3 - P) = 3 by omega] at h3
theorem Inv0.a0 {P N R T : Nat} {e t : Nat → Nat} (hi : Inv0 P N R T e t σ) {r : Nat} (hr : r < 8) : ∀ q, P ≤ q → q < 3 → σ.2.1 18 (3 * r + q) = 0 := by
  intro q g1 g2
  obtain ⟨a, ea, -, -, g3⟩ := hi.2.2.1.1 r hr q g2
  rw [ea, g3 g1]
  rfl
theorem c_answer_w {r k : Nat} (hx : Wx x) (hP : σ.1 0 = nI (dP x)) (hP1 : 1 ≤ dP x) (h3 : i_at (dP x) (dN x) (dE x) t σ) (h5 : i_ses (dP x) (dN x) (dE x) σ) (h6 : i_rd (dP x) (dR x) T σ) (hr : r < dN x) (hk : k < dR x) : f_RS_answer (en x 0 0 0) (en x 25 k 0) (nI r) (er x y σ h) = some (.inl (), er x (yn y 1 (y.2.1 1 + 1)) (ansS (dP x) σ r k) h) := by
  have hN4 := hx.2.2.2.1
  have hsv : sv x r := Or.inl hr
  have a0 : ∀ q, dP x ≤ q → q < 3 → σ.2.1 18 (3 * r + q) = 0 := by
    intro q g1 g2
    obtain ⟨a, ea, -, -, g3⟩ := h3.1 r (by omega) q g2
    rw [ea, g3 g1]
    rfl
  obtain ⟨⟨s, hs8, es⟩, hq, q29, qs, -⟩ := h6 k hk
  have hsn : sn σ k = s := by unfold sn; rw [es, nI_clamp (by omega)]
  have s0 : ∀ q, dP x ≤ q → q < 3 → σ.2.1 25 (3 * s + q) = 0 := fun q g1 g2 => ((h5 s hs8).2 q g2).2.2 g1
  have sm : same [27, 35] σ (uI (uI σ 27 k 1) 35 k (nI r)) := same.trans (same.uI _ _ _ (by decide)) (same.uI _ _ _ (by decide))
  have t1 := c_tell (h := h) (y := y) (σ := uI (uI σ 27 k 1) 35 k (nI r)) (s := r) (kd := σ.2.1 33 k) (a := σ.2.1 34 k) hx hsv hP1 hq
  rw [tellS_c sm (by decide)] at t1
  have e33 : (uI (uI σ 27 k 1) 35 k (nI r)).2.1 33 = σ.2.1 33 := rfl
  have e34 : (uI (uI σ 27 k 1) 35 k (nI r)).2.1 34 = σ.2.1 34 := rfl
  have e0 : (uI (uI σ 27 k 1) 35 k (nI r)).1 0 = nI (dP x) := hP
  have k1 := c_token (h := h) (y := y) (σ := uJ (uI (uI σ 27 k 1) 35 k (nI r)) 36 k (tellS (dP x) σ r (σ.2.1 33 k) (σ.2.1 34 k))) (s := r) hx hsv
  have e18 : ∀ v, (uJ (uI (uI σ 27 k 1) 35 k (nI r)) 36 k v).2.1 18 = σ.2.1 18 := fun v => rfl
  rw [e18] at k1
  have e3 : ∀ v w, (uJ (uJ (uI (uI σ 27 k 1) 35 k (nI r)) 36 k v) 37 k w).1 3 = σ.1 3 := fun v w => rfl
  have e28 : ∀ v w u, (uI (uJ (uJ (uI (uI σ 27 k 1) 35 k (nI r)) 36 k v) 37 k w) 38 k u).2.1 28 k = nI s := fun v w u => es
  have rs := c_rise (h := h) (y := y) (σ := uI (uJ (uJ (uI (uI σ 27 k 1) 35 k (nI r)) 36 k (tellS (dP x) σ r (σ.2.1 33 k) (σ.2.1 34 k))) 37 k (tokS (σ.2.1 18 (3 * r)) (σ.2.1 18 (3 * r + 1)) (σ.2.1 18 (3 * r + 2)))) 38 k (σ.1 3)) (s := s) (r := r) hx hs8 hsv
  rw [rise_P (σ := uI (uJ (uJ (uI (uI σ 27 k 1) 35 k (nI r)) 36 k (tellS (dP x) σ r (σ.2.1 33 k) (σ.2.1 34 k))) 37 k (tokS (σ.2.1 18 (3 * r)) (σ.2.1 18 (3 * r + 1)) (σ.2.1 18 (3 * r + 2)))) 38 k (σ.1 3)) hx.2.2.1 s0 a0] at rs
  unfold ansS
  rw [hsn]
  simp (disch := first | assumption | omega) only [f_RS_answer, e33, e34, e0, t1, k1, e3, e28, rs, ↓rv0, ↓rg0_0, ↓rg0_1, ↓rg0_2, ↓rg0_3, ↓rg0_4, ↓rg0_5, ↓rg0_6, ↓rg0_7, ↓rg0_8, ↓rg0_9, ↓rg0_10, ↓rv5, ↓rg5_0, ↓rg5_1, ↓rg5_2, ↓rv8, ↓rg8_0, ↓rg8_1, ↓rg8_2, ↓rg8_3, ↓rg8_4, ↓rv9, ↓rg9_0, ↓rg9_1, ↓rg9_2, ↓rg9_3, ↓rv13, ↓rg13_0, ↓rv14, ↓rg14_0, ↓rg14_1, ↓rg14_2, ↓rg14_3, ↓rg14_4, ↓rv17, ↓rg17_0, ↓rg17_1, ↓rg17_2, ↓rg17_3, ↓rv18, ↓rg18_0, ↓rv20, ↓rg20_0, ↓rv22, ↓rg22_0, ↓rg22_1, ↓rg22_2, ↓rg22_3, ↓rg22_4, ↓rv23, ↓rg23_0, ↓rv25, ↓rg25_0, ↓rg25_1, ↓rg25_2, ↓rg25_3, ↓rg25_4, ↓rg25_5, ↓rg25_6, ↓rg25_7, ↓rg25_8, ↓rg25_9, ↓rg25_10, ↓rg25_11, ↓rv26, ↓rg26_0, ↓rl12, ↓rl15, ↓rl16, ↓rl19, ↓rl21, ↓rl24, ↓rl27, ↓rl11, ↓rl3, ↓rl1, ↓rl4, ↓rl7, ↓rl10, ↓ra7, ↓ra10, ↓ra4, ↓rp14_0, ↓rp14_1, ↓rp14_2, ↓rp14_3, ↓rp8_3, ↓rp8_4, ↓rp8_2, ↓rp17_0, ↓rp17_1, ↓rp5_1, ↓rp5_2, ↓rp25_7, ↓rp25_8, ↓rp25_9, ↓rp25_10, ↓rp25_11, ↓rs12, ↓rs15, ↓rs16, ↓rs19, ↓rs21, ↓rs11, ↓rp0_5, ↓rp0_10, ↓rp0_7, ↓rp0_8, ↓rp0_9, ↓rs3, ↓xb, ↓xr, rl12, rl15, rl16, rl19, rl21, rl24, rl27, rl11, rl3, rl1, rl4, rl7, rl10, rs12, rs15, rs16, rs19, rs21, rs11, rs3, n3, n30, n10, n300, n401, n4p, np1, np2, nI_add, ↓reduceIte]
theorem c_answer {r k : Nat} (hx : Wx x) (hi : Inv0 (dP x) (dN x) (dR x) T (dE x) t σ) (hr : r < dN x) (hk : k < dR x) : f_RS_answer (en x 0 0 0) (en x 25 k 0) (nI r) (er x y σ h) = some (.inl (), er x (yn y 1 (y.2.1 1 + 1)) (ansS (dP x) σ r k) h) := c_answer_w hx hi.1.2.2.2.2.2.2.1 hi.1.1 hi.2.2.1 hi.2.2.2.2.1 hi.2.2.2.2.2.1 hr hk
end XCC
