/-! the component: may, answers -/
theorem shl20 (v : Int64) : v <<< ((20 : Int32).toInt64 &&& 63) = v * 1048576 := by
  apply Int64.toBitVec_inj.mp
  rw [Int64.toBitVec_shiftLeft, Int64.toBitVec_mul]
  show v.toBitVec <<< 20 = v.toBitVec * 1048576#64
  rw [BitVec.shiftLeft_eq_mul_twoPow]
  rfl
theorem pig (n : Nat) (f : Nat → Nat) (hf : ∀ i, i < n → f i < n) (hi : ∀ i, i < n → ∀ j, j < n → f i = f j → i = j) : ∀ z, z < n → ∃ i, i < n ∧ f i = z := by
  induction n generalizing f with
  | zero => intro z hz; omega
  | succ n ih =>
    have hg := ih (fun i => if f i = n then f n else f i) (fun i hin => by
      show (if f i = n then f n else f i) < n
      by_cases c : f i = n
      · rw [if_pos c]
        have h1 := hf n (by omega)
        have h2 : f n ≠ n := fun q => by
          have := hi i (by omega) n (by omega) (by rw [c, q])
          omega
        omega
      · rw [if_neg c]
        have := hf i (by omega)
        omega) (fun i hin j hjn e => by
      have e : (if f i = n then f n else f i) = (if f j = n then f n else f j) := e
      by_cases ci : f i = n
      · by_cases cj : f j = n
        · exact hi i (by omega) j (by omega) (by rw [ci, cj])
        · rw [if_pos ci, if_neg cj] at e
          have := hi n (by omega) j (by omega) e
          omega
      · by_cases cj : f j = n
        · rw [if_neg ci, if_pos cj] at e
          have := hi i (by omega) n (by omega) e
          omega
        · rw [if_neg ci, if_neg cj] at e
          exact hi i (by omega) j (by omega) e)
    intro z hz
    by_cases hzn : z = n
    · by_cases hn : f n = n
      · exact ⟨n, by omega, by omega⟩
      · have h1 := hf n (by omega)
        obtain ⟨i, hi1, hi2⟩ := hg (f n) (by omega)
        have hi2 : (if f i = n then f n else f i) = f n := hi2
        by_cases c : f i = n
        · exact ⟨i, by omega, by omega⟩
        · rw [if_neg c] at hi2
          have := hi i (by omega) n (by omega) hi2
          omega
    · obtain ⟨i, hi1, hi2⟩ := hg z (by omega)
      have hi2 : (if f i = n then f n else f i) = z := hi2
      by_cases c : f i = n
      · rw [if_pos c] at hi2
        exact ⟨n, by omega, hi2⟩
      · rw [if_neg c] at hi2
        exact ⟨i, by omega, hi2⟩
theorem bef_iff (σ : xS) (r k j : Nat) : bef σ r k j = true ↔ ((σ.2.1 13 (30 * r + k)).toInt < (σ.2.1 13 (30 * r + j)).toInt ∨ ((σ.2.1 13 (30 * r + j)).toInt = (σ.2.1 13 (30 * r + k)).toInt ∧ j < k)) := by
  unfold bef
  rw [decide_eq_true_iff, Int32.lt_iff_toInt_lt, ← Int32.toInt_inj]
theorem befs_mono (σ : xS) (r k k' : Nat) (h : bef σ r k k' = true) (n : Nat) : befs σ r k' n + (if k' < n then 1 else 0) ≤ befs σ r k n := by
  induction n with
  | zero => simp [befs]
  | succ n ih =>
    simp only [befs]
    have h1 : bef σ r k' n = true → bef σ r k n = true := by
      rw [bef_iff] at h ⊢
      rw [bef_iff]
      omega
    have h2 : bef σ r k' k' = false := by
      rw [← Bool.not_eq_true, bef_iff]
      omega
    by_cases hn : k' = n
    · subst hn
      rw [h, h2]
      simp only [Nat.lt_irrefl, if_false] at ih
      simp
      omega
    · by_cases hb : bef σ r k' n = true
      · rw [hb, h1 hb]
        simp only [if_true]
        by_cases hk : k' < n
        · rw [if_pos hk] at ih
          rw [if_pos (by omega)]
          omega
        · rw [if_neg hk] at ih
          rw [if_neg (by omega)]
          omega
      · rw [if_neg hb]
        by_cases hk : k' < n
        · rw [if_pos hk] at ih
          rw [if_pos (by omega)]
          omega
        · rw [if_neg hk] at ih
          rw [if_neg (by omega)]
          omega
theorem befs_lt (σ : xS) (r k : Nat) (hk : k < 30) : befs σ r k 30 < 30 := by
  have h2 : bef σ r k k = false := by
    rw [← Bool.not_eq_true, bef_iff]
    omega
  have : ∀ n, befs σ r k n + (if k < n then 1 else 0) ≤ n := by
    intro n
    induction n with
    | zero => simp [befs]
    | succ n ih =>
      simp only [befs]
      by_cases hn : k = n
      · subst hn
        rw [h2]
        simp only [Nat.lt_irrefl, if_false] at ih
        simp
        omega
      · by_cases hkn : k < n
        · rw [if_pos hkn] at ih
          rw [if_pos (show k < n + 1 by omega)]
          split <;> omega
        · rw [if_neg hkn] at ih
          rw [if_neg (show ¬ k < n + 1 by omega)]
          split <;> omega
  have := this 30
  rw [if_pos hk] at this
  omega
theorem befs_inj (σ : xS) (r : Nat) : ∀ i, i < 30 → ∀ j, j < 30 → befs σ r i 30 = befs σ r j 30 → i = j := by
  intro i hi j hj h
  rcases Nat.lt_trichotomy i j with c | c | c
  · exfalso
    cases hb : bef σ r i j
    · have : bef σ r j i = true := by
        rw [← Bool.not_eq_true, bef_iff] at hb
        rw [bef_iff]
        omega
      have := befs_mono σ r j i this 30
      rw [if_pos hi] at this
      omega
    · have := befs_mono σ r i j hb 30
      rw [if_pos hj] at this
      omega
  · exact c
  · exfalso
    cases hb : bef σ r i j
    · have : bef σ r j i = true := by
        rw [← Bool.not_eq_true, bef_iff] at hb
        rw [bef_iff]
        omega
      have := befs_mono σ r j i this 30
      rw [if_pos hi] at this
      omega
    · have := befs_mono σ r i j hb 30
      rw [if_pos hj] at this
      omega
/-- there is just one item before which so many stand -/
theorem rank_spec (σ : xS) (r a : Nat) (ha : a < 30) : rankS σ r a 30 < 30 ∧ befs σ r (rankS σ r a 30) 30 = a ∧ ∀ k, k < rankS σ r a 30 → befs σ r k 30 ≠ a := by
  obtain ⟨i, hi, ei⟩ := pig 30 (fun k => befs σ r k 30) (fun k hk => befs_lt σ r k hk) (befs_inj σ r) a ha
  have ei : befs σ r i 30 = a := ei
  have : ∀ n, i < n → n ≤ 30 → rankS σ r a n = i := by
    intro n
    induction n with
    | zero => intro h; omega
    | succ n ih =>
      intro h1 h2
      simp only [rankS]
      by_cases c : befs σ r n 30 = a
      · rw [if_pos c]
        exact befs_inj σ r n (by omega) i hi (by rw [c, ei])
      · rw [if_neg c]
        have : i ≠ n := fun q => c (by rw [← q]; exact ei)
        exact ih (by omega) (by omega)
  rw [this 30 hi (by omega)]
  exact ⟨hi, ei, fun k hk q => by
    have := befs_inj σ r k (by omega) i hi (by rw [q, ei])
    omega⟩
theorem stl_f (σ : xS) (r k p n : Nat) (h : stl σ r k p = false) : stl σ r k (p + n) = false := by
  induction n with
  | zero => exact h
  | succ n ih =>
    show (stl σ r k (p + n) && _) = false
    rw [ih]
    rfl
section XCB
variable {β : Type} {x : xX} {y y' : xY} {σ σ' : xS} {h : xH} {T : Nat} {t : Nat → Nat}
theorem c_may_l {r k : Nat} (hx : Wx x) (hP : σ.1 0 = nI (dP x)) (hP1 : 1 ≤ dP x) (hr : r < dN x) (hk : k < dR x) (hs : -1 ≤ σ.2.1 30 k) (b : Bool) : f_RS_may_h88 1000 (en x 0 0 0) (en x 25 k 0) (en x 13 r 0) (bI b) 0 (er x y σ h) = some (.inl (bI (b && (decide (σ.2.1 30 k < 0) || stl σ r k (dP x)))), er x y σ h) := by
  have hP3 := hx.2.2.1
  have hsv : sv x r := Or.inl hr
  have key : ∀ d p n, p + d = dP x → d < n → f_RS_may_h88 n (en x 0 0 0) (en x 25 k 0) (en x 13 r 0) (bI (b && (decide (σ.2.1 30 k < 0) || stl σ r k p))) (nI p) (er x y σ h) = some (.inl (bI (b && (decide (σ.2.1 30 k < 0) || stl σ r k (dP x)))), er x y σ h) := by
    intro d
    induction d with
    | zero =>
      intro p n hp hn
      obtain ⟨n, rfl, -⟩ := pos_of hn
      obtain rfl : p = dP x := by omega
      have c1 : nI (dP x) ≤ nI (dP x) := nI_le (by omega) (by omega)
      simp (disch := first | assumption | omega) only [f_RS_may_h88, f_RS_may_b88, f_RS_may_b149, hP, c1, bI_01, ↓rv0, ↓rg0_0, ↓rg0_1, ↓rg0_2, ↓rg0_3, ↓rg0_4, ↓rg0_5, ↓rg0_6, ↓rg0_7, ↓rg0_8, ↓rg0_9, ↓rg0_10, ↓rv5, ↓rg5_0, ↓rg5_1, ↓rg5_2, ↓rv8, ↓rg8_0, ↓rg8_1, ↓rg8_2, ↓rg8_3, ↓rg8_4, ↓rv9, ↓rg9_0, ↓rg9_1, ↓rg9_2, ↓rg9_3, ↓rv13, ↓rg13_0, ↓rv14, ↓rg14_0, ↓rg14_1, ↓rg14_2, ↓rg14_3, ↓rg14_4, ↓rv17, ↓rg17_0, ↓rg17_1, ↓rg17_2, ↓rg17_3, ↓rv18, ↓rg18_0, ↓rv20, ↓rg20_0, ↓rv22, ↓rg22_0, ↓rg22_1, ↓rg22_2, ↓rg22_3, ↓rg22_4, ↓rv23, ↓rg23_0, ↓rv25, ↓rg25_0, ↓rg25_1, ↓rg25_2, ↓rg25_3, ↓rg25_4, ↓rg25_5, ↓rg25_6, ↓rg25_7, ↓rg25_8, ↓rg25_9, ↓rg25_10, ↓rg25_11, ↓rv26, ↓rg26_0, ↓rl12, ↓rl15, ↓rl16, ↓rl19, ↓rl21, ↓rl24, ↓rl27, ↓rl11, ↓rl3, ↓rl1, ↓rl4, ↓rl7, ↓rl10, ↓ra7, ↓ra10, ↓ra4, ↓rp14_0, ↓rp14_1, ↓rp14_2, ↓rp14_3, ↓rp8_3, ↓rp8_4, ↓rp8_2, ↓rp17_0, ↓rp17_1, ↓rp5_1, ↓rp5_2, ↓rp25_7, ↓rp25_8, ↓rp25_9, ↓rp25_10, ↓rp25_11, ↓rs12, ↓rs15, ↓rs16, ↓rs19, ↓rs21, ↓rs11, ↓rp0_5, ↓rp0_10, ↓rp0_7, ↓rp0_8, ↓rp0_9, ↓rs3, ↓xb, ↓xr, rl12, rl15, rl16, rl19, rl21, rl24, rl27, rl11, rl3, rl1, rl4, rl7, rl10, rs12, rs15, rs16, rs19, rs21, rs11, rs3, n3, n30, n10, n300, n401, n4p, np1, np2, nI_add, ↓reduceIte]
    | succ d ih =>
      intro p n hp hn
      obtain ⟨n, rfl, hn⟩ := pos_of hn
      have c1 : ¬ nI (dP x) ≤ nI p := nI_ge (by omega) (by omega)
      cases hb : (b && (decide (σ.2.1 30 k < 0) || stl σ r k p))
      · have hfin : (b && (decide (σ.2.1 30 k < 0) || stl σ r k (dP x))) = false := by
          rw [Bool.and_eq_false_iff, Bool.or_eq_false_iff] at hb ⊢
          exact hb.imp id (fun q => ⟨q.1, by rw [show dP x = p + (d + 1) by omega]; exact stl_f σ r k p (d + 1) q.2⟩)
        rw [hfin]
        simp (disch := first | assumption | omega) only [f_RS_may_h88, f_RS_may_b88, f_RS_may_b149, hP, c1, bI_f, true_or, ↓rv0, ↓rg0_0, ↓rg0_1, ↓rg0_2, ↓rg0_3, ↓rg0_4, ↓rg0_5, ↓rg0_6, ↓rg0_7, ↓rg0_8, ↓rg0_9, ↓rg0_10, ↓rv5, ↓rg5_0, ↓rg5_1, ↓rg5_2, ↓rv8, ↓rg8_0, ↓rg8_1, ↓rg8_2, ↓rg8_3, ↓rg8_4, ↓rv9, ↓rg9_0, ↓rg9_1, ↓rg9_2, ↓rg9_3, ↓rv13, ↓rg13_0, ↓rv14, ↓rg14_0, ↓rg14_1, ↓rg14_2, ↓rg14_3, ↓rg14_4, ↓rv17, ↓rg17_0, ↓rg17_1, ↓rg17_2, ↓rg17_3, ↓rv18, ↓rg18_0, ↓rv20, ↓rg20_0, ↓rv22, ↓rg22_0, ↓rg22_1, ↓rg22_2, ↓rg22_3, ↓rg22_4, ↓rv23, ↓rg23_0, ↓rv25, ↓rg25_0, ↓rg25_1, ↓rg25_2, ↓rg25_3, ↓rg25_4, ↓rg25_5, ↓rg25_6, ↓rg25_7, ↓rg25_8, ↓rg25_9, ↓rg25_10, ↓rg25_11, ↓rv26, ↓rg26_0, ↓rl12, ↓rl15, ↓rl16, ↓rl19, ↓rl21, ↓rl24, ↓rl27, ↓rl11, ↓rl3, ↓rl1, ↓rl4, ↓rl7, ↓rl10, ↓ra7, ↓ra10, ↓ra4, ↓rp14_0, ↓rp14_1, ↓rp14_2, ↓rp14_3, ↓rp8_3, ↓rp8_4, ↓rp8_2, ↓rp17_0, ↓rp17_1, ↓rp5_1, ↓rp5_2, ↓rp25_7, ↓rp25_8, ↓rp25_9, ↓rp25_10, ↓rp25_11, ↓rs12, ↓rs15, ↓rs16, ↓rs19, ↓rs21, ↓rs11, ↓rp0_5, ↓rp0_10, ↓rp0_7, ↓rp0_8, ↓rp0_9, ↓rs3, ↓xb, ↓xr, rl12, rl15, rl16, rl19, rl21, rl24, rl27, rl11, rl3, rl1, rl4, rl7, rl10, rs12, rs15, rs16, rs19, rs21, rs11, rs3, n3, n30, n10, n300, n401, n4p, np1, np2, nI_add, ↓reduceIte]
      · by_cases c2 : σ.2.1 30 k = -1
        · have c2' : σ.2.1 30 k < 0 := by rw [c2]; decide
          have hfin : (b && (decide (σ.2.1 30 k < 0) || stl σ r k (dP x))) = true := by
            simp [c2'] at hb ⊢
            exact hb
          rw [hfin]
          simp (disch := first | assumption | omega) only [f_RS_may_h88, f_RS_may_b88, f_RS_may_b149, hP, c1, c2, bI_t, ne10, or_true, ↓rv0, ↓rg0_0, ↓rg0_1, ↓rg0_2, ↓rg0_3, ↓rg0_4, ↓rg0_5, ↓rg0_6, ↓rg0_7, ↓rg0_8, ↓rg0_9, ↓rg0_10, ↓rv5, ↓rg5_0, ↓rg5_1, ↓rg5_2, ↓rv8, ↓rg8_0, ↓rg8_1, ↓rg8_2, ↓rg8_3, ↓rg8_4, ↓rv9, ↓rg9_0, ↓rg9_1, ↓rg9_2, ↓rg9_3, ↓rv13, ↓rg13_0, ↓rv14, ↓rg14_0, ↓rg14_1, ↓rg14_2, ↓rg14_3, ↓rg14_4, ↓rv17, ↓rg17_0, ↓rg17_1, ↓rg17_2, ↓rg17_3, ↓rv18, ↓rg18_0, ↓rv20, ↓rg20_0, ↓rv22, ↓rg22_0, ↓rg22_1, ↓rg22_2, ↓rg22_3, ↓rg22_4, ↓rv23, ↓rg23_0, ↓rv25, ↓rg25_0, ↓rg25_1, ↓rg25_2, ↓rg25_3, ↓rg25_4, ↓rg25_5, ↓rg25_6, ↓rg25_7, ↓rg25_8, ↓rg25_9, ↓rg25_10, ↓rg25_11, ↓rv26, ↓rg26_0, ↓rl12, ↓rl15, ↓rl16, ↓rl19, ↓rl21, ↓rl24, ↓rl27, ↓rl11, ↓rl3, ↓rl1, ↓rl4, ↓rl7, ↓rl10, ↓ra7, ↓ra10, ↓ra4, ↓rp14_0, ↓rp14_1, ↓rp14_2, ↓rp14_3, ↓rp8_3, ↓rp8_4, ↓rp8_2, ↓rp17_0, ↓rp17_1, ↓rp5_1, ↓rp5_2, ↓rp25_7, ↓rp25_8, ↓rp25_9, ↓rp25_10, ↓rp25_11, ↓rs12, ↓rs15, ↓rs16, ↓rs19, ↓rs21, ↓rs11, ↓rp0_5, ↓rp0_10, ↓rp0_7, ↓rp0_8, ↓rp0_9, ↓rs3, ↓xb, ↓xr, rl12, rl15, rl16, rl19, rl21, rl24, rl27, rl11, rl3, rl1, rl4, rl7, rl10, rs12, rs15, rs16, rs19, rs21, rs11, rs3, n3, n30, n10, n300, n401, n4p, np1, np2, nI_add, ↓reduceIte]
        · have c2' : ¬ σ.2.1 30 k < 0 := by
            intro q
            apply c2
            rw [Int32.lt_iff_toInt_lt] at q
            rw [Int32.le_iff_toInt_le] at hs
            apply Int32.toInt_inj.mp
            have q : _ < (0 : Int) := q
            have hs : (-1 : Int) ≤ _ := hs
            show _ = (-1 : Int)
            omega
          have i1 := ih (p + 1) n (by omega) (by omega)
          by_cases c3 : σ.2.1 4 p - σ.2.1 18 (3 * r + p) ≤ σ.2.1 30 k
          · have c3' : ¬ σ.2.1 30 k < σ.2.1 4 p - σ.2.1 18 (3 * r + p) := by rw [Int32.not_lt]; exact c3
            simp (disch := first | assumption | omega) only [f_RS_may_h88, f_RS_may_b88, f_RS_may_b141, hP, c1, c2, c3', bI_t, ne10, ↓rv0, ↓rg0_0, ↓rg0_1, ↓rg0_2, ↓rg0_3, ↓rg0_4, ↓rg0_5, ↓rg0_6, ↓rg0_7, ↓rg0_8, ↓rg0_9, ↓rg0_10, ↓rv5, ↓rg5_0, ↓rg5_1, ↓rg5_2, ↓rv8, ↓rg8_0, ↓rg8_1, ↓rg8_2, ↓rg8_3, ↓rg8_4, ↓rv9, ↓rg9_0, ↓rg9_1, ↓rg9_2, ↓rg9_3, ↓rv13, ↓rg13_0, ↓rv14, ↓rg14_0, ↓rg14_1, ↓rg14_2, ↓rg14_3, ↓rg14_4, ↓rv17, ↓rg17_0, ↓rg17_1, ↓rg17_2, ↓rg17_3, ↓rv18, ↓rg18_0, ↓rv20, ↓rg20_0, ↓rv22, ↓rg22_0, ↓rg22_1, ↓rg22_2, ↓rg22_3, ↓rg22_4, ↓rv23, ↓rg23_0, ↓rv25, ↓rg25_0, ↓rg25_1, ↓rg25_2, ↓rg25_3, ↓rg25_4, ↓rg25_5, ↓rg25_6, ↓rg25_7, ↓rg25_8, ↓rg25_9, ↓rg25_10, ↓rg25_11, ↓rv26, ↓rg26_0, ↓rl12, ↓rl15, ↓rl16, ↓rl19, ↓rl21, ↓rl24, ↓rl27, ↓rl11, ↓rl3, ↓rl1, ↓rl4, ↓rl7, ↓rl10, ↓ra7, ↓ra10, ↓ra4, ↓rp14_0, ↓rp14_1, ↓rp14_2, ↓rp14_3, ↓rp8_3, ↓rp8_4, ↓rp8_2, ↓rp17_0, ↓rp17_1, ↓rp5_1, ↓rp5_2, ↓rp25_7, ↓rp25_8, ↓rp25_9, ↓rp25_10, ↓rp25_11, ↓rs12, ↓rs15, ↓rs16, ↓rs19, ↓rs21, ↓rs11, ↓rp0_5, ↓rp0_10, ↓rp0_7, ↓rp0_8, ↓rp0_9, ↓rs3, ↓xb, ↓xr, rl12, rl15, rl16, rl19, rl21, rl24, rl27, rl11, rl3, rl1, rl4, rl7, rl10, rs12, rs15, rs16, rs19, rs21, rs11, rs3, n3, n30, n10, n300, n401, n4p, np1, np2, nI_add, ↓reduceIte]
            have e1 : bI (b && (decide (σ.2.1 30 k < 0) || stl σ r k (p + 1))) = 1 := by
              simp [c2'] at hb
              simp [stl, c2', c3, hb, bI]
            rw [e1] at i1
            exact i1
          · have c3' : σ.2.1 30 k < σ.2.1 4 p - σ.2.1 18 (3 * r + p) := by rw [← Int32.not_le]; exact c3
            simp (disch := first | assumption | omega) only [f_RS_may_h88, f_RS_may_b88, f_RS_may_b141, hP, c1, c2, c3', bI_t, ne10, ↓rv0, ↓rg0_0, ↓rg0_1, ↓rg0_2, ↓rg0_3, ↓rg0_4, ↓rg0_5, ↓rg0_6, ↓rg0_7, ↓rg0_8, ↓rg0_9, ↓rg0_10, ↓rv5, ↓rg5_0, ↓rg5_1, ↓rg5_2, ↓rv8, ↓rg8_0, ↓rg8_1, ↓rg8_2, ↓rg8_3, ↓rg8_4, ↓rv9, ↓rg9_0, ↓rg9_1, ↓rg9_2, ↓rg9_3, ↓rv13, ↓rg13_0, ↓rv14, ↓rg14_0, ↓rg14_1, ↓rg14_2, ↓rg14_3, ↓rg14_4, ↓rv17, ↓rg17_0, ↓rg17_1, ↓rg17_2, ↓rg17_3, ↓rv18, ↓rg18_0, ↓rv20, ↓rg20_0, ↓rv22, ↓rg22_0, ↓rg22_1, ↓rg22_2, ↓rg22_3, ↓rg22_4, ↓rv23, ↓rg23_0, ↓rv25, ↓rg25_0, ↓rg25_1, ↓rg25_2, ↓rg25_3, ↓rg25_4, ↓rg25_5, ↓rg25_6, ↓rg25_7, ↓rg25_8, ↓rg25_9, ↓rg25_10, ↓rg25_11, ↓rv26, ↓rg26_0, ↓rl12, ↓rl15, ↓rl16, ↓rl19, ↓rl21, ↓rl24, ↓rl27, ↓rl11, ↓rl3, ↓rl1, ↓rl4, ↓rl7, ↓rl10, ↓ra7, ↓ra10, ↓ra4, ↓rp14_0, ↓rp14_1, ↓rp14_2, ↓rp14_3, ↓rp8_3, ↓rp8_4, ↓rp8_2, ↓rp17_0, ↓rp17_1, ↓rp5_1, ↓rp5_2, ↓rp25_7, ↓rp25_8, ↓rp25_9, ↓rp25_10, ↓rp25_11, ↓rs12, ↓rs15, ↓rs16, ↓rs19, ↓rs21, ↓rs11, ↓rp0_5, ↓rp0_10, ↓rp0_7, ↓rp0_8, ↓rp0_9, ↓rs3, ↓xb, ↓xr, rl12, rl15, rl16, rl19, rl21, rl24, rl27, rl11, rl3, rl1, rl4, rl7, rl10, rs12, rs15, rs16, rs19, rs21, rs11, rs3, n3, n30, n10, n300, n401, n4p, np1, np2, nI_add, ↓reduceIte]
            have e1 : bI (b && (decide (σ.2.1 30 k < 0) || stl σ r k (p + 1))) = 0 := by
              simp [stl, c2', c3, bI]
            rw [e1] at i1
            exact i1
  have k0 := key (dP x) 0 1000 (by omega) (by omega)
  simp only [stl, Bool.or_true, Bool.and_true] at k0
  exact k0
theorem c_may_w {r k : Nat} (hx : Wx x) (hP : σ.1 0 = nI (dP x)) (hP1 : 1 ≤ dP x) (h3 : i_at (dP x) (dN x) (dE x) t σ) (h5 : i_ses (dP x) (dN x) (dE x) σ) (h6 : i_rd (dP x) (dR x) T σ) (hr : r < dN x) (hk : k < dR x) : f_RS_may (en x 0 0 0) (en x 8 r 0) (en x 25 k 0) (er x y σ h) = some (.inl (bI (mayb (dP x) σ r k)), er x y σ h) := by
  have hP3 := hx.2.2.1
  have hN4 := hx.2.2.2.1
  have hsv : sv x r := Or.inl hr
  obtain ⟨⟨s, hs8, es⟩, -, q29, qs, -⟩ := h6 k hk
  have hsn : sn σ k = s := by unfold sn; rw [es, nI_clamp (by omega)]
  have a0 : ∀ q, dP x ≤ q → q < 3 → σ.2.1 18 (3 * r + q) = 0 := by
    intro q g1 g2
    obtain ⟨a, ea, -, -, g3⟩ := h3.1 r (by omega) q g2
    rw [ea, g3 g1]
    rfl
  have w0 : ∀ q, dP x ≤ q → q < 3 → σ.2.1 24 (3 * s + q) = 0 := by
    intro q g1 g2
    obtain ⟨w, -, ew, -, g3⟩ := ((h5 s hs8).2 q g2).1
    rw [ew, g3 g1]
    rfl
  have s0 : ∀ q, dP x ≤ q → q < 3 → σ.2.1 25 (3 * s + q) = 0 := fun q g1 g2 => ((h5 s hs8).2 q g2).2.2 g1
  have c1 := c_covers (h := h) (y := y) (σ := σ) (s := r) (B := en x 26 k 0) (f := σ.2.1 29) (b := 3 * k) hx hsv (fun c hc kk => by rw [rg26_0 hx hk, rl27 hx hk hc])
  have c2 := c_covers (h := h) (y := y) (σ := σ) (s := r) (B := en x 18 s 0) (f := σ.2.1 24) (b := 3 * s) hx hsv (fun c hc kk => by rw [rg18_0 hx hs8, rl19 hx hs8 hc])
  have c3 := c_covers (h := h) (y := y) (σ := σ) (s := r) (B := en x 20 s 0) (f := σ.2.1 25) (b := 3 * s) hx hsv (fun c hc kk => by rw [rg20_0 hx hs8, rl21 hx hs8 hc])
  rw [cv_P hP3 q29 a0] at c1
  rw [cv_P hP3 w0 a0] at c2
  rw [cv_P hP3 s0 a0] at c3
  have ha1 := c_has (h := h) (y := y) (σ := σ) (s := s) (b := 1) hx hs8
  have ha2 := c_has (h := h) (y := y) (σ := σ) (s := s) (b := 2) hx hs8
  have lt := c_may_l (h := h) (y := y) hx hP hP1 hr hk qs true
  have lf := c_may_l (h := h) (y := y) hx hP hP1 hr hk qs false
  rw [bI_t] at lt
  rw [bI_f] at lf
  unfold mayb
  rw [hsn]
  by_cases g1 : σ.2.1 21 r = 0
  · simp (disch := first | assumption | omega) only [f_RS_may, f_RS_may_b82, f_RS_may_b83, es, g1, lf, ↓rv0, ↓rg0_0, ↓rg0_1, ↓rg0_2, ↓rg0_3, ↓rg0_4, ↓rg0_5, ↓rg0_6, ↓rg0_7, ↓rg0_8, ↓rg0_9, ↓rg0_10, ↓rv5, ↓rg5_0, ↓rg5_1, ↓rg5_2, ↓rv8, ↓rg8_0, ↓rg8_1, ↓rg8_2, ↓rg8_3, ↓rg8_4, ↓rv9, ↓rg9_0, ↓rg9_1, ↓rg9_2, ↓rg9_3, ↓rv13, ↓rg13_0, ↓rv14, ↓rg14_0, ↓rg14_1, ↓rg14_2, ↓rg14_3, ↓rg14_4, ↓rv17, ↓rg17_0, ↓rg17_1, ↓rg17_2, ↓rg17_3, ↓rv18, ↓rg18_0, ↓rv20, ↓rg20_0, ↓rv22, ↓rg22_0, ↓rg22_1, ↓rg22_2, ↓rg22_3, ↓rg22_4, ↓rv23, ↓rg23_0, ↓rv25, ↓rg25_0, ↓rg25_1, ↓rg25_2, ↓rg25_3, ↓rg25_4, ↓rg25_5, ↓rg25_6, ↓rg25_7, ↓rg25_8, ↓rg25_9, ↓rg25_10, ↓rg25_11, ↓rv26, ↓rg26_0, ↓rl12, ↓rl15, ↓rl16, ↓rl19, ↓rl21, ↓rl24, ↓rl27, ↓rl11, ↓rl3, ↓rl1, ↓rl4, ↓rl7, ↓rl10, ↓ra7, ↓ra10, ↓ra4, ↓rp14_0, ↓rp14_1, ↓rp14_2, ↓rp14_3, ↓rp8_3, ↓rp8_4, ↓rp8_2, ↓rp17_0, ↓rp17_1, ↓rp5_1, ↓rp5_2, ↓rp25_7, ↓rp25_8, ↓rp25_9, ↓rp25_10, ↓rp25_11, ↓rs12, ↓rs15, ↓rs16, ↓rs19, ↓rs21, ↓rs11, ↓rp0_5, ↓rp0_10, ↓rp0_7, ↓rp0_8, ↓rp0_9, ↓rs3, ↓xb, ↓xr, rl12, rl15, rl16, rl19, rl21, rl24, rl27, rl11, rl3, rl1, rl4, rl7, rl10, rs12, rs15, rs16, rs19, rs21, rs11, rs3, n3, n30, n10, n300, n401, n4p, np1, np2, nI_add, ↓reduceIte]
    simp
  cases g2 : cv σ (σ.2.1 29) (3 * k) r (dP x)
  · rw [g2, bI_f] at c1
    simp (disch := first | assumption | omega) only [f_RS_may, f_RS_may_b82, f_RS_may_b83, es, c1, g1, lf, ↓rv0, ↓rg0_0, ↓rg0_1, ↓rg0_2, ↓rg0_3, ↓rg0_4, ↓rg0_5, ↓rg0_6, ↓rg0_7, ↓rg0_8, ↓rg0_9, ↓rg0_10, ↓rv5, ↓rg5_0, ↓rg5_1, ↓rg5_2, ↓rv8, ↓rg8_0, ↓rg8_1, ↓rg8_2, ↓rg8_3, ↓rg8_4, ↓rv9, ↓rg9_0, ↓rg9_1, ↓rg9_2, ↓rg9_3, ↓rv13, ↓rg13_0, ↓rv14, ↓rg14_0, ↓rg14_1, ↓rg14_2, ↓rg14_3, ↓rg14_4, ↓rv17, ↓rg17_0, ↓rg17_1, ↓rg17_2, ↓rg17_3, ↓rv18, ↓rg18_0, ↓rv20, ↓rg20_0, ↓rv22, ↓rg22_0, ↓rg22_1, ↓rg22_2, ↓rg22_3, ↓rg22_4, ↓rv23, ↓rg23_0, ↓rv25, ↓rg25_0, ↓rg25_1, ↓rg25_2, ↓rg25_3, ↓rg25_4, ↓rg25_5, ↓rg25_6, ↓rg25_7, ↓rg25_8, ↓rg25_9, ↓rg25_10, ↓rg25_11, ↓rv26, ↓rg26_0, ↓rl12, ↓rl15, ↓rl16, ↓rl19, ↓rl21, ↓rl24, ↓rl27, ↓rl11, ↓rl3, ↓rl1, ↓rl4, ↓rl7, ↓rl10, ↓ra7, ↓ra10, ↓ra4, ↓rp14_0, ↓rp14_1, ↓rp14_2, ↓rp14_3, ↓rp8_3, ↓rp8_4, ↓rp8_2, ↓rp17_0, ↓rp17_1, ↓rp5_1, ↓rp5_2, ↓rp25_7, ↓rp25_8, ↓rp25_9, ↓rp25_10, ↓rp25_11, ↓rs12, ↓rs15, ↓rs16, ↓rs19, ↓rs21, ↓rs11, ↓rp0_5, ↓rp0_10, ↓rp0_7, ↓rp0_8, ↓rp0_9, ↓rs3, ↓xb, ↓xr, rl12, rl15, rl16, rl19, rl21, rl24, rl27, rl11, rl3, rl1, rl4, rl7, rl10, rs12, rs15, rs16, rs19, rs21, rs11, rs3, n3, n30, n10, n300, n401, n4p, np1, np2, nI_add, ↓reduceIte]
    simp
  rw [g2, bI_t] at c1
  by_cases g3 : σ.2.1 22 s &&& 1 = 0 <;> by_cases g5 : σ.2.1 22 s &&& 2 = 0 <;> cases g4 : cv σ (σ.2.1 24) (3 * s) r (dP x) <;> cases g6 : cv σ (σ.2.1 25) (3 * s) r (dP x)
  all_goals
    rw [g4] at c2
    rw [g6] at c3
    simp only [g3, decide_true, decide_false, Bool.not_true, Bool.not_false, bI_t, bI_f] at ha1
    simp only [g5, decide_true, decide_false, Bool.not_true, Bool.not_false, bI_t, bI_f] at ha2
    simp only [bI_t, bI_f] at c2 c3
    simp (disch := first | assumption | omega) only [f_RS_may, f_RS_may_b58, f_RS_may_b78, f_RS_may_b82, f_RS_may_b83, es, c1, c2, c3, ha1, ha2, g1, lt, lf, ne10, ↓rv0, ↓rg0_0, ↓rg0_1, ↓rg0_2, ↓rg0_3, ↓rg0_4, ↓rg0_5, ↓rg0_6, ↓rg0_7, ↓rg0_8, ↓rg0_9, ↓rg0_10, ↓rv5, ↓rg5_0, ↓rg5_1, ↓rg5_2, ↓rv8, ↓rg8_0, ↓rg8_1, ↓rg8_2, ↓rg8_3, ↓rg8_4, ↓rv9, ↓rg9_0, ↓rg9_1, ↓rg9_2, ↓rg9_3, ↓rv13, ↓rg13_0, ↓rv14, ↓rg14_0, ↓rg14_1, ↓rg14_2, ↓rg14_3, ↓rg14_4, ↓rv17, ↓rg17_0, ↓rg17_1, ↓rg17_2, ↓rg17_3, ↓rv18, ↓rg18_0, ↓rv20, ↓rg20_0, ↓rv22, ↓rg22_0, ↓rg22_1, ↓rg22_2, ↓rg22_3, ↓rg22_4, ↓rv23, ↓rg23_0, ↓rv25, ↓rg25_0, ↓rg25_1, ↓rg25_2, ↓rg25_3, ↓rg25_4, ↓rg25_5, ↓rg25_6, ↓rg25_7, ↓rg25_8, ↓rg25_9, ↓rg25_10, ↓rg25_11, ↓rv26, ↓rg26_0, ↓rl12, ↓rl15, ↓rl16, ↓rl19, ↓rl21, ↓rl24, ↓rl27, ↓rl11, ↓rl3, ↓rl1, ↓rl4, ↓rl7, ↓rl10, ↓ra7, ↓ra10, ↓ra4, ↓rp14_0, ↓rp14_1, ↓rp14_2, ↓rp14_3, ↓rp8_3, ↓rp8_4, ↓rp8_2, ↓rp17_0, ↓rp17_1, ↓rp5_1, ↓rp5_2, ↓rp25_7, ↓rp25_8, ↓rp25_9, ↓rp25_10, ↓rp25_11, ↓rs12, ↓rs15, ↓rs16, ↓rs19, ↓rs21, ↓rs11, ↓rp0_5, ↓rp0_10, ↓rp0_7, ↓rp0_8, ↓rp0_9, ↓rs3, ↓xb, ↓xr, rl12, rl15, rl16, rl19, rl21, rl24, rl27, rl11, rl3, rl1, rl4, rl7, rl10, rs12, rs15, rs16, rs19, rs21, rs11, rs3, n3, n30, n10, n300, n401, n4p, np1, np2, nI_add, ↓reduceIte]
    simp [g1, g3, g5]
theorem c_may {r k : Nat} (hx : Wx x) (hi : Inv0 (dP x) (dN x) (dR x) T (dE x) t σ) (hr : r < dN x) (hk : k < dR x) : f_RS_may (en x 0 0 0) (en x 8 r 0) (en x 25 k 0) (er x y σ h) = some (.inl (bI (mayb (dP x) σ r k)), er x y σ h) := c_may_w hx hi.1.2.2.2.2.2.2.1 hi.1.1 hi.2.2.1 hi.2.2.2.2.1 hi.2.2.2.2.2.1 hr hk
end XCB
