/-! the component: tests, vectors, which replica may answer -/
def nw (h : xH) (n : Nat) (e : xE) : xH := ((h.1.1 + 1, h.1.2.1 - 1, h.1.2.2 - n), va_up h.2 h.1.1 (some e))
def Fr (x : xX) (h : xH) : Prop := ∀ t i j, vd x t i j = true → en x t i j < h.1.1
/-- an address that the layout doesn't use -/
def off (x : xX) (a : Nat) : Prop := ∀ t i j, vd x t i j = true → en x t i j ≠ a
section XCA
variable {β : Type} {x : xX} {y y' : xY} {σ σ' : xS} {h : xH} {T : Nat} {t : Nat → Nat}
theorem Fr.off (hf : Fr x h) {a : Nat} (ha : h.1.1 ≤ a) : off x a := fun t i j hv => by have := hf t i j hv; omega
theorem er_off {a : Nat} (ho : off x a) : (er x y σ h).2 a = h.2 a := by
  show (if vd x (tg x a).1 (tg x a).2.1 (tg x a).2.2 = true ∧ en x (tg x a).1 (tg x a).2.1 (tg x a).2.2 = a then some (cd x y σ (tg x a).1 (tg x a).2.1 (tg x a).2.2) else h.2 a) = _
  rw [if_neg (fun q => ho _ _ _ q.1 q.2)]
theorem er_set {a : Nat} {c : Nat × Nat × Nat} {e : Option xE} (ho : off x a) : (c, va_up (er x y σ h).2 a e) = er x y σ (c, va_up h.2 a e) := by
  refine Prod.ext rfl (funext fun q => ?_)
  show va_up (er x y σ h).2 a e q = (er x y σ (c, va_up h.2 a e)).2 q
  by_cases hq : q = a
  · subst hq
    rw [er_off ho]
    simp [va_up]
  · simp only [va_up, if_neg hq]
    show (if _ ∧ _ then _ else h.2 q) = (if _ ∧ _ then _ else va_up h.2 a e q)
    simp only [va_up, if_neg hq]
theorem er_nw {n : Nat} {e : xE} (hf : Fr x h) : nw (er x y σ h) n e = er x y σ (nw h n e) := er_set (hf.off (Nat.le_refl _))
theorem Fr.nw (hf : Fr x h) {n : Nat} {e : xE} : Fr x (nw h n e) := fun t i j hv => by
  have := hf t i j hv
  show _ < h.1.1 + 1
  omega
theorem c_nE {n : Nat} {e : xE} {kk : Nat → xM β} (hf : Fr x h) (hr : 1 ≤ h.1.2.1 ∧ n ≤ h.1.2.2) : nE n e kk (er x y σ h) = kk h.1.1 (er x y σ (nw h n e)) := by
  unfold nE
  show (if 1 ≤ h.1.2.1 ∧ n ≤ h.1.2.2 then _ else _) = _
  rw [if_pos hr, ← er_nw hf]
  rfl
theorem c_xth {ci : Nat} (hf : Fr x h) (hr : 1 ≤ h.1.2.1 ∧ 6 ≤ h.1.2.2) : (xth ci : xM β) (er x y σ h) = some (.inr (h.1.1, ci), er x y σ (nw h 6 (.inr (ci, [])))) := by
  unfold xth
  show (if 1 ≤ h.1.2.1 ∧ 6 ≤ h.1.2.2 then _ else _) = _
  rw [if_pos hr, ← er_nw hf]
  rfl
theorem c_in (v lo hi : Int64) {H : xH} : f_RS_isIn v lo hi H = some (.inl (bI (inb v lo hi)), H) := s_in v lo hi
theorem c_index_ok {i n : Nat} (hi : i < n) (hn : n < 2 ^ 31) {H : xH} : f_RS_index (nI i) (nI n) H = some (.inl (nI i), H) := by
  unfold f_RS_index
  rw [if_neg (nI_pos (by omega)), if_pos (nI_lt hi hn)]
  rfl
theorem c_index_no {v : Int32} {n : Nat} {hi : Int64} (hn : n < 2 ^ 31) (hh : hi.toInt = (n : Int) - 1) (hv : inb v.toInt64 0 hi = false) {H : xH} : f_RS_index v (nI n) H = xth 10 H := by
  unfold f_RS_index
  by_cases h1 : v < 0
  · rw [if_pos h1]
    rfl
  · rw [if_neg h1, if_neg]
    · rfl
    · intro h2
      have : inb v.toInt64 0 hi = true := by
        rw [inb_iff, hh]
        rw [Int32.not_lt, Int32.le_iff_toInt_le] at h1
        rw [Int32.lt_iff_toInt_lt, nI_toInt hn] at h2
        exact ⟨h1, by omega⟩
      rw [hv] at this
      cases this
theorem c_want_ok {H : xH} : f_RS_want 1 H = some (.inl (), H) := rfl
theorem c_want_no {H : xH} : f_RS_want 0 H = xth 11 H := rfl
theorem c_need_ok {H : xH} : f_RS_need 1 H = some (.inl (), H) := rfl
theorem c_need_no {H : xH} : f_RS_need 0 H = xth 12 H := rfl
theorem c_max (a b : Int32) {H : xH} : f_Math_max a b H = some (.inl (mx a b), H) := by
  unfold f_Math_max mx f_Math_max_b10
  by_cases h1 : a < b
  · rw [if_pos h1, if_pos (Int32.le_of_lt h1)]
    rfl
  · rw [if_neg h1]
    by_cases h2 : a ≤ b
    · rw [if_pos h2]
      rw [Int32.not_lt] at h1
      rw [Int32.le_antisymm h1 h2]
      rfl
    · rw [if_neg h2]
      rfl
theorem c_min (a b : Int32) {H : xH} : f_Math_min a b H = some (.inl (mn a b), H) := by
  unfold f_Math_min mn f_Math_min_b10
  by_cases h1 : b < a
  · rw [if_pos h1, if_pos (Int32.le_of_lt h1)]
    rfl
  · rw [if_neg h1]
    by_cases h2 : b ≤ a
    · rw [if_pos h2]
      rw [Int32.not_lt] at h1
      rw [Int32.le_antisymm h1 h2]
      rfl
    · rw [if_neg h2]
      rfl
theorem c_replicaAt {r : Nat} (hx : Wx x) (hr : r < dN x) : f_RS_replicaAt (en x 0 0 0) (nI r) (er x y σ h) = some (.inl (en x 8 r 0), er x y σ h) := by
  have hN := hx.2.2.2.1
  have e := fun H => c_index_ok (i := r) (n := dN x) hr (by omega) (H := H)
  simp (disch := first | assumption | omega) only [f_RS_replicaAt, e, ↓rv0, ↓rg0_0, ↓rg0_1, ↓rg0_2, ↓rg0_3, ↓rg0_4, ↓rg0_5, ↓rg0_6, ↓rg0_7, ↓rg0_8, ↓rg0_9, ↓rg0_10, ↓rv5, ↓rg5_0, ↓rg5_1, ↓rg5_2, ↓rv8, ↓rg8_0, ↓rg8_1, ↓rg8_2, ↓rg8_3, ↓rg8_4, ↓rv9, ↓rg9_0, ↓rg9_1, ↓rg9_2, ↓rg9_3, ↓rv13, ↓rg13_0, ↓rv14, ↓rg14_0, ↓rg14_1, ↓rg14_2, ↓rg14_3, ↓rg14_4, ↓rv17, ↓rg17_0, ↓rg17_1, ↓rg17_2, ↓rg17_3, ↓rv18, ↓rg18_0, ↓rv20, ↓rg20_0, ↓rv22, ↓rg22_0, ↓rg22_1, ↓rg22_2, ↓rg22_3, ↓rg22_4, ↓rv23, ↓rg23_0, ↓rv25, ↓rg25_0, ↓rg25_1, ↓rg25_2, ↓rg25_3, ↓rg25_4, ↓rg25_5, ↓rg25_6, ↓rg25_7, ↓rg25_8, ↓rg25_9, ↓rg25_10, ↓rg25_11, ↓rv26, ↓rg26_0, ↓rl12, ↓rl15, ↓rl16, ↓rl19, ↓rl21, ↓rl24, ↓rl27, ↓rl11, ↓rl3, ↓rl1, ↓rl4, ↓rl7, ↓rl10, ↓ra7, ↓ra10, ↓ra4, ↓rp14_0, ↓rp14_1, ↓rp14_2, ↓rp14_3, ↓rp8_3, ↓rp8_4, ↓rp8_2, ↓rp17_0, ↓rp17_1, ↓rp5_1, ↓rp5_2, ↓rp25_7, ↓rp25_8, ↓rp25_9, ↓rp25_10, ↓rp25_11, ↓rs12, ↓rs15, ↓rs16, ↓rs19, ↓rs21, ↓rs11, ↓rp0_5, ↓rp0_10, ↓rp0_7, ↓rp0_8, ↓rp0_9, ↓rs3, ↓xb, ↓xr, rl12, rl15, rl16, rl19, rl21, rl24, rl27, rl11, rl3, rl1, rl4, rl7, rl10, rs12, rs15, rs16, rs19, rs21, rs11, rs3, n3, n30, n10, n300, n401, n4p, np1, np2, nI_add, ↓reduceIte]
theorem c_sessionAt {s : Nat} (hx : Wx x) (hs : s < 8) : f_RS_sessionAt (en x 0 0 0) (nI s) (er x y σ h) = some (.inl (en x 17 s 0), er x y σ h) := by
  have e : ∀ H, f_RS_index (nI s) 8 H = some (.inl (nI s), H) := fun H => c_index_ok (i := s) (n := 8) hs (by omega) (H := H)
  simp (disch := first | assumption | omega) only [f_RS_sessionAt, e, ↓rv0, ↓rg0_0, ↓rg0_1, ↓rg0_2, ↓rg0_3, ↓rg0_4, ↓rg0_5, ↓rg0_6, ↓rg0_7, ↓rg0_8, ↓rg0_9, ↓rg0_10, ↓rv5, ↓rg5_0, ↓rg5_1, ↓rg5_2, ↓rv8, ↓rg8_0, ↓rg8_1, ↓rg8_2, ↓rg8_3, ↓rg8_4, ↓rv9, ↓rg9_0, ↓rg9_1, ↓rg9_2, ↓rg9_3, ↓rv13, ↓rg13_0, ↓rv14, ↓rg14_0, ↓rg14_1, ↓rg14_2, ↓rg14_3, ↓rg14_4, ↓rv17, ↓rg17_0, ↓rg17_1, ↓rg17_2, ↓rg17_3, ↓rv18, ↓rg18_0, ↓rv20, ↓rg20_0, ↓rv22, ↓rg22_0, ↓rg22_1, ↓rg22_2, ↓rg22_3, ↓rg22_4, ↓rv23, ↓rg23_0, ↓rv25, ↓rg25_0, ↓rg25_1, ↓rg25_2, ↓rg25_3, ↓rg25_4, ↓rg25_5, ↓rg25_6, ↓rg25_7, ↓rg25_8, ↓rg25_9, ↓rg25_10, ↓rg25_11, ↓rv26, ↓rg26_0, ↓rl12, ↓rl15, ↓rl16, ↓rl19, ↓rl21, ↓rl24, ↓rl27, ↓rl11, ↓rl3, ↓rl1, ↓rl4, ↓rl7, ↓rl10, ↓ra7, ↓ra10, ↓ra4, ↓rp14_0, ↓rp14_1, ↓rp14_2, ↓rp14_3, ↓rp8_3, ↓rp8_4, ↓rp8_2, ↓rp17_0, ↓rp17_1, ↓rp5_1, ↓rp5_2, ↓rp25_7, ↓rp25_8, ↓rp25_9, ↓rp25_10, ↓rp25_11, ↓rs12, ↓rs15, ↓rs16, ↓rs19, ↓rs21, ↓rs11, ↓rp0_5, ↓rp0_10, ↓rp0_7, ↓rp0_8, ↓rp0_9, ↓rs3, ↓xb, ↓xr, rl12, rl15, rl16, rl19, rl21, rl24, rl27, rl11, rl3, rl1, rl4, rl7, rl10, rs12, rs15, rs16, rs19, rs21, rs11, rs3, n3, n30, n10, n300, n401, n4p, np1, np2, nI_add, ↓reduceIte]
theorem c_has {s : Nat} {b : Int32} (hx : Wx x) (hs : s < 8) : f_Sess_has (en x 17 s 0) b (er x y σ h) = some (.inl (bI (!decide (σ.2.1 22 s &&& b = 0))), er x y σ h) := by
  by_cases c : σ.2.1 22 s &&& b = 0
  · simp (disch := first | assumption | omega) only [f_Sess_has, f_Sess_has_b14, c, true_or, ↓rv0, ↓rg0_0, ↓rg0_1, ↓rg0_2, ↓rg0_3, ↓rg0_4, ↓rg0_5, ↓rg0_6, ↓rg0_7, ↓rg0_8, ↓rg0_9, ↓rg0_10, ↓rv5, ↓rg5_0, ↓rg5_1, ↓rg5_2, ↓rv8, ↓rg8_0, ↓rg8_1, ↓rg8_2, ↓rg8_3, ↓rg8_4, ↓rv9, ↓rg9_0, ↓rg9_1, ↓rg9_2, ↓rg9_3, ↓rv13, ↓rg13_0, ↓rv14, ↓rg14_0, ↓rg14_1, ↓rg14_2, ↓rg14_3, ↓rg14_4, ↓rv17, ↓rg17_0, ↓rg17_1, ↓rg17_2, ↓rg17_3, ↓rv18, ↓rg18_0, ↓rv20, ↓rg20_0, ↓rv22, ↓rg22_0, ↓rg22_1, ↓rg22_2, ↓rg22_3, ↓rg22_4, ↓rv23, ↓rg23_0, ↓rv25, ↓rg25_0, ↓rg25_1, ↓rg25_2, ↓rg25_3, ↓rg25_4, ↓rg25_5, ↓rg25_6, ↓rg25_7, ↓rg25_8, ↓rg25_9, ↓rg25_10, ↓rg25_11, ↓rv26, ↓rg26_0, ↓rl12, ↓rl15, ↓rl16, ↓rl19, ↓rl21, ↓rl24, ↓rl27, ↓rl11, ↓rl3, ↓rl1, ↓rl4, ↓rl7, ↓rl10, ↓ra7, ↓ra10, ↓ra4, ↓rp14_0, ↓rp14_1, ↓rp14_2, ↓rp14_3, ↓rp8_3, ↓rp8_4, ↓rp8_2, ↓rp17_0, ↓rp17_1, ↓rp5_1, ↓rp5_2, ↓rp25_7, ↓rp25_8, ↓rp25_9, ↓rp25_10, ↓rp25_11, ↓rs12, ↓rs15, ↓rs16, ↓rs19, ↓rs21, ↓rs11, ↓rp0_5, ↓rp0_10, ↓rp0_7, ↓rp0_8, ↓rp0_9, ↓rs3, ↓xb, ↓xr, rl12, rl15, rl16, rl19, rl21, rl24, rl27, rl11, rl3, rl1, rl4, rl7, rl10, rs12, rs15, rs16, rs19, rs21, rs11, rs3, n3, n30, n10, n300, n401, n4p, np1, np2, nI_add, ↓reduceIte]
    simp [bI]
  · simp (disch := first | assumption | omega) only [f_Sess_has, f_Sess_has_b14, c, or_true, ne10, ↓rv0, ↓rg0_0, ↓rg0_1, ↓rg0_2, ↓rg0_3, ↓rg0_4, ↓rg0_5, ↓rg0_6, ↓rg0_7, ↓rg0_8, ↓rg0_9, ↓rg0_10, ↓rv5, ↓rg5_0, ↓rg5_1, ↓rg5_2, ↓rv8, ↓rg8_0, ↓rg8_1, ↓rg8_2, ↓rg8_3, ↓rg8_4, ↓rv9, ↓rg9_0, ↓rg9_1, ↓rg9_2, ↓rg9_3, ↓rv13, ↓rg13_0, ↓rv14, ↓rg14_0, ↓rg14_1, ↓rg14_2, ↓rg14_3, ↓rg14_4, ↓rv17, ↓rg17_0, ↓rg17_1, ↓rg17_2, ↓rg17_3, ↓rv18, ↓rg18_0, ↓rv20, ↓rg20_0, ↓rv22, ↓rg22_0, ↓rg22_1, ↓rg22_2, ↓rg22_3, ↓rg22_4, ↓rv23, ↓rg23_0, ↓rv25, ↓rg25_0, ↓rg25_1, ↓rg25_2, ↓rg25_3, ↓rg25_4, ↓rg25_5, ↓rg25_6, ↓rg25_7, ↓rg25_8, ↓rg25_9, ↓rg25_10, ↓rg25_11, ↓rv26, ↓rg26_0, ↓rl12, ↓rl15, ↓rl16, ↓rl19, ↓rl21, ↓rl24, ↓rl27, ↓rl11, ↓rl3, ↓rl1, ↓rl4, ↓rl7, ↓rl10, ↓ra7, ↓ra10, ↓ra4, ↓rp14_0, ↓rp14_1, ↓rp14_2, ↓rp14_3, ↓rp8_3, ↓rp8_4, ↓rp8_2, ↓rp17_0, ↓rp17_1, ↓rp5_1, ↓rp5_2, ↓rp25_7, ↓rp25_8, ↓rp25_9, ↓rp25_10, ↓rp25_11, ↓rs12, ↓rs15, ↓rs16, ↓rs19, ↓rs21, ↓rs11, ↓rp0_5, ↓rp0_10, ↓rp0_7, ↓rp0_8, ↓rp0_9, ↓rs3, ↓xb, ↓xr, rl12, rl15, rl16, rl19, rl21, rl24, rl27, rl11, rl3, rl1, rl4, rl7, rl10, rs12, rs15, rs16, rs19, rs21, rs11, rs3, n3, n30, n10, n300, n401, n4p, np1, np2, nI_add, ↓reduceIte]
    simp [bI]
theorem cov_eq (l0 l1 : Nat) : f_Vec_covers l0 l1 = (gA l0 8 0 fun v1 => lI v1 (nI 0) fun v2 => gA l1 8 0 fun v3 => lI v3 (nI 0) fun v4 => if v2 < v4 then f_Vec_covers_b49 else gA l0 8 0 fun v5 => lI v5 (nI 1) fun v6 => gA l1 8 0 fun v7 => lI v7 (nI 1) fun v8 => if v6 < v8 then f_Vec_covers_b49 else gA l0 8 0 fun v9 => lI v9 (nI 2) fun v10 => gA l1 8 0 fun v11 => lI v11 (nI 2) fun v12 => if v10 < v12 then f_Vec_covers_b49 else f_Vec_covers_b50 1) := rfl
theorem c_covers {s B : Nat} {f : Nat → Int32} {b : Nat} (hx : Wx x) (hs : sv x s) (hB : ∀ c, c < 3 → ∀ kk : Int32 → xM Int32, gA B 8 0 (fun v => lI v (nI c) kk) (er x y σ h) = kk (f (b + c)) (er x y σ h)) : f_Vec_covers (en x 13 s 0) B (er x y σ h) = some (.inl (bI (cv σ f b s 3)), er x y σ h) := by
  have b0 := hB 0 (by omega)
  have b1 := hB 1 (by omega)
  have b2 := hB 2 (by omega)
  rw [cov_eq]
  simp only [cv, Nat.add_zero, Bool.true_and] at b0 ⊢
  by_cases h0 : f b ≤ σ.2.1 18 (3 * s)
  · have h0' : ¬ σ.2.1 18 (3 * s) < f b := by rw [Int32.not_lt]; exact h0
    by_cases h1 : f (b + 1) ≤ σ.2.1 18 (3 * s + 1)
    · have h1' : ¬ σ.2.1 18 (3 * s + 1) < f (b + 1) := by rw [Int32.not_lt]; exact h1
      by_cases h2 : f (b + 2) ≤ σ.2.1 18 (3 * s + 2)
      · have h2' : ¬ σ.2.1 18 (3 * s + 2) < f (b + 2) := by rw [Int32.not_lt]; exact h2
        simp (disch := first | assumption | omega) only [b0, b1, b2, h0', h1', h2', f_Vec_covers_b50, or_true, Nat.add_zero, ↓rv0, ↓rg0_0, ↓rg0_1, ↓rg0_2, ↓rg0_3, ↓rg0_4, ↓rg0_5, ↓rg0_6, ↓rg0_7, ↓rg0_8, ↓rg0_9, ↓rg0_10, ↓rv5, ↓rg5_0, ↓rg5_1, ↓rg5_2, ↓rv8, ↓rg8_0, ↓rg8_1, ↓rg8_2, ↓rg8_3, ↓rg8_4, ↓rv9, ↓rg9_0, ↓rg9_1, ↓rg9_2, ↓rg9_3, ↓rv13, ↓rg13_0, ↓rv14, ↓rg14_0, ↓rg14_1, ↓rg14_2, ↓rg14_3, ↓rg14_4, ↓rv17, ↓rg17_0, ↓rg17_1, ↓rg17_2, ↓rg17_3, ↓rv18, ↓rg18_0, ↓rv20, ↓rg20_0, ↓rv22, ↓rg22_0, ↓rg22_1, ↓rg22_2, ↓rg22_3, ↓rg22_4, ↓rv23, ↓rg23_0, ↓rv25, ↓rg25_0, ↓rg25_1, ↓rg25_2, ↓rg25_3, ↓rg25_4, ↓rg25_5, ↓rg25_6, ↓rg25_7, ↓rg25_8, ↓rg25_9, ↓rg25_10, ↓rg25_11, ↓rv26, ↓rg26_0, ↓rl12, ↓rl15, ↓rl16, ↓rl19, ↓rl21, ↓rl24, ↓rl27, ↓rl11, ↓rl3, ↓rl1, ↓rl4, ↓rl7, ↓rl10, ↓ra7, ↓ra10, ↓ra4, ↓rp14_0, ↓rp14_1, ↓rp14_2, ↓rp14_3, ↓rp8_3, ↓rp8_4, ↓rp8_2, ↓rp17_0, ↓rp17_1, ↓rp5_1, ↓rp5_2, ↓rp25_7, ↓rp25_8, ↓rp25_9, ↓rp25_10, ↓rp25_11, ↓rs12, ↓rs15, ↓rs16, ↓rs19, ↓rs21, ↓rs11, ↓rp0_5, ↓rp0_10, ↓rp0_7, ↓rp0_8, ↓rp0_9, ↓rs3, ↓xb, ↓xr, rl12, rl15, rl16, rl19, rl21, rl24, rl27, rl11, rl3, rl1, rl4, rl7, rl10, rs12, rs15, rs16, rs19, rs21, rs11, rs3, n3, n30, n10, n300, n401, n4p, np1, np2, nI_add, ↓reduceIte]
        simp [h0, h1, h2, bI]
      · have h2' : σ.2.1 18 (3 * s + 2) < f (b + 2) := by rw [← Int32.not_le]; exact h2
        simp (disch := first | assumption | omega) only [b0, b1, b2, h0', h1', h2', f_Vec_covers_b49, f_Vec_covers_b50, true_or, Nat.add_zero, ↓rv0, ↓rg0_0, ↓rg0_1, ↓rg0_2, ↓rg0_3, ↓rg0_4, ↓rg0_5, ↓rg0_6, ↓rg0_7, ↓rg0_8, ↓rg0_9, ↓rg0_10, ↓rv5, ↓rg5_0, ↓rg5_1, ↓rg5_2, ↓rv8, ↓rg8_0, ↓rg8_1, ↓rg8_2, ↓rg8_3, ↓rg8_4, ↓rv9, ↓rg9_0, ↓rg9_1, ↓rg9_2, ↓rg9_3, ↓rv13, ↓rg13_0, ↓rv14, ↓rg14_0, ↓rg14_1, ↓rg14_2, ↓rg14_3, ↓rg14_4, ↓rv17, ↓rg17_0, ↓rg17_1, ↓rg17_2, ↓rg17_3, ↓rv18, ↓rg18_0, ↓rv20, ↓rg20_0, ↓rv22, ↓rg22_0, ↓rg22_1, ↓rg22_2, ↓rg22_3, ↓rg22_4, ↓rv23, ↓rg23_0, ↓rv25, ↓rg25_0, ↓rg25_1, ↓rg25_2, ↓rg25_3, ↓rg25_4, ↓rg25_5, ↓rg25_6, ↓rg25_7, ↓rg25_8, ↓rg25_9, ↓rg25_10, ↓rg25_11, ↓rv26, ↓rg26_0, ↓rl12, ↓rl15, ↓rl16, ↓rl19, ↓rl21, ↓rl24, ↓rl27, ↓rl11, ↓rl3, ↓rl1, ↓rl4, ↓rl7, ↓rl10, ↓ra7, ↓ra10, ↓ra4, ↓rp14_0, ↓rp14_1, ↓rp14_2, ↓rp14_3, ↓rp8_3, ↓rp8_4, ↓rp8_2, ↓rp17_0, ↓rp17_1, ↓rp5_1, ↓rp5_2, ↓rp25_7, ↓rp25_8, ↓rp25_9, ↓rp25_10, ↓rp25_11, ↓rs12, ↓rs15, ↓rs16, ↓rs19, ↓rs21, ↓rs11, ↓rp0_5, ↓rp0_10, ↓rp0_7, ↓rp0_8, ↓rp0_9, ↓rs3, ↓xb, ↓xr, rl12, rl15, rl16, rl19, rl21, rl24, rl27, rl11, rl3, rl1, rl4, rl7, rl10, rs12, rs15, rs16, rs19, rs21, rs11, rs3, n3, n30, n10, n300, n401, n4p, np1, np2, nI_add, ↓reduceIte]
        simp [h2, bI]
    · have h1' : σ.2.1 18 (3 * s + 1) < f (b + 1) := by rw [← Int32.not_le]; exact h1
      simp (disch := first | assumption | omega) only [b0, b1, b2, h0', h1', f_Vec_covers_b49, f_Vec_covers_b50, true_or, Nat.add_zero, ↓rv0, ↓rg0_0, ↓rg0_1, ↓rg0_2, ↓rg0_3, ↓rg0_4, ↓rg0_5, ↓rg0_6, ↓rg0_7, ↓rg0_8, ↓rg0_9, ↓rg0_10, ↓rv5, ↓rg5_0, ↓rg5_1, ↓rg5_2, ↓rv8, ↓rg8_0, ↓rg8_1, ↓rg8_2, ↓rg8_3, ↓rg8_4, ↓rv9, ↓rg9_0, ↓rg9_1, ↓rg9_2, ↓rg9_3, ↓rv13, ↓rg13_0, ↓rv14, ↓rg14_0, ↓rg14_1, ↓rg14_2, ↓rg14_3, ↓rg14_4, ↓rv17, ↓rg17_0, ↓rg17_1, ↓rg17_2, ↓rg17_3, ↓rv18, ↓rg18_0, ↓rv20, ↓rg20_0, ↓rv22, ↓rg22_0, ↓rg22_1, ↓rg22_2, ↓rg22_3, ↓rg22_4, ↓rv23, ↓rg23_0, ↓rv25, ↓rg25_0, ↓rg25_1, ↓rg25_2, ↓rg25_3, ↓rg25_4, ↓rg25_5, ↓rg25_6, ↓rg25_7, ↓rg25_8, ↓rg25_9, ↓rg25_10, ↓rg25_11, ↓rv26, ↓rg26_0, ↓rl12, ↓rl15, ↓rl16, ↓rl19, ↓rl21, ↓rl24, ↓rl27, ↓rl11, ↓rl3, ↓rl1, ↓rl4, ↓rl7, ↓rl10, ↓ra7, ↓ra10, ↓ra4, ↓rp14_0, ↓rp14_1, ↓rp14_2, ↓rp14_3, ↓rp8_3, ↓rp8_4, ↓rp8_2, ↓rp17_0, ↓rp17_1, ↓rp5_1, ↓rp5_2, ↓rp25_7, ↓rp25_8, ↓rp25_9, ↓rp25_10, ↓rp25_11, ↓rs12, ↓rs15, ↓rs16, ↓rs19, ↓rs21, ↓rs11, ↓rp0_5, ↓rp0_10, ↓rp0_7, ↓rp0_8, ↓rp0_9, ↓rs3, ↓xb, ↓xr, rl12, rl15, rl16, rl19, rl21, rl24, rl27, rl11, rl3, rl1, rl4, rl7, rl10, rs12, rs15, rs16, rs19, rs21, rs11, rs3, n3, n30, n10, n300, n401, n4p, np1, np2, nI_add, ↓reduceIte]
      simp [h1, bI]
  · have h0' : σ.2.1 18 (3 * s) < f b := by rw [← Int32.not_le]; exact h0
    simp (disch := first | assumption | omega) only [b0, b1, b2, h0', f_Vec_covers_b49, f_Vec_covers_b50, true_or, Nat.add_zero, ↓rv0, ↓rg0_0, ↓rg0_1, ↓rg0_2, ↓rg0_3, ↓rg0_4, ↓rg0_5, ↓rg0_6, ↓rg0_7, ↓rg0_8, ↓rg0_9, ↓rg0_10, ↓rv5, ↓rg5_0, ↓rg5_1, ↓rg5_2, ↓rv8, ↓rg8_0, ↓rg8_1, ↓rg8_2, ↓rg8_3, ↓rg8_4, ↓rv9, ↓rg9_0, ↓rg9_1, ↓rg9_2, ↓rg9_3, ↓rv13, ↓rg13_0, ↓rv14, ↓rg14_0, ↓rg14_1, ↓rg14_2, ↓rg14_3, ↓rg14_4, ↓rv17, ↓rg17_0, ↓rg17_1, ↓rg17_2, ↓rg17_3, ↓rv18, ↓rg18_0, ↓rv20, ↓rg20_0, ↓rv22, ↓rg22_0, ↓rg22_1, ↓rg22_2, ↓rg22_3, ↓rg22_4, ↓rv23, ↓rg23_0, ↓rv25, ↓rg25_0, ↓rg25_1, ↓rg25_2, ↓rg25_3, ↓rg25_4, ↓rg25_5, ↓rg25_6, ↓rg25_7, ↓rg25_8, ↓rg25_9, ↓rg25_10, ↓rg25_11, ↓rv26, ↓rg26_0, ↓rl12, ↓rl15, ↓rl16, ↓rl19, ↓rl21, ↓rl24, ↓rl27, ↓rl11, ↓rl3, ↓rl1, ↓rl4, ↓rl7, ↓rl10, ↓ra7, ↓ra10, ↓ra4, ↓rp14_0, ↓rp14_1, ↓rp14_2, ↓rp14_3, ↓rp8_3, ↓rp8_4, ↓rp8_2, ↓rp17_0, ↓rp17_1, ↓rp5_1, ↓rp5_2, ↓rp25_7, ↓rp25_8, ↓rp25_9, ↓rp25_10, ↓rp25_11, ↓rs12, ↓rs15, ↓rs16, ↓rs19, ↓rs21, ↓rs11, ↓rp0_5, ↓rp0_10, ↓rp0_7, ↓rp0_8, ↓rp0_9, ↓rs3, ↓xb, ↓xr, rl12, rl15, rl16, rl19, rl21, rl24, rl27, rl11, rl3, rl1, rl4, rl7, rl10, rs12, rs15, rs16, rs19, rs21, rs11, rs3, n3, n30, n10, n300, n401, n4p, np1, np2, nI_add, ↓reduceIte]
    simp [h0, bI]
/-- rows that no partition has are 0 -/
theorem cv_P {P : Nat} {f : Nat → Int32} {b s : Nat} (hP : P ≤ 3) (hf : ∀ q, P ≤ q → q < 3 → f (b + q) = 0) (ha : ∀ q, P ≤ q → q < 3 → σ.2.1 18 (3 * s + q) = 0) : cv σ f b s 3 = cv σ f b s P := by
  have : ∀ n, P + n ≤ 3 → cv σ f b s (P + n) = cv σ f b s P := by
    intro n
    induction n with
    | zero => intro _; rfl
    | succ n ih =>
      intro hn
      rw [← ih (by omega)]
      show (cv σ f b s (P + n) && decide (f (b + (P + n)) ≤ σ.2.1 18 (3 * s + (P + n)))) = _
      rw [hf _ (by omega) (by omega), ha _ (by omega) (by omega)]
      simp [le00]
  have h3 := this (3 - P) (by omega)
  rwa [show P + (3 - P) = 3 by omega] at h3
end XCA
