/-! the component: copies of states -/
def uF (σ : xS) (k : Nat) (f : Nat → Int32) : xS := (σ.1, va_up σ.2.1 k f, σ.2.2)
def uG (σ : xS) (k : Nat) (f : Nat → Int64) : xS := (σ.1, σ.2.1, va_up σ.2.2 k f)
theorem same.uF {F : List Nat} {σ : xS} (k : Nat) (f : Nat → Int32) (hk : k ∈ F) : same F σ (uF σ k f) := ⟨rfl, fun j hj => by
  have : j ≠ k := fun e => hj (e ▸ hk)
  simp [_root_.Jvm.Pilot.CReadSideLaw_law_r1185_50799c.uF, va_up, this], fun j hj => rfl⟩
theorem same.uG {F : List Nat} {σ : xS} (k : Nat) (f : Nat → Int64) (hk : k ∈ F) : same F σ (uG σ k f) := ⟨rfl, fun j hj => rfl, fun j hj => by
  have : j ≠ k := fun e => hj (e ▸ hk)
  simp [_root_.Jvm.Pilot.CReadSideLaw_law_r1185_50799c.uG, va_up, this]⟩
theorem uF_g (σ : xS) (k : Nat) (f : Nat → Int32) : (uF σ k f).2.1 k = f := by simp [uF, va_up]
theorem uG_g (σ : xS) (k : Nat) (f : Nat → Int64) : (uG σ k f).2.2 k = f := by simp [uG, va_up]
theorem cpy_cl {f g : Nat → Int32} : va_cpy (cl 10 f) (cl 10 g) 0 0 10 = cl 10 f := by
  funext j
  by_cases h : j < 10
  · rw [pk_cpy_in (by omega) (by omega)]
    simp
  · rw [pk_cpy_out (by omega)]
    simp [cl, h]
theorem cpy_clJ {f g : Nat → Int64} : va_cpy (clJ 10 f) (clJ 10 g) 0 0 10 = clJ 10 f := by
  funext j
  by_cases h : j < 10
  · rw [pk_cpy_in (by omega) (by omega)]
    simp
  · rw [pk_cpy_out (by omega)]
    simp [clJ, h]
/-- held, item k, of state a laid over state b -/
def hdF (f : Nat → Int32) (a b k : Nat) : Nat → Int32 := fun i => if 300 * b ≤ i ∧ i < 300 * b + 300 ∧ (i - 300 * b) % 30 = k then f (300 * a + (i - 300 * b)) else f i
/-- the same of all items ahead of n -/
def hdN (f : Nat → Int32) (a b n : Nat) : Nat → Int32 := fun i => if 300 * b ≤ i ∧ i < 300 * b + 300 ∧ (i - 300 * b) % 30 < n then f (300 * a + (i - 300 * b)) else f i
def cpM (σ : xS) (a b n : Nat) : xS := (σ.1, fun k => if k = 11 ∨ k = 12 ∨ k = 13 ∨ k = 14 then rg (σ.2.1 k) (30 * b) n (30 * a) else if k = 15 then hdN (σ.2.1 15) a b n else σ.2.1 k, σ.2.2)
theorem hdN_0 (f : Nat → Int32) (a b : Nat) : hdN f a b 0 = f := by
  funext i
  unfold hdN
  rw [if_neg (by omega)]
theorem hdN_30 (f : Nat → Int32) (a b : Nat) : hdN f a b 30 = rg f (300 * b) 300 (300 * a) := by
  funext i
  unfold hdN rg
  by_cases h : 300 * b ≤ i ∧ i < 300 * b + 300
  · rw [if_pos ⟨h.1, h.2, Nat.mod_lt _ (by omega)⟩, if_pos h]
  · rw [if_neg (fun q => h ⟨q.1, q.2.1⟩), if_neg h]
theorem hdN_s (f : Nat → Int32) {a b n : Nat} (hab : a ≠ b) : hdF (hdN f a b n) a b n = hdN f a b (n + 1) := by
  funext i
  unfold hdF hdN
  by_cases h : 300 * b ≤ i ∧ i < 300 * b + 300
  · by_cases h2 : (i - 300 * b) % 30 = n
    · rw [if_pos ⟨h.1, h.2, h2⟩, if_neg (by omega), if_pos ⟨h.1, h.2, by omega⟩]
    · rw [if_neg (fun q => h2 q.2.2)]
      by_cases h3 : (i - 300 * b) % 30 < n
      · rw [if_pos ⟨h.1, h.2, h3⟩, if_pos ⟨h.1, h.2, by omega⟩]
      · rw [if_neg (fun q => h3 q.2.2), if_neg (fun q => by omega)]
  · rw [if_neg (fun q => h ⟨q.1, q.2.1⟩), if_neg (fun q => h ⟨q.1, q.2.1⟩), if_neg (fun q => h ⟨q.1, q.2.1⟩)]
theorem cpM_0 (σ : xS) (a b : Nat) : cpM σ a b 0 = σ := by
  unfold cpM
  refine Prod.ext rfl (Prod.ext (funext fun k => ?_) rfl)
  simp only [rg_0, hdN_0]
  repeat' split
  all_goals first | rfl | (rename_i h; subst h; rfl)
theorem cpM_s (σ : xS) {a b n : Nat} (hab : a ≠ b) : uF (uI (uI (uI (uI (cpM σ a b n) 11 (30 * b + n) (σ.2.1 11 (30 * a + n))) 12 (30 * b + n) (σ.2.1 12 (30 * a + n))) 13 (30 * b + n) (σ.2.1 13 (30 * a + n))) 14 (30 * b + n) (σ.2.1 14 (30 * a + n))) 15 (hdF (hdN (σ.2.1 15) a b n) a b n) = cpM σ a b (n + 1) := by
  refine Prod.ext rfl (Prod.ext (funext fun k => ?_) (funext fun k => rfl))
  by_cases h1 : k = 11
  · subst h1; simp [cpM, uI, uF, va_up, rg_succ]
  by_cases h2 : k = 12
  · subst h2; simp [cpM, uI, uF, va_up, rg_succ]
  by_cases h3 : k = 13
  · subst h3; simp [cpM, uI, uF, va_up, rg_succ]
  by_cases h4 : k = 14
  · subst h4; simp [cpM, uI, uF, va_up, rg_succ]
  by_cases h5 : k = 15
  · subst h5; simp [cpM, uI, uF, va_up, hdN_s _ hab]
  simp [cpM, uI, uF, va_up, h1, h2, h3, h4, h5]
theorem cpM_cpN (σ : xS) (a b : Nat) : uF (uG (cpM σ a b 30) 16 (rg (σ.2.2 16) (10 * b) 10 (10 * a))) 17 (rg (σ.2.1 17) (10 * b) 10 (10 * a)) = cpN σ a b 30 300 10 0 := by
  refine Prod.ext rfl (Prod.ext (funext fun k => ?_) (funext fun k => ?_))
  · by_cases h1 : k = 11
    · subst h1; simp [cpM, cpN, uF, uG, va_up]
    by_cases h2 : k = 12
    · subst h2; simp [cpM, cpN, uF, uG, va_up]
    by_cases h3 : k = 13
    · subst h3; simp [cpM, cpN, uF, uG, va_up]
    by_cases h4 : k = 14
    · subst h4; simp [cpM, cpN, uF, uG, va_up]
    by_cases h5 : k = 15
    · subst h5; simp [cpM, cpN, uF, uG, va_up, hdN_30]
    by_cases h6 : k = 17
    · subst h6; simp [cpM, cpN, uF, uG, va_up]
    by_cases h7 : k = 18
    · subst h7; simp [cpM, cpN, uF, uG, va_up, rg_0]
    simp [cpM, cpN, uF, uG, va_up, h1, h2, h3, h4, h5, h6, h7]
  · by_cases h1 : k = 16
    · subst h1; simp [cpM, cpN, uF, uG, va_up]
    simp [cpM, cpN, uF, uG, va_up, h1]
section XCG
variable {β : Type} {x : xX} {y y' : xY} {σ σ' : xS} {h : xH} {T : Nat} {t : Nat → Nat}
theorem r_cI {t1 i1 j1 i2 j2 : Nat} {f g : Nat → Int32} {kk : xM β} (hx : Wx x) (hv1 : vd x t1 i1 j1 = true) (hv2 : vd x t1 i2 j2 = true) (hc1 : cd x y σ t1 i1 j1 = .inl (0, 10, .inl (cl 10 f))) (hc2 : cd x y σ t1 i2 j2 = .inl (0, 10, .inl (cl 10 g))) (he : cd x y σ' t1 i2 j2 = .inl (0, 10, .inl (cl 10 f))) (ho : ∀ t' i' j', vd x t' i' j' = true → ¬ (t' = t1 ∧ i' = i2 ∧ j' = j2) → cd x y σ' t' i' j' = cd x y σ t' i' j') : cI (en x t1 i1 j1) 0 (en x t1 i2 j2) 0 10 kk (er x y σ h) = kk (er x y σ' h) := by
  rw [← er_up hx hv2 he ho]
  simp only [cI, er_at hx hv1, er_at hx hv2, hc1, hc2]
  rw [if_pos (by decide)]
  rw [show (0 : Int32).toNatClampNeg = 0 by decide, show (10 : Int32).toNatClampNeg = 10 by decide, cpy_cl]
theorem r_cJ {t1 i1 j1 i2 j2 : Nat} {f g : Nat → Int64} {kk : xM β} (hx : Wx x) (hv1 : vd x t1 i1 j1 = true) (hv2 : vd x t1 i2 j2 = true) (hc1 : cd x y σ t1 i1 j1 = .inl (1, 10, .inr (.inl (clJ 10 f)))) (hc2 : cd x y σ t1 i2 j2 = .inl (1, 10, .inr (.inl (clJ 10 g)))) (he : cd x y σ' t1 i2 j2 = .inl (1, 10, .inr (.inl (clJ 10 f)))) (ho : ∀ t' i' j', vd x t' i' j' = true → ¬ (t' = t1 ∧ i' = i2 ∧ j' = j2) → cd x y σ' t' i' j' = cd x y σ t' i' j') : cJ (en x t1 i1 j1) 0 (en x t1 i2 j2) 0 10 kk (er x y σ h) = kk (er x y σ' h) := by
  rw [← er_up hx hv2 he ho]
  simp only [cJ, er_at hx hv1, er_at hx hv2, hc1, hc2]
  rw [if_pos (by decide)]
  rw [show (0 : Int32).toNatClampNeg = 0 by decide, show (10 : Int32).toNatClampNeg = 10 by decide, cpy_clJ]
theorem rc15 {a b k : Nat} {kk : xM β} (hx : Wx x) (ha : sv x a) (hb : sv x b) (hk : k < 30) : cI (en x 15 a k) 0 (en x 15 b k) 0 10 kk (er x y σ h) = kk (er x y (uF σ 15 (hdF (σ.2.1 15) a b k)) h) := by
  refine r_cI hx (vv15 ha hk) (vv15 hb hk) rfl rfl ?_ (fun t' i' j' hv hn => ?_)
  · show Sum.inl (0, 10, Sum.inl (cl 10 fun c => (uF σ 15 (hdF (σ.2.1 15) a b k)).2.1 15 (30 * (10 * b + c) + k))) = _
    rw [uF_g]
    congr 4
    refine cl_ext fun c hc => ?_
    unfold hdF
    rw [if_pos (by omega)]
    exact congrArg (σ.2.1 15) (by omega)
  · by_cases ht : t' = 15
    · subst ht
      have hi2 := hv
      simp only [vd, decide_eq_true_iff] at hi2
      show Sum.inl (0, 10, Sum.inl (cl 10 fun c => (uF σ 15 (hdF (σ.2.1 15) a b k)).2.1 15 (30 * (10 * i' + c) + j'))) = Sum.inl (0, 10, Sum.inl (cl 10 fun c => σ.2.1 15 (30 * (10 * i' + c) + j')))
      rw [uF_g]
      congr 4
      refine cl_ext fun c hc => ?_
      unfold hdF
      rw [if_neg (by omega)]
    · exact cd_same (same.uF (F := [15]) _ _ (by decide)) t' i' j' (fun q hq hm => ht (rd15 (List.mem_singleton.mp hm ▸ hq)))
theorem rc12 {a b : Nat} {kk : xM β} (hx : Wx x) (ha : sv x a) (hb : sv x b) : cI (en x 12 a 0) 0 (en x 12 b 0) 0 10 kk (er x y σ h) = kk (er x y (uF σ 17 (rg (σ.2.1 17) (10 * b) 10 (10 * a))) h) := by
  refine r_cI hx (vv12 ha) (vv12 hb) rfl rfl ?_ (fun t' i' j' hv hn => ?_)
  · show Sum.inl (0, 10, Sum.inl (cl 10 fun c => (uF σ 17 (rg (σ.2.1 17) (10 * b) 10 (10 * a))).2.1 17 (10 * b + c))) = _
    rw [uF_g]
    congr 4
    refine cl_ext fun c hc => ?_
    rw [rg_in _ (by omega)]
    exact congrArg (σ.2.1 17) (by omega)
  · by_cases ht : t' = 12
    · subst ht
      have hi2 := hv
      simp only [vd, decide_eq_true_iff] at hi2
      show Sum.inl (0, 10, Sum.inl (cl 10 fun c => (uF σ 17 (rg (σ.2.1 17) (10 * b) 10 (10 * a))).2.1 17 (10 * i' + c))) = Sum.inl (0, 10, Sum.inl (cl 10 fun c => σ.2.1 17 (10 * i' + c)))
      rw [uF_g]
      congr 4
      refine cl_ext fun c hc => ?_
      rw [rg_out _ (by omega)]
    · exact cd_same (same.uF (F := [17]) _ _ (by decide)) t' i' j' (fun q hq hm => ht (rd17 (List.mem_singleton.mp hm ▸ hq)))
theorem rc11 {a b : Nat} {kk : xM β} (hx : Wx x) (ha : sv x a) (hb : sv x b) : cJ (en x 11 a 0) 0 (en x 11 b 0) 0 10 kk (er x y σ h) = kk (er x y (uG σ 16 (rg (σ.2.2 16) (10 * b) 10 (10 * a))) h) := by
  refine r_cJ hx (vv11 ha) (vv11 hb) rfl rfl ?_ (fun t' i' j' hv hn => ?_)
  · show Sum.inl (1, 10, Sum.inr (Sum.inl (clJ 10 fun c => (uG σ 16 (rg (σ.2.2 16) (10 * b) 10 (10 * a))).2.2 16 (10 * b + c)))) = _
    rw [uG_g]
    congr 5
    refine clJ_ext fun c hc => ?_
    rw [rg_in _ (by omega)]
    exact congrArg (σ.2.2 16) (by omega)
  · by_cases ht : t' = 11
    · subst ht
      have hi2 := hv
      simp only [vd, decide_eq_true_iff] at hi2
      show Sum.inl (1, 10, Sum.inr (Sum.inl (clJ 10 fun c => (uG σ 16 (rg (σ.2.2 16) (10 * b) 10 (10 * a))).2.2 16 (10 * i' + c)))) = Sum.inl (1, 10, Sum.inr (Sum.inl (clJ 10 fun c => σ.2.2 16 (10 * i' + c))))
      rw [uG_g]
      congr 5
      refine clJ_ext fun c hc => ?_
      rw [rg_out _ (by omega)]
    · exact cd_same (same.uG (F := [16]) _ _ (by decide)) t' i' j' (fun q hq hm => ht (rd16 (List.mem_singleton.mp hm ▸ hq)))
theorem c_vcopy {a b : Nat} (hx : Wx x) (ha : sv x a) (hb : sv x b) (hab : a ≠ b) : f_Vec_copy (en x 13 b 0) (en x 13 a 0) (er x y (cpN σ a b 30 300 10 0) h) = some (.inl (), er x y (cpS σ a b) h) := by
  have key : ∀ d k n, k + d = 3 → d < n → f_Vec_copy_h2 n (en x 13 b 0) (en x 13 a 0) (nI k) (er x y (cpN σ a b 30 300 10 k) h) = some (.inl (), er x y (cpS σ a b) h) := by
    intro d
    induction d with
    | zero =>
      intro k n hk hn
      obtain ⟨n, rfl, -⟩ := pos_of hn
      obtain rfl : k = 3 := by omega
      have c1 : (3 : Int32) ≤ nI 3 := by decide
      simp only [f_Vec_copy_h2, f_Vec_copy_b2, c1, ↓reduceIte, xr]
      rfl
    | succ d ih =>
      intro k n hk hn
      obtain ⟨n, rfl, hn⟩ := pos_of hn
      have c1 : ¬ (3 : Int32) ≤ nI k := nI_ge (b := 3) (by omega) (by omega)
      have i1 := ih (k + 1) n (by omega) (by omega)
      have e1 : (cpN σ a b 30 300 10 k).2.1 18 (3 * a + k) = σ.2.1 18 (3 * a + k) := rg_out _ (by omega)
      simp (disch := first | assumption | omega) only [f_Vec_copy_h2, f_Vec_copy_b2, c1, e1, ↓rv0, ↓rg0_0, ↓rg0_1, ↓rg0_2, ↓rg0_3, ↓rg0_4, ↓rg0_5, ↓rg0_6, ↓rg0_7, ↓rg0_8, ↓rg0_9, ↓rg0_10, ↓rv5, ↓rg5_0, ↓rg5_1, ↓rg5_2, ↓rv8, ↓rg8_0, ↓rg8_1, ↓rg8_2, ↓rg8_3, ↓rg8_4, ↓rv9, ↓rg9_0, ↓rg9_1, ↓rg9_2, ↓rg9_3, ↓rv13, ↓rg13_0, ↓rv14, ↓rg14_0, ↓rg14_1, ↓rg14_2, ↓rg14_3, ↓rg14_4, ↓rv17, ↓rg17_0, ↓rg17_1, ↓rg17_2, ↓rg17_3, ↓rv18, ↓rg18_0, ↓rv20, ↓rg20_0, ↓rv22, ↓rg22_0, ↓rg22_1, ↓rg22_2, ↓rg22_3, ↓rg22_4, ↓rv23, ↓rg23_0, ↓rv25, ↓rg25_0, ↓rg25_1, ↓rg25_2, ↓rg25_3, ↓rg25_4, ↓rg25_5, ↓rg25_6, ↓rg25_7, ↓rg25_8, ↓rg25_9, ↓rg25_10, ↓rg25_11, ↓rv26, ↓rg26_0, ↓rl12, ↓rl15, ↓rl16, ↓rl19, ↓rl21, ↓rl24, ↓rl27, ↓rl11, ↓rl3, ↓rl1, ↓rl4, ↓rl7, ↓rl10, ↓ra7, ↓ra10, ↓ra4, ↓rp14_0, ↓rp14_1, ↓rp14_2, ↓rp14_3, ↓rp8_3, ↓rp8_4, ↓rp8_2, ↓rp17_0, ↓rp17_1, ↓rp5_1, ↓rp5_2, ↓rp25_7, ↓rp25_8, ↓rp25_9, ↓rp25_10, ↓rp25_11, ↓rs12, ↓rs15, ↓rs16, ↓rs19, ↓rs21, ↓rs11, ↓rp0_5, ↓rp0_10, ↓rp0_7, ↓rp0_8, ↓rp0_9, ↓rs3, ↓xb, ↓xr, rl12, rl15, rl16, rl19, rl21, rl24, rl27, rl11, rl3, rl1, rl4, rl7, rl10, rs12, rs15, rs16, rs19, rs21, rs11, rs3, n3, n30, n10, n300, n401, n4p, np1, np2, nI_add, ↓reduceIte]
      rw [cpN_a] at i1
      exact i1
  exact key 3 0 1000 (by omega) (by omega)
theorem c_copy {a b : Nat} (hx : Wx x) (ha : sv x a) (hb : sv x b) (hab : a ≠ b) : f_St_copy (en x 9 b 0) (en x 9 a 0) (er x y σ h) = some (.inl (), er x y (cpS σ a b) h) := by
  have key : ∀ d k n, k + d = 30 → d < n → f_St_copy_h2 n (en x 9 b 0) (en x 9 a 0) (nI k) (er x y (cpM σ a b k) h) = some (.inl (), er x y (cpS σ a b) h) := by
    intro d
    induction d with
    | zero =>
      intro k n hk hn
      obtain ⟨n, rfl, -⟩ := pos_of hn
      obtain rfl : k = 30 := by omega
      have c1 : (30 : Int32) ≤ nI 30 := by decide
      have e16 : (cpM σ a b 30).2.2 16 = σ.2.2 16 := rfl
      have e17 : (uG (cpM σ a b 30) 16 (rg (σ.2.2 16) (10 * b) 10 (10 * a))).2.1 17 = σ.2.1 17 := rfl
      have vc := c_vcopy (h := h) (y := y) (σ := σ) hx ha hb hab
      rw [← cpM_cpN] at vc
      simp (disch := first | assumption | omega) only [f_St_copy_h2, f_St_copy_b2, c1, rc11, rc12, e16, e17, vc, ↓rv0, ↓rg0_0, ↓rg0_1, ↓rg0_2, ↓rg0_3, ↓rg0_4, ↓rg0_5, ↓rg0_6, ↓rg0_7, ↓rg0_8, ↓rg0_9, ↓rg0_10, ↓rv5, ↓rg5_0, ↓rg5_1, ↓rg5_2, ↓rv8, ↓rg8_0, ↓rg8_1, ↓rg8_2, ↓rg8_3, ↓rg8_4, ↓rv9, ↓rg9_0, ↓rg9_1, ↓rg9_2, ↓rg9_3, ↓rv13, ↓rg13_0, ↓rv14, ↓rg14_0, ↓rg14_1, ↓rg14_2, ↓rg14_3, ↓rg14_4, ↓rv17, ↓rg17_0, ↓rg17_1, ↓rg17_2, ↓rg17_3, ↓rv18, ↓rg18_0, ↓rv20, ↓rg20_0, ↓rv22, ↓rg22_0, ↓rg22_1, ↓rg22_2, ↓rg22_3, ↓rg22_4, ↓rv23, ↓rg23_0, ↓rv25, ↓rg25_0, ↓rg25_1, ↓rg25_2, ↓rg25_3, ↓rg25_4, ↓rg25_5, ↓rg25_6, ↓rg25_7, ↓rg25_8, ↓rg25_9, ↓rg25_10, ↓rg25_11, ↓rv26, ↓rg26_0, ↓rl12, ↓rl15, ↓rl16, ↓rl19, ↓rl21, ↓rl24, ↓rl27, ↓rl11, ↓rl3, ↓rl1, ↓rl4, ↓rl7, ↓rl10, ↓ra7, ↓ra10, ↓ra4, ↓rp14_0, ↓rp14_1, ↓rp14_2, ↓rp14_3, ↓rp8_3, ↓rp8_4, ↓rp8_2, ↓rp17_0, ↓rp17_1, ↓rp5_1, ↓rp5_2, ↓rp25_7, ↓rp25_8, ↓rp25_9, ↓rp25_10, ↓rp25_11, ↓rs12, ↓rs15, ↓rs16, ↓rs19, ↓rs21, ↓rs11, ↓rp0_5, ↓rp0_10, ↓rp0_7, ↓rp0_8, ↓rp0_9, ↓rs3, ↓xb, ↓xr, rl12, rl15, rl16, rl19, rl21, rl24, rl27, rl11, rl3, rl1, rl4, rl7, rl10, rs12, rs15, rs16, rs19, rs21, rs11, rs3, n3, n30, n10, n300, n401, n4p, np1, np2, nI_add, ↓reduceIte]
    | succ d ih =>
      intro k n hk hn
      obtain ⟨n, rfl, hn⟩ := pos_of hn
      have c1 : ¬ (30 : Int32) ≤ nI k := nI_ge (b := 30) (by omega) (by omega)
      have i1 := ih (k + 1) n (by omega) (by omega)
      have e1 : (cpM σ a b k).2.1 11 (30 * a + k) = σ.2.1 11 (30 * a + k) := rg_out _ (by omega)
      have e2 : ∀ v, (uI (cpM σ a b k) 11 (30 * b + k) v).2.1 12 (30 * a + k) = σ.2.1 12 (30 * a + k) := fun v => rg_out _ (by omega)
      have e3 : ∀ v w, (uI (uI (cpM σ a b k) 11 (30 * b + k) v) 12 (30 * b + k) w).2.1 13 (30 * a + k) = σ.2.1 13 (30 * a + k) := fun v w => rg_out _ (by omega)
      have e4 : ∀ v w u, (uI (uI (uI (cpM σ a b k) 11 (30 * b + k) v) 12 (30 * b + k) w) 13 (30 * b + k) u).2.1 14 (30 * a + k) = σ.2.1 14 (30 * a + k) := fun v w u => rg_out _ (by omega)
      have e5 : ∀ v w u z, (uI (uI (uI (uI (cpM σ a b k) 11 (30 * b + k) v) 12 (30 * b + k) w) 13 (30 * b + k) u) 14 (30 * b + k) z).2.1 15 = hdN (σ.2.1 15) a b k := fun v w u z => rfl
      rw [← cpM_s σ hab] at i1
      simp (disch := first | assumption | omega) only [f_St_copy_h2, f_St_copy_b2, f_Item_copy, c1, e1, e2, e3, e4, rc15, e5, ↓rv0, ↓rg0_0, ↓rg0_1, ↓rg0_2, ↓rg0_3, ↓rg0_4, ↓rg0_5, ↓rg0_6, ↓rg0_7, ↓rg0_8, ↓rg0_9, ↓rg0_10, ↓rv5, ↓rg5_0, ↓rg5_1, ↓rg5_2, ↓rv8, ↓rg8_0, ↓rg8_1, ↓rg8_2, ↓rg8_3, ↓rg8_4, ↓rv9, ↓rg9_0, ↓rg9_1, ↓rg9_2, ↓rg9_3, ↓rv13, ↓rg13_0, ↓rv14, ↓rg14_0, ↓rg14_1, ↓rg14_2, ↓rg14_3, ↓rg14_4, ↓rv17, ↓rg17_0, ↓rg17_1, ↓rg17_2, ↓rg17_3, ↓rv18, ↓rg18_0, ↓rv20, ↓rg20_0, ↓rv22, ↓rg22_0, ↓rg22_1, ↓rg22_2, ↓rg22_3, ↓rg22_4, ↓rv23, ↓rg23_0, ↓rv25, ↓rg25_0, ↓rg25_1, ↓rg25_2, ↓rg25_3, ↓rg25_4, ↓rg25_5, ↓rg25_6, ↓rg25_7, ↓rg25_8, ↓rg25_9, ↓rg25_10, ↓rg25_11, ↓rv26, ↓rg26_0, ↓rl12, ↓rl15, ↓rl16, ↓rl19, ↓rl21, ↓rl24, ↓rl27, ↓rl11, ↓rl3, ↓rl1, ↓rl4, ↓rl7, ↓rl10, ↓ra7, ↓ra10, ↓ra4, ↓rp14_0, ↓rp14_1, ↓rp14_2, ↓rp14_3, ↓rp8_3, ↓rp8_4, ↓rp8_2, ↓rp17_0, ↓rp17_1, ↓rp5_1, ↓rp5_2, ↓rp25_7, ↓rp25_8, ↓rp25_9, ↓rp25_10, ↓rp25_11, ↓rs12, ↓rs15, ↓rs16, ↓rs19, ↓rs21, ↓rs11, ↓rp0_5, ↓rp0_10, ↓rp0_7, ↓rp0_8, ↓rp0_9, ↓rs3, ↓xb, ↓xr, rl12, rl15, rl16, rl19, rl21, rl24, rl27, rl11, rl3, rl1, rl4, rl7, rl10, rs12, rs15, rs16, rs19, rs21, rs11, rs3, n3, n30, n10, n300, n401, n4p, np1, np2, nI_add, ↓reduceIte]
      exact i1
  have k0 := key 30 0 1000 (by omega) (by omega)
  rw [cpM_0] at k0
  exact k0
end XCG
