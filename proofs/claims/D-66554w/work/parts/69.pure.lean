/-! the component: tokens -/
theorem shr_bv (a b : Int64) (n : Nat) (hb : b.toBitVec.smod 64 = BitVec.ofNat 64 n) (hn : n < 64) : (a >>> b).toBitVec = a.toBitVec.sshiftRight n := by
  rw [Int64.toBitVec_shiftRight, hb]
  show a.toBitVec.sshiftRight (BitVec.ofNat 64 n).toNat = _
  rw [BitVec.toNat_ofNat, Nat.mod_eq_of_lt (by omega)]
theorem sh20_bv (t : Int64) : (sh20 t).toBitVec = t.toBitVec.sshiftRight 20 := shr_bv t _ 20 (by decide) (by omega)
theorem sh20_neg (t : Int64) : sh20 t < 0 ↔ t < 0 := by
  rw [Int64.lt_iff_toInt_lt, Int64.lt_iff_toInt_lt]
  have : (sh20 t).toInt = t.toInt / 2 ^ 20 := by
    show (sh20 t).toBitVec.toInt = _
    rw [sh20_bv, BitVec.toInt_sshiftRight, Int.shiftRight_eq_div_pow]
    rfl
  rw [this]
  show _ < (0 : Int) ↔ _ < (0 : Int)
  omega
theorem pos3 (t : Int64) {k : Nat} (hk : k < 3) : ((sh20 t >>> ((9 * nI k).toInt64 &&& 63)) &&& 511).toInt32 = posS t k := by
  unfold posS
  congr 2
  apply Int64.toBitVec_inj.mp
  have : k = 0 ∨ k = 1 ∨ k = 2 := by omega
  rcases this with rfl | rfl | rfl
  · rw [shr_bv _ _ 0 (by decide) (by omega), shr_bv _ _ 20 (by decide) (by omega), sh20_bv]
    exact (BitVec.sshiftRight_add).symm
  · rw [shr_bv _ _ 9 (by decide) (by omega), shr_bv _ _ 29 (by decide) (by omega), sh20_bv]
    exact (BitVec.sshiftRight_add).symm
  · rw [shr_bv _ _ 18 (by decide) (by omega), shr_bv _ _ 38 (by decide) (by omega), sh20_bv]
    exact (BitVec.sshiftRight_add).symm
theorem tkl_f (P : Nat) (σ : xS) (tk : Int64) (p n : Nat) (h : tkl P σ tk p = false) : tkl P σ tk (p + n) = false := by
  induction n with
  | zero => exact h
  | succ n ih =>
    show (tkl P σ tk (p + n) && _) = false
    rw [ih]
    rfl
/-- the heap grew: cells below are as they were -/
def Ext (h h2 : xH) (c n : Nat) : Prop := h.1.1 ≤ h2.1.1 ∧ (∀ q, q < h.1.1 → h2.2 q = h.2 q) ∧ h.1.2.1 ≤ h2.1.2.1 + c ∧ h.1.2.2 ≤ h2.1.2.2 + n
theorem Ext.refl (h : xH) (c n : Nat) : Ext h h c n := ⟨Nat.le_refl _, fun _ _ => rfl, by omega, by omega⟩
theorem Ext.nw (h : xH) (n : Nat) (e : xE) : Ext h (nw h n e) 1 n := by
  refine ⟨?_, fun q hq => ?_, ?_, ?_⟩
  · show h.1.1 ≤ h.1.1 + 1
    omega
  · show va_up h.2 h.1.1 _ q = _
    have : ¬ q = h.1.1 := by omega
    simp [va_up, this]
  · show h.1.2.1 ≤ h.1.2.1 - 1 + 1
    omega
  · show h.1.2.2 ≤ h.1.2.2 - n + n
    omega
theorem Ext.trans {h h2 h3 : xH} {c n c2 n2 : Nat} (e1 : Ext h h2 c n) (e2 : Ext h2 h3 c2 n2) : Ext h h3 (c + c2) (n + n2) := by
  obtain ⟨a1, a2, a3, a4⟩ := e1
  obtain ⟨b1, b2, b3, b4⟩ := e2
  exact ⟨by omega, fun q hq => (b2 q (by omega)).trans (a2 q hq), by omega, by omega⟩
theorem Ext.mono {h h2 : xH} {c n c2 n2 : Nat} (e1 : Ext h h2 c n) (hc : c ≤ c2) (hn : n ≤ n2) : Ext h h2 c2 n2 := ⟨e1.1, e1.2.1, by have := e1.2.2.1; omega, by have := e1.2.2.2; omega⟩
theorem Ext.vH (h : xH) (f : Nat → Int32) : Ext h (vH h f) 2 4 := (Ext.nw h 1 _).trans (Ext.nw _ 3 _)
section XCM
variable {β : Type} {x x' : xX} {y y' : xY} {σ σ' : xS} {h : xH} {T : Nat} {t : Nat → Nat}
theorem Fr.ext {h2 : xH} {c n : Nat} (hf : Fr x h) (he : Ext h h2 c n) : Fr x h2 := fun t i j hv => by
  have := hf t i j hv
  have := he.1
  omega
/-- the row so far -/
def pr (tk : Int64) (n : Nat) : Nat → Int32 := cl n (posS tk)
theorem pr_s (tk : Int64) (n : Nat) : va_up (pr tk n) n (posS tk n) = pr tk (n + 1) := by
  funext q
  unfold va_up pr cl
  by_cases hq : q = n
  · subst hq
    simp
  · rw [if_neg hq]
    by_cases h2 : q < n
    · rw [if_pos h2, if_pos (by omega)]
    · rw [if_neg h2, if_neg (by omega)]
theorem pr_0 (tk : Int64) : pr tk 0 = fun _ => 0 := by
  funext q
  simp [pr, cl]
theorem c_vectorOf_l {tk : Int64} (hx : Wx x) (hP : σ.1 0 = nI (dP x)) (hf : Fr x h) : ∃ r f, f_RS_vectorOf_h46 1000 (en x 0 0 0) (sh20 tk) h.1.1 0 (er x y σ (vH h (fun _ => 0))) = some (.inl r, er x y σ (vH h f)) ∧ (tkl (dP x) σ tk 3 = true → r = some h.1.1 ∧ f = pr tk 3) ∧ (tkl (dP x) σ tk 3 = false → r = none) := by
  have hP3 := hx.2.2.1
  have key : ∀ d p n, p + d = 3 → d < n → tkl (dP x) σ tk p = true → ∃ r f, f_RS_vectorOf_h46 n (en x 0 0 0) (sh20 tk) h.1.1 (nI p) (er x y σ (vH h (pr tk p))) = some (.inl r, er x y σ (vH h f)) ∧ (tkl (dP x) σ tk 3 = true → r = some h.1.1 ∧ f = pr tk 3) ∧ (tkl (dP x) σ tk 3 = false → r = none) := by
    intro d
    induction d with
    | zero =>
      intro p n hp hn ht
      obtain ⟨n, rfl, -⟩ := pos_of hn
      obtain rfl : p = 3 := by omega
      have c1 : (3 : Int32) ≤ nI 3 := by decide
      refine ⟨some h.1.1, pr tk 3, ?_, fun _ => ⟨rfl, rfl⟩, fun q => by rw [ht] at q; cases q⟩
      simp only [f_RS_vectorOf_h46, f_RS_vectorOf_b46, c1, ↓reduceIte, xr]
    | succ d ih =>
      intro p n hp hn ht
      obtain ⟨n, rfl, hn⟩ := pos_of hn
      have hp3 : p < 3 := by omega
      have c1 : ¬ (3 : Int32) ≤ nI p := nI_ge (b := 3) (by omega) (by omega)
      have e1 : pr tk (p + 1) p = posS tk p := by simp [pr, cl]
      have fin : ∀ E : Int32, E = (if p < dP x then σ.2.1 4 p else 0) → ∃ r f, f_RS_vectorOf_b103 (f_RS_vectorOf_h46 n) (en x 0 0 0) (sh20 tk) h.1.1 (nI p) E (posS tk p) (er x y σ (vH h (pr tk (p + 1)))) = some (.inl r, er x y σ (vH h f)) ∧ (tkl (dP x) σ tk 3 = true → r = some h.1.1 ∧ f = pr tk 3) ∧ (tkl (dP x) σ tk 3 = false → r = none) := by
        intro E hE
        subst hE
        unfold f_RS_vectorOf_b103
        by_cases c2 : posS tk p ≤ (if p < dP x then σ.2.1 4 p else 0)
        · rw [if_pos c2, np1]
          exact ih (p + 1) n (by omega) (by omega) (by simp only [tkl, ht, c2, decide_true, Bool.and_self])
        · rw [if_neg c2]
          have hfa : tkl (dP x) σ tk 3 = false := by
            have := tkl_f (dP x) σ tk (p + 1) d (by simp only [tkl, c2, decide_false, Bool.and_false])
            rwa [show p + 1 + d = 3 by omega] at this
          exact ⟨none, pr tk (p + 1), rfl, fun q => (by rw [hfa] at q; cases q), fun _ => rfl⟩
      by_cases c3 : p < dP x
      · have c3' : ¬ nI (dP x) ≤ nI p := nI_ge c3 (by omega)
        obtain ⟨r, f, g1, g2⟩ := fin (σ.2.1 4 p) (if_pos c3).symm
        refine ⟨r, f, ?_, g2⟩
        simp (disch := first | assumption | omega) only [f_RS_vectorOf_h46, f_RS_vectorOf_b46, c1, ↓v_gA, ↓v_sI, ↓v_lI, pos3, pr_s, e1, hP, c3', ↓rv0, ↓rg0_0, ↓rg0_1, ↓rg0_2, ↓rg0_3, ↓rg0_4, ↓rg0_5, ↓rg0_6, ↓rg0_7, ↓rg0_8, ↓rg0_9, ↓rg0_10, ↓rv5, ↓rg5_0, ↓rg5_1, ↓rg5_2, ↓rv8, ↓rg8_0, ↓rg8_1, ↓rg8_2, ↓rg8_3, ↓rg8_4, ↓rv9, ↓rg9_0, ↓rg9_1, ↓rg9_2, ↓rg9_3, ↓rv13, ↓rg13_0, ↓rv14, ↓rg14_0, ↓rg14_1, ↓rg14_2, ↓rg14_3, ↓rg14_4, ↓rv17, ↓rg17_0, ↓rg17_1, ↓rg17_2, ↓rg17_3, ↓rv18, ↓rg18_0, ↓rv20, ↓rg20_0, ↓rv22, ↓rg22_0, ↓rg22_1, ↓rg22_2, ↓rg22_3, ↓rg22_4, ↓rv23, ↓rg23_0, ↓rv25, ↓rg25_0, ↓rg25_1, ↓rg25_2, ↓rg25_3, ↓rg25_4, ↓rg25_5, ↓rg25_6, ↓rg25_7, ↓rg25_8, ↓rg25_9, ↓rg25_10, ↓rg25_11, ↓rv26, ↓rg26_0, ↓rl12, ↓rl15, ↓rl16, ↓rl19, ↓rl21, ↓rl24, ↓rl27, ↓rl11, ↓rl3, ↓rl1, ↓rl4, ↓rl7, ↓rl10, ↓ra7, ↓ra10, ↓ra4, ↓rp14_0, ↓rp14_1, ↓rp14_2, ↓rp14_3, ↓rp8_3, ↓rp8_4, ↓rp8_2, ↓rp17_0, ↓rp17_1, ↓rp5_1, ↓rp5_2, ↓rp25_7, ↓rp25_8, ↓rp25_9, ↓rp25_10, ↓rp25_11, ↓rs12, ↓rs15, ↓rs16, ↓rs19, ↓rs21, ↓rs11, ↓rp0_5, ↓rp0_10, ↓rp0_7, ↓rp0_8, ↓rp0_9, ↓rs3, ↓xb, ↓xr, rl12, rl15, rl16, rl19, rl21, rl24, rl27, rl11, rl3, rl1, rl4, rl7, rl10, rs12, rs15, rs16, rs19, rs21, rs11, rs3, n3, n30, n10, n300, n401, n4p, np1, np2, nI_add, ↓reduceIte]
        exact g1
      · have c3' : nI (dP x) ≤ nI p := nI_le (by omega) (by omega)
        obtain ⟨r, f, g1, g2⟩ := fin 0 (if_neg c3).symm
        refine ⟨r, f, ?_, g2⟩
        simp (disch := first | assumption | omega) only [f_RS_vectorOf_h46, f_RS_vectorOf_b46, c1, ↓v_gA, ↓v_sI, ↓v_lI, pos3, pr_s, e1, hP, c3', ↓rv0, ↓rg0_0, ↓rg0_1, ↓rg0_2, ↓rg0_3, ↓rg0_4, ↓rg0_5, ↓rg0_6, ↓rg0_7, ↓rg0_8, ↓rg0_9, ↓rg0_10, ↓rv5, ↓rg5_0, ↓rg5_1, ↓rg5_2, ↓rv8, ↓rg8_0, ↓rg8_1, ↓rg8_2, ↓rg8_3, ↓rg8_4, ↓rv9, ↓rg9_0, ↓rg9_1, ↓rg9_2, ↓rg9_3, ↓rv13, ↓rg13_0, ↓rv14, ↓rg14_0, ↓rg14_1, ↓rg14_2, ↓rg14_3, ↓rg14_4, ↓rv17, ↓rg17_0, ↓rg17_1, ↓rg17_2, ↓rg17_3, ↓rv18, ↓rg18_0, ↓rv20, ↓rg20_0, ↓rv22, ↓rg22_0, ↓rg22_1, ↓rg22_2, ↓rg22_3, ↓rg22_4, ↓rv23, ↓rg23_0, ↓rv25, ↓rg25_0, ↓rg25_1, ↓rg25_2, ↓rg25_3, ↓rg25_4, ↓rg25_5, ↓rg25_6, ↓rg25_7, ↓rg25_8, ↓rg25_9, ↓rg25_10, ↓rg25_11, ↓rv26, ↓rg26_0, ↓rl12, ↓rl15, ↓rl16, ↓rl19, ↓rl21, ↓rl24, ↓rl27, ↓rl11, ↓rl3, ↓rl1, ↓rl4, ↓rl7, ↓rl10, ↓ra7, ↓ra10, ↓ra4, ↓rp14_0, ↓rp14_1, ↓rp14_2, ↓rp14_3, ↓rp8_3, ↓rp8_4, ↓rp8_2, ↓rp17_0, ↓rp17_1, ↓rp5_1, ↓rp5_2, ↓rp25_7, ↓rp25_8, ↓rp25_9, ↓rp25_10, ↓rp25_11, ↓rs12, ↓rs15, ↓rs16, ↓rs19, ↓rs21, ↓rs11, ↓rp0_5, ↓rp0_10, ↓rp0_7, ↓rp0_8, ↓rp0_9, ↓rs3, ↓xb, ↓xr, rl12, rl15, rl16, rl19, rl21, rl24, rl27, rl11, rl3, rl1, rl4, rl7, rl10, rs12, rs15, rs16, rs19, rs21, rs11, rs3, n3, n30, n10, n300, n401, n4p, np1, np2, nI_add, ↓reduceIte]
        exact g1
  have k0 := key 3 0 1000 (by omega) (by omega) rfl
  rw [pr_0, nI_0] at k0
  exact k0
theorem c_vectorOf {tk : Int64} (hx : Wx x) (hP : σ.1 0 = nI (dP x)) (hf : Fr x h) (hr : 2 ≤ h.1.2.1 ∧ 4 ≤ h.1.2.2) : (isTok (dP x) σ tk = true → f_RS_vectorOf (en x 0 0 0) tk (er x y σ h) = some (.inl (some h.1.1), er x y σ (vH h (pr tk 3)))) ∧ (isTok (dP x) σ tk = false → ∃ h2, f_RS_vectorOf (en x 0 0 0) tk (er x y σ h) = some (.inl none, er x y σ h2) ∧ Ext h h2 2 4) := by
  obtain ⟨r, f, g1, g2, g3⟩ := c_vectorOf_l (h := h) (y := y) (tk := tk) hx hP hf
  have hvi := c_vinit (y := y) (σ := σ) hf hr
  have hng := sh20_neg tk
  unfold isTok f_RS_vectorOf
  have esh : tk >>> ((20 : Int32).toInt64 &&& 63) = sh20 tk := rfl
  rw [esh]
  have ck : ∀ H : xH, f_Vec_check (sh20 tk) H = some (.inl (chkS (sh20 tk)), H) := fun H => c_check _
  generalize sh20 tk = u at *
  generalize chkS u = w at *
  generalize tk &&& 1048575 = z at *
  generalize (134217728 : Int64) = B at *
  simp only [lg_cmp_lt, lg_cmp_ge, lg_cmp_eq]
  by_cases c1 : u < 0
  · rw [if_pos c1]
    have c1' : ¬ 0 ≤ tk := by rw [Int64.not_le]; exact hng.mp c1
    refine ⟨fun q => ?_, fun _ => ⟨h, rfl, Ext.refl _ _ _⟩⟩
    rw [decide_eq_false c1'] at q
    cases q
  · rw [if_neg c1]
    have c1' : 0 ≤ tk := by rw [← Int64.not_lt]; exact fun q => c1 (hng.mpr q)
    by_cases c2 : B ≤ u
    · rw [if_pos c2]
      have c2' : ¬ u < B := by rw [Int64.not_lt]; exact c2
      refine ⟨fun q => ?_, fun _ => ⟨h, rfl, Ext.refl _ _ _⟩⟩
      rw [decide_eq_false c2', Bool.false_and, Bool.and_false] at q
      cases q
    · rw [if_neg c2, xb_ok (ck _)]
      have c2' : u < B := by rw [← Int64.not_le]; exact c2
      by_cases c3 : z = w
      · rw [if_pos c3, c_nE hf (by omega), xb_ok hvi, g1]
        rw [decide_eq_true c1', decide_eq_true c2', decide_eq_true c3, Bool.true_and, Bool.true_and, Bool.true_and]
        refine ⟨fun q => ?_, fun q => ?_⟩
        · obtain ⟨rfl, rfl⟩ := g2 q
          rfl
        · obtain rfl := g3 q
          exact ⟨_, rfl, Ext.vH _ _⟩
      · rw [if_neg c3]
        refine ⟨fun q => ?_, fun _ => ⟨h, rfl, Ext.refl _ _ _⟩⟩
        rw [decide_eq_false c3, Bool.false_and, Bool.and_false, Bool.and_false] at q
        cases q
end XCM
