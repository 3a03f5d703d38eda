/-! the component: logged; a new command -/
section XCO
variable {β : Type} {x x' : xX} {y y' : xY} {σ σ' : xS} {h : xH} {T : Nat} {t : Nat → Nat}
theorem c_logged1 {a b c : Int32} (hx : Wx x) (hP : σ.1 0 = nI (dP x)) (hf : Fr x h) (hr : rm6 h) (h1 : inb a.toInt64 0 (σ.1 0 - 1).toInt64 = false) : Thr (f_RS_logged (en x 0 0 0) a b c) x y σ h 10 := by
  have hP3 := hx.2.2.1
  rw [hP] at h1
  unfold Thr f_RS_logged
  rw [rg0_1 hx, rg0_0 hx, hP, xb_thr (c_idx1 (by omega) (hiN (by omega)) hf hr h1)]
theorem c_logged1a {p : Nat} {b c : Int32} (hx : Wx x) (hi : Inv0 (dP x) (dN x) (dR x) T (dE x) t σ) (hf : Fr x h) (hr : rm6 h) (hp : p < dP x) (h1 : b ≤ σ.2.1 5 p ∨ σ.2.1 4 p < b) : Thr (f_RS_logged (en x 0 0 0) (nI p) b c) x y σ h 10 := by
  have hP3 := hx.2.2.1
  have hP : σ.1 0 = nI (dP x) := hi.1.2.2.2.2.2.2.1
  obtain ⟨g1, g2, g3, g4, -⟩ := hi.2.1 p hp
  rw [g1, g2] at h1
  unfold Thr f_RS_logged
  rw [rg0_1 hx, rg0_0 hx, hP, xb_ok (c_index_ok hp (by omega)), rl4 hx hp, rg5_2 hx hp, rg5_1 hx hp, rg5_2 hx hp, g1, g2, pk_sub g3, xb_thr (c_idx1 (by omega) (hiN (by omega)) hf hr (pos_sub g3 g4 h1))]
theorem c_logged1b {p j : Nat} {c : Int32} (hx : Wx x) (hi : Inv0 (dP x) (dN x) (dR x) T (dE x) t σ) (hf : Fr x h) (hr : rm6 h) (hp : p < dP x) (hj : t p < j ∧ j ≤ dE x p) (h1 : inb c.toInt64 0 6 = false) : Thr (f_RS_logged (en x 0 0 0) (nI p) (nI j) c) x y σ h 10 := by
  have hP3 := hx.2.2.1
  have hP : σ.1 0 = nI (dP x) := hi.1.2.2.2.2.2.2.1
  obtain ⟨g1, g2, g3, g4, -⟩ := hi.2.1 p hp
  have e1 : nI j - 1 - nI (t p) = nI (j - 1 - t p) := by
    rw [show (1 : Int32) = nI 1 from rfl, pk_sub (by omega), pk_sub (by omega)]
  have : f_RS_index c 7 (er x y σ h) = _ := c_idx1 (x := x) (y := y) (σ := σ) (n := 7) (hi := 6) (by omega) (by decide) hf hr h1
  unfold Thr f_RS_logged
  rw [rg0_1 hx, rg0_0 hx, hP, xb_ok (c_index_ok hp (by omega)), rl4 hx hp, rg5_2 hx hp, rg5_1 hx hp, rg5_2 hx hp, g1, g2, pk_sub g3, e1, xb_ok (c_index_ok (by omega) (by omega)), xb_thr this]
theorem c_logged0 {p j w : Nat} (hx : Wx x) (hi : Inv0 (dP x) (dN x) (dR x) T (dE x) t σ) (hjl : JL x y t) (hp : p < dP x) (hj : t p < j ∧ j ≤ dE x p) (hw : w < 7) : f_RS_logged (en x 0 0 0) (nI p) (nI j) (nI w) (er x y σ h) = some (.inl (loggedS σ (401 * p + j) w), er x y σ h) := by
  have hP3 := hx.2.2.1
  have hP : σ.1 0 = nI (dP x) := hi.1.2.2.2.2.2.2.1
  obtain ⟨g1, g2, g3, g4, -⟩ := hi.2.1 p hp
  have e1 : nI j - 1 - nI (t p) = nI (j - 1 - t p) := by
    rw [show (1 : Int32) = nI 1 from rfl, pk_sub (by omega), pk_sub (by omega)]
  have e2 : nI j - 1 = nI (j - 1) := by
    rw [show (1 : Int32) = nI 1 from rfl, pk_sub (by omega)]
  have : f_RS_index (nI w) 7 (er x y σ h) = _ := c_index_ok (n := 7) hw (by omega)
  have hrow : y.2.2 p (j - 1) = some (en x 22 p j) := by
    rw [hjl p hp (j - 1) (by omega), if_pos (by omega), show j - 1 + 1 = j by omega]
  have hj1 : 1 ≤ j ∧ j ≤ dE x p := by omega
  have la : f_Log_at (en x 5 p 0) (nI j) (er x y σ h) = some (.inl (en x 22 p j), er x y σ h) := by
    unfold f_Log_at
    rw [rg5_0 hx hp, e2, rl6 hx hp (by omega) hrow]
    rfl
  unfold f_RS_logged
  rw [rg0_1 hx, rg0_0 hx, hP, xb_ok (c_index_ok hp (by omega)), rl4 hx hp, rg5_2 hx hp, rg5_1 hx hp, rg5_2 hx hp, g1, g2, pk_sub g3, e1, xb_ok (c_index_ok (by omega) (by omega)), xb_ok this, rv5 hx hp, xb_ok la, rv22 hx hp hj1, xb_ok (c_ctold hx hp hj1 hw)]
  rfl
/-- a new command: itself, its vector, its vector's row -/
def cH (h : xH) (fs : List Value) (f : Nat → Int32) : xH := ((h.1.1 + 3, h.1.2.1 - 3, h.1.2.2 - 9), va_up (va_up (va_up h.2 h.1.1 (some (.inr (1, fs)))) (h.1.1 + 1) (some (.inr (8, [.ref (h.1.1 + 2)])))) (h.1.1 + 2) (some (.inl (0, 3, .inl f))))
theorem cH_a (h : xH) (fs : List Value) (f : Nat → Int32) : (cH h fs f).2 h.1.1 = some (.inr (1, fs)) := by simp [cH, va_up]
theorem cH_b (h : xH) (fs : List Value) (f : Nat → Int32) : (cH h fs f).2 (h.1.1 + 1) = some (.inr (8, [.ref (h.1.1 + 2)])) := by simp [cH, va_up]
theorem cH_c (h : xH) (fs : List Value) (f : Nat → Int32) : (cH h fs f).2 (h.1.1 + 2) = some (.inl (0, 3, .inl f)) := by simp [cH, va_up]
theorem cH_up (h : xH) (fs : List Value) (f g : Nat → Int32) : ((cH h fs f).1, va_up (cH h fs f).2 (h.1.1 + 2) (some (.inl (0, 3, .inl g)))) = cH h fs g := by
  refine Prod.ext rfl (funext fun q => ?_)
  simp only [cH, va_up]
  split <;> rfl
theorem Ext.cH (h : xH) (fs : List Value) (f : Nat → Int32) : Ext h (cH h fs f) 3 9 := by
  refine ⟨?_, fun q hq => ?_, ?_, ?_⟩
  · show h.1.1 ≤ h.1.1 + 3
    omega
  · have h1 : ¬ q = h.1.1 := by omega
    have h2 : ¬ q = h.1.1 + 1 := by omega
    have h3 : ¬ q = h.1.1 + 2 := by omega
    simp [_root_.Jvm.Pilot.CReadSideLaw_law_r1185_50799c.cH, va_up, h1, h2, h3]
  · show h.1.2.1 ≤ h.1.2.1 - 3 + 3
    omega
  · show h.1.2.2 ≤ h.1.2.2 - 9 + 9
    omega
theorem c_cinit {kd it cu am : Int32} (hf : Fr x h) (hr : 3 ≤ h.1.2.1 ∧ 9 ≤ h.1.2.2) : f_Cmd_init h.1.1 kd it cu am (er x y σ (nw h 5 (.inr (1, z_Cmd)))) = some (.inl (), er x y σ (cH h [.int kd, .int it, .int cu, .int am, .ref (h.1.1 + 1)] (fun _ => 0))) := by
  have hf1 : Fr x (nw h 5 (.inr (1, z_Cmd))) := hf.nw
  have vi := c_vinit (y := y) (σ := σ) hf1 (by
    show 2 ≤ h.1.2.1 - 1 ∧ 4 ≤ h.1.2.2 - 5
    omega)
  unfold f_Cmd_init
  rw [c_nE hf1 (by
    show 1 ≤ h.1.2.1 - 1 ∧ 1 ≤ h.1.2.2 - 5
    omega), xb_ok vi]
  have ha : (nw h 5 (.inr (1, z_Cmd))).1.1 = h.1.1 + 1 := rfl
  rw [ha]
  have ho := hf.off (Nat.le_refl h.1.1)
  have e0 : (vH (nw h 5 (.inr (1, z_Cmd))) fun _ => 0).2 h.1.1 = some (.inr (1, z_Cmd)) := by
    rw [vH_o _ _ (by show h.1.1 < h.1.1 + 1; omega)]
    show va_up h.2 h.1.1 _ h.1.1 = _
    simp [va_up]
  rw [b_pV ho e0 (by simp)]
  rw [b_pV (fs := List.set z_Cmd 4 (.ref (h.1.1 + 1))) ho (by simp [va_up]) (by simp)]
  rw [b_pV (fs := (List.set z_Cmd 4 (.ref (h.1.1 + 1))).set 0 (.int kd)) ho (by simp [va_up]) (by simp)]
  rw [b_pV (fs := ((List.set z_Cmd 4 (.ref (h.1.1 + 1))).set 0 (.int kd)).set 1 (.int it)) ho (by simp [va_up]) (by simp)]
  rw [b_pV (fs := (((List.set z_Cmd 4 (.ref (h.1.1 + 1))).set 0 (.int kd)).set 1 (.int it)).set 2 (.int cu)) ho (by simp [va_up]) (by simp)]
  show some (Sum.inl (), er x y σ _) = _
  congr 3
  refine Prod.ext ?_ (funext fun q => ?_)
  · show (h.1.1 + 1 + 1 + 1, h.1.2.1 - 1 - 1 - 1, h.1.2.2 - 5 - 1 - 3) = (h.1.1 + 3, h.1.2.1 - 3, h.1.2.2 - 9)
    refine Prod.ext rfl (Prod.ext ?_ ?_)
    · show h.1.2.1 - 1 - 1 - 1 = h.1.2.1 - 3
      omega
    · show h.1.2.2 - 5 - 1 - 3 = h.1.2.2 - 9
      omega
  · simp only [cH, vH, nw, va_up]
    by_cases h1 : q = h.1.1
    · subst h1
      simp
    · by_cases h2 : q = h.1.1 + 1
      · subst h2
        simp
      · by_cases h3 : q = h.1.1 + 2
        · subst h3
          simp
        · have h3' : ¬ q = h.1.1 + 1 + 1 := h3
          simp [h1, h2, h3, h3']
end XCO
