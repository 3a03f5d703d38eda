/-! the component: a command is put -/
section XCP
variable {β : Type} {x x' : xX} {y y' : xY} {σ σ' : xS} {h : xH} {T : Nat} {t : Nat → Nat}
theorem rsA6 {p c v : Nat} {fs : List Value} {kk : xM β} (hx : Wx x) (hp : p < dP x) (hc : c < 400) (hv : (er x y σ h).2 v = some (.inr (1, fs))) : sA 4 (en x 6 p 0) (nI c) v kk (er x y σ h) = kk (er x (yr y p (va_up (y.2.2 p) c (some v))) σ h) := by
  have hP3 := hx.2.2.1
  have e1 : cd x (yr y p (va_up (y.2.2 p) c (some v))) σ 6 p 0 = aA 4 400 (va_up (y.2.2 p) c (some v)) := by simp [cd, yr, va_up]
  rw [← er_up (σ := σ) (h := h) hx (vv6 hp) e1 (fun t' i' j' hv hn => cyr6 (by omega) t' i' j' (fun q => hn ⟨q.1, q.2, by
    have := hv
    rw [q.1] at this
    simp only [vd, decide_eq_true_iff] at this
    exact this.2⟩))]
  simp only [sA, er_at hx (vv6 hp), cd, aA]
  rw [if_pos ⟨by simp, nI_in hc (by omega)⟩, nI_clamp (by omega), hv]
  simp [x_tc]
def rsF (f g : Nat → Int32) (n : Nat) : Nat → Int32 := fun q => if q < n then mx (f q) (g q) else f q
theorem rsF_s (f g : Nat → Int32) (n : Nat) : va_up (rsF f g n) n (mx (f n) (g n)) = rsF f g (n + 1) := by
  funext q
  unfold va_up rsF
  by_cases hq : q = n
  · subst hq
    simp
  · rw [if_neg hq]
    by_cases h2 : q < n
    · rw [if_pos h2, if_pos (by omega)]
    · rw [if_neg h2, if_neg (by omega)]
theorem k_gA {fs : List Value} {f : Nat → Int32} {kk : Nat → xM β} (hf : Fr x h) : gA (h.1.1 + 1) 8 0 kk (er x y σ (cH h fs f)) = kk (h.1.1 + 2) (er x y σ (cH h fs f)) := b_gA (hf.off (by omega)) (cH_b h fs f) rfl
theorem k_xv {fs : List Value} {f : Nat → Int32} {K : xM β} (hf : Fr x h) : xv (h.1.1 + 1) 8 K (er x y σ (cH h fs f)) = K (er x y σ (cH h fs f)) := b_xv (hf.off (by omega)) (cH_b h fs f)
theorem k_lI {fs : List Value} {f : Nat → Int32} {c : Nat} {kk : Int32 → xM β} (hf : Fr x h) (hc : c < 3) : lI (h.1.1 + 2) (nI c) kk (er x y σ (cH h fs f)) = kk (f c) (er x y σ (cH h fs f)) := b_lI (hf.off (by omega)) (cH_c h fs f) hc (by omega)
theorem k_sI {fs : List Value} {f : Nat → Int32} {c : Nat} {v : Int32} {kk : xM β} (hf : Fr x h) (hc : c < 3) : sI (h.1.1 + 2) (nI c) v kk (er x y σ (cH h fs f)) = kk (er x y σ (cH h fs (va_up f c v))) := by
  rw [b_sI (hf.off (by omega)) (cH_c h fs f) hc (by omega), cH_up]
theorem c_rise_n {fs : List Value} {f g : Nat → Int32} {B : Nat} (hf : Fr x h) (hB : ∀ c, c < 3 → ∀ (f' : Nat → Int32) (kk : Int32 → xM Unit), gA B 8 0 (fun v => lI v (nI c) kk) (er x y σ (cH h fs f')) = kk (g c) (er x y σ (cH h fs f'))) : f_Vec_rise (h.1.1 + 1) B (er x y σ (cH h fs f)) = some (.inl (), er x y σ (cH h fs (rsF f g 3))) := by
  have key : ∀ d p n, p + d = 3 → d < n → f_Vec_rise_h2 n (h.1.1 + 1) B (nI p) (er x y σ (cH h fs (rsF f g p))) = some (.inl (), er x y σ (cH h fs (rsF f g 3))) := by
    intro d
    induction d with
    | zero =>
      intro p n hp hn
      obtain ⟨n, rfl, -⟩ := pos_of hn
      obtain rfl : p = 3 := by omega
      have c1 : (3 : Int32) ≤ nI 3 := by decide
      simp only [f_Vec_rise_h2, f_Vec_rise_b2, c1, ↓reduceIte, xr]
    | succ d ih =>
      intro p n hp hn
      obtain ⟨n, rfl, hn⟩ := pos_of hn
      have c1 : ¬ (3 : Int32) ≤ nI p := nI_ge (b := 3) (by omega) (by omega)
      have i1 := ih (p + 1) n (by omega) (by omega)
      have hb := hB p (by omega) (rsF f g p)
      have e1 : rsF f g p p = f p := by
        unfold rsF
        rw [if_neg (by omega)]
      simp (disch := first | assumption | omega) only [f_Vec_rise_h2, f_Vec_rise_b2, c1, ↓k_gA, ↓k_lI, ↓k_sI, hb, c_max, e1, rsF_s, ↓xb, np1, ↓reduceIte]
      exact i1
  have k0 := key 3 0 1000 (by omega) (by omega)
  have e0 : rsF f g 0 = f := by
    funext q
    simp [rsF]
  rw [e0] at k0
  exact k0
theorem c_vcopy_n {fs : List Value} {g : Nat → Int32} (hf : Fr x h) : f_Vec_copy (h.1.1 + 3) (h.1.1 + 1) (er x y σ (vH (cH h fs g) (fun _ => 0))) = some (.inl (), er x y σ (vH (cH h fs g) (cl 3 g))) := by
  have hf2 : Fr x (cH h fs g) := hf.ext (Ext.cH h fs g)
  have ha : (cH h fs g).1.1 = h.1.1 + 3 := rfl
  have key : ∀ d p n, p + d = 3 → d < n → f_Vec_copy_h2 n (h.1.1 + 3) (h.1.1 + 1) (nI p) (er x y σ (vH (cH h fs g) (cl p g))) = some (.inl (), er x y σ (vH (cH h fs g) (cl 3 g))) := by
    intro d
    induction d with
    | zero =>
      intro p n hp hn
      obtain ⟨n, rfl, -⟩ := pos_of hn
      obtain rfl : p = 3 := by omega
      have c1 : (3 : Int32) ≤ nI 3 := by decide
      simp only [f_Vec_copy_h2, f_Vec_copy_b2, c1, ↓reduceIte, xr]
    | succ d ih =>
      intro p n hp hn
      obtain ⟨n, rfl, hn⟩ := pos_of hn
      have c1 : ¬ (3 : Int32) ≤ nI p := nI_ge (b := 3) (by omega) (by omega)
      have i1 := ih (p + 1) n (by omega) (by omega)
      have q1 : ∀ (kk : Nat → xM Unit), gA (h.1.1 + 3) 8 0 kk (er x y σ (vH (cH h fs g) (cl p g))) = kk (h.1.1 + 3 + 1) (er x y σ (vH (cH h fs g) (cl p g))) := fun kk => v_gA hf2
      have q2 : ∀ (kk : Nat → xM Unit), gA (h.1.1 + 1) 8 0 kk (er x y σ (vH (cH h fs g) (cl p g))) = kk (h.1.1 + 2) (er x y σ (vH (cH h fs g) (cl p g))) := fun kk => b_gA (hf.off (by omega)) (by rw [vH_o _ _ (by rw [ha]; omega), cH_b]) rfl
      have q3 : ∀ (kk : Int32 → xM Unit), lI (h.1.1 + 2) (nI p) kk (er x y σ (vH (cH h fs g) (cl p g))) = kk (g p) (er x y σ (vH (cH h fs g) (cl p g))) := fun kk => b_lI (hf.off (by omega)) (by rw [vH_o _ _ (by rw [ha]; omega), cH_c]) (by omega) (by omega)
      have q4 : ∀ v (kk : xM Unit), sI (h.1.1 + 3 + 1) (nI p) v kk (er x y σ (vH (cH h fs g) (cl p g))) = kk (er x y σ (vH (cH h fs g) (va_up (cl p g) p v))) := fun v kk => v_sI hf2 (by omega)
      have e1 : va_up (cl p g) p (g p) = cl (p + 1) g := by
        funext q
        unfold va_up cl
        by_cases hq : q = p
        · subst hq
          simp
        · rw [if_neg hq]
          by_cases h2 : q < p
          · rw [if_pos h2, if_pos (by omega)]
          · rw [if_neg h2, if_neg (by omega)]
      simp only [f_Vec_copy_h2, f_Vec_copy_b2, c1, ↓q1, ↓q2, ↓q3, ↓q4, e1, np1, ↓reduceIte]
      exact i1
  have k0 := key 3 0 1000 (by omega) (by omega)
  have e0 : cl 0 g = fun _ => 0 := by
    funext q
    simp [cl]
  rw [e0] at k0
  exact k0
theorem c_token_v {f : Nat → Int32} (hf : Fr x h) : f_Vec_token h.1.1 (er x y σ (vH h f)) = some (.inl (tokS (f 0) (f 1) (f 2)), er x y σ (vH h f)) := by
  rw [tok_eq]
  simp (disch := first | assumption | omega) only [↓v_gA, ↓v_lI, shl20, c_check, ↓xb, xr]
  rfl
end XCP
