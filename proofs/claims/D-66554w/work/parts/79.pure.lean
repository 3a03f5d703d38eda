/-! the component: ask -/
section XDC
variable {β : Type} {x x' : xX} {y y' : xY} {σ σ' : xS} {h : xH} {T : Nat} {t : Nat → Nat}
theorem pos0 {q : Nat} (hq : q < 3) : posS 0 q = 0 := by
  have : q = 0 ∨ q = 1 ∨ q = 2 := by omega
  rcases this with rfl | rfl | rfl <;> decide
theorem pr0 : pr 0 3 = fun _ => 0 := by
  funext q
  unfold pr cl
  split
  · exact pos0 (by assumption)
  · rfl
theorem tkl0 {P : Nat} {e : Nat → Nat} (hl : i_log P e t σ) (n : Nat) (hn : n ≤ 3) : tkl P σ 0 n = true := by
  induction n with
  | zero => rfl
  | succ n ih =>
    show (tkl P σ 0 n && decide (posS 0 n ≤ (if n < P then σ.2.1 4 n else 0))) = true
    rw [ih (by omega), pos0 (by omega), Bool.true_and, decide_eq_true_iff]
    split
    · rename_i hP
      have h1 := hl n hP
      rw [h1.1]
      have := nI_le (a := 0) (b := e n) (by omega) (by omega)
      rwa [nI_0] at this
    · exact le00
theorem isTok0 {P : Nat} {e : Nat → Nat} (hl : i_log P e t σ) : isTok P σ 0 = true := by
  unfold isTok
  rw [tkl0 hl 3 (by omega), decide_eq_true (show (0 : Int64) ≤ 0 by decide), decide_eq_true (show sh20 0 < 134217728 by decide), decide_eq_true (show (0 : Int64) &&& 1048575 = chkS (sh20 0) by decide)]
  rfl
theorem er_sc (h2 : σ'.2 = σ.2) (h0 : σ'.1 0 = σ.1 0) (h26 : σ'.1 26 = σ.1 26) (h3 : σ'.1 3 = σ.1 3) : er x y σ' h = er x y σ h := by
  have : ∀ t i j, cd x y σ' t i j = cd x y σ t i j := by
    intro t i j
    by_cases ht : t = 0
    · subst ht
      simp only [cd, h0, h26, h3]
    · exact cd_sc h2 t i j ht
  unfold er
  simp only [this]
theorem er_2 (v : Int32) : er x y (uS σ 2 v) h = er x y σ h := er_sc rfl (uS_o (by decide)) (uS_o (by decide)) (uS_o (by decide))
theorem nw_up (h : xH) (n : Nat) (e e' : xE) : ((nw h n e).1, va_up (nw h n e).2 h.1.1 (some e')) = nw h n e' := by
  refine Prod.ext rfl (funext fun q => ?_)
  show va_up (va_up h.2 h.1.1 _) h.1.1 _ q = va_up h.2 h.1.1 _ q
  unfold va_up
  split <;> rfl
theorem nw_at (h : xH) (n : Nat) (e : xE) : (nw h n e).2 h.1.1 = some e := by simp [nw, va_up]
theorem nw_lo (h : xH) (n : Nat) (e : xE) {q : Nat} (hq : q < h.1.1) : (nw h n e).2 q = h.2 q := by
  have : ¬ q = h.1.1 := by omega
  simp [nw, va_up, this]
theorem n_pV {n ci f : Nat} {fs : List Value} {v : Value} {kk : xM β} (hf : Fr x h) (hl : f < fs.length) : pV h.1.1 ci f v kk (er x y σ (nw h n (.inr (ci, fs)))) = kk (er x y σ (nw h n (.inr (ci, fs.set f v)))) := by
  rw [b_pV (hf.off (Nat.le_refl _)) (nw_at h n _) hl, nw_up]
theorem c_rinit {v1 v2 v4 v7 v8 : Int32} {v5 : Int64} {b : Nat} (hf : Fr x h) : f_Read_init h.1.1 v1 v2 b v4 v5 v7 v8 (er x y σ (nw h 12 (.inr (4, z_Read)))) = some (.inl (), er x y σ (nw h 12 (.inr (4, [.int v1, .int v2, .ref b, .int v4, .long v5, .int v7, .int v8, .int 0, .int (-1), .long 0, .long 0, .long (-1)])))) := by
  unfold f_Read_init
  rw [n_pV hf, n_pV hf, n_pV hf, n_pV hf, n_pV hf, n_pV hf, n_pV hf, n_pV hf, n_pV hf, n_pV hf]
  · rfl
  all_goals simp
theorem rsA2 {c v : Nat} {fs : List Value} {kk : xM β} (hx : Wx x) (hc : c < 500) (hv : (er x y σ h).2 v = some (.inr (4, fs))) : sA 8 (en x 2 0 0) (nI c) v kk (er x y σ h) = kk (er x (yr y 3 (va_up (y.2.2 3) c (some v))) σ h) := by
  have hP3 := hx.2.2.1
  have e1 : cd x (yr y 3 (va_up (y.2.2 3) c (some v))) σ 2 0 0 = aA 8 500 (va_up (y.2.2 3) c (some v)) := by simp [cd, yr, va_up]
  rw [← er_up (σ := σ) (h := h) hx vv2 e1 (fun t' i' j' hv hn => by
    by_cases h6 : t' = 6
    · subst h6
      have hb : i' < dP x ∧ j' = 0 := of_decide_eq_true hv
      have : ¬ i' = 3 := by omega
      show aA 4 400 (va_up y.2.2 3 _ i') = aA 4 400 (y.2.2 i')
      simp [va_up, this]
    · by_cases h2 : t' = 2
      · subst h2
        have hb : i' = 0 ∧ j' = 0 := of_decide_eq_true hv
        exact absurd ⟨rfl, hb.1, hb.2⟩ hn
      · exact cyr _ _ _ ⟨h2, h6⟩)]
  simp only [sA, er_at hx vv2, cd, aA]
  rw [if_pos ⟨by simp, nI_in hc (by omega)⟩, nI_clamp (by omega), hv]
  simp [x_tc]
theorem nI_nm {a : Nat} (h : a < 2 ^ 31) : ¬ nI a = -1 := fun q => nI_pos h (by rw [q]; decide)
def slt (N hm r : Nat) : Int32 := if r < N then nI ((hm + r) % N) else -1
theorem c_askl {s hm R : Nat} {pt : Int32} (hx : Wx x) (hP : σ.1 0 = nI (dP x)) (hP1 : 1 ≤ dP x) (h3 : i_at (dP x) (dN x) (dE x) t σ) (h5 : i_ses (dP x) (dN x) (dE x) σ) (h6 : i_rd (dP x) (dR x) T σ) (hN1 : 1 ≤ dN x) (hR : R < dR x) (hs : s < 8) (hhm : hm < dN x) (eh : σ.2.1 23 s = nI hm) :
    f_RS_ask_h133 1000 (en x 0 0 0) pt (en x 17 s 0) (en x 25 R 0) (-1) 0 (er x y σ h) = f_RS_ask_b195 (en x 0 0 0) pt (en x 25 R 0) (slt (dN x) hm (fndS (dP x) (dN x) σ hm R)) (er x y σ h) := by
  have hN4 := hx.2.2.2.1
  have key : ∀ d r n, r + d = dN x → d + 1 < n → f_RS_ask_h133 n (en x 0 0 0) pt (en x 17 s 0) (en x 25 R 0) (-1) (nI r) (er x y σ h) = f_RS_ask_b195 (en x 0 0 0) pt (en x 25 R 0) (slt (dN x) hm (fst (fun r => mayb (dP x) σ ((hm + r) % dN x) R) d r)) (er x y σ h) := by
    intro d
    induction d with
    | zero =>
      intro r n hr hn
      obtain ⟨n, rfl, -⟩ := pos_of hn
      have hr' : ¬ r < dN x := by omega
      have c1 : nI (dN x) ≤ nI r := nI_le (by omega) (by omega)
      have es : slt (dN x) hm (fst (fun r => mayb (dP x) σ ((hm + r) % dN x) R) 0 r) = -1 := if_neg hr'
      rw [es]
      show f_RS_ask_b133 (f_RS_ask_h133 n) _ _ _ _ _ _ _ = _
      unfold f_RS_ask_b133
      rw [rg0_2 hx, ra7 hx, if_pos c1]
    | succ d ih =>
      intro r n hr hn
      obtain ⟨n, rfl, hn⟩ := pos_of hn
      have c1 : ¬ nI (dN x) ≤ nI r := nI_ge (by omega) (by omega)
      have hmod : (hm + r) % dN x < dN x := Nat.mod_lt _ (by omega)
      have my := c_may_w (h := h) (y := y) hx hP hP1 h3 h5 h6 hmod hR
      have i1 := ih (r + 1) n (by omega) (by omega)
      show f_RS_ask_b133 (f_RS_ask_h133 n) _ _ _ _ _ _ _ = _
      unfold f_RS_ask_b133
      rw [rg0_2 hx, ra7 hx, if_neg c1, if_pos rfl, rg17_1 hx hs, eh, rg0_2 hx, ra7 hx, nI_add, rI_ok (by omega) (by omega) (by omega), rg0_2 hx, rl7 hx hmod, rv0 hx, xb_ok my]
      by_cases c2 : mayb (dP x) σ ((hm + r) % dN x) R = true
      · have ef : fst (fun r => mayb (dP x) σ ((hm + r) % dN x) R) (d + 1) r = r := if_pos c2
        have hr' : r < dN x := by omega
        have es : slt (dN x) hm r = nI ((hm + r) % dN x) := if_pos hr'
        rw [ef, es, c2, bI_t, if_neg ne10]
        obtain ⟨n, rfl, -⟩ := pos_of (show 0 < n by omega)
        have cm : ¬ nI ((hm + r) % dN x) = -1 := nI_nm (by omega)
        show f_RS_ask_b133 (f_RS_ask_h133 n) _ _ _ _ _ (nI r + 1) _ = _
        unfold f_RS_ask_b133
        rw [rg0_2 hx, ra7 hx]
        by_cases c3 : nI (dN x) ≤ nI r + 1
        · rw [if_pos c3]
        · rw [if_neg c3, if_neg cm]
      · have ef : fst (fun r => mayb (dP x) σ ((hm + r) % dN x) R) (d + 1) r = fst (fun r => mayb (dP x) σ ((hm + r) % dN x) R) d (r + 1) := if_neg c2
        rw [Bool.not_eq_true] at c2
        rw [ef, c2, bI_f, if_pos rfl]
        show f_RS_ask_h133 n _ _ _ _ _ (nI r + 1) _ = _
        rw [np1]
        exact i1
  have k0 := key (dN x) 0 1000 (by omega) (by omega)
  rw [nI_0] at k0
  exact k0
end XDC
section XDD
variable {β : Type} {x x' : xX} {y y' : xY} {τ : xS} {h : xH} {T : Nat} {t : Nat → Nat} {R : Nat} {pt : Int32}
def yR (y : xY) (R a : Nat) : xY := yr y 3 (va_up (y.2.2 3) R (some a))
theorem c_ask220 {l : Int32} (hx : Wx x) (hR : R < dR x) (h26 : τ.1 26 = nI R) : f_RS_ask_b220 (en x 0 0 0) pt (en x 25 R 0) l 1 (er x y (uI τ 27 R 0) h) = (if l = (-1) then
    if pt = 0 then
      xv (en x 0 0 0) 0 <| xb (f_RS_fail (en x 0 0 0) (en x 25 R 0)) fun v7 =>
      f_RS_ask_b293 (en x 25 R 0)
    else
      gA (en x 0 0 0) 0 6 fun v4 =>
      gI (en x 0 0 0) 0 7 fun v5 =>
      pV (en x 0 0 0) 0 7 (.int (v5 + 1)) <|
      gI (en x 25 R 0) 4 0 fun v6 =>
      sI v4 v5 v6 <|
      f_RS_ask_b293 (en x 25 R 0)
  else
    xv (en x 0 0 0) 0 <| xb (f_RS_answer (en x 0 0 0) (en x 25 R 0) l) fun v8 =>
    f_RS_ask_b293 (en x 25 R 0)) (er x (yR y R (en x 25 R 0)) (ask2 τ R) h) := by
  have hR5 := hx.2.2.2.2
  have e26 : (uI τ 27 R 0).1 26 = nI R := h26
  have e2 : ∀ Y, er x Y (uS (uI τ 27 R 0) 26 (nI (R + 1))) h = er x Y (ask2 τ R) h := fun Y => er_sc rfl (by simp [ask2, uS, uI, va_up]) (by simp [ask2, uS, uI, va_up]) (by simp [ask2, uS, uI, va_up])
  unfold f_RS_ask_b220
  rw [xb_ok c_need_ok, rg0_4 hx, rg0_5 hx, e26, np1, rp0_5 hx, rsA2 hx (by omega) (er_at hx (vv25 hR)), e2]
  rfl
theorem c_ask293 {Y : xY} {σ : xS} (hx : Wx x) (hR : R < dR x) : f_RS_ask_b293 (en x 25 R 0) (er x Y σ h) = some (.inl (nI R), er x Y σ h) := by
  unfold f_RS_ask_b293
  rw [rg25_0 hx hR]
  rfl
theorem c_askA {r : Nat} (hx : Wx x) (hP : τ.1 0 = nI (dP x)) (hP1 : 1 ≤ dP x) (h3 : i_at (dP x) (dN x) (dE x) t (ask2 τ R)) (h5 : i_ses (dP x) (dN x) (dE x) (ask2 τ R)) (h6 : i_rd (dP x) (dR x) T (ask2 τ R)) (hR : R < dR x) (h26 : τ.1 26 = nI R) (hr : r < dN x) : f_RS_ask_b195 (en x 0 0 0) pt (en x 25 R 0) (nI r) (er x y (uI τ 27 R 0) h) = some (.inl (nI R), er x (yn (yR y R (en x 25 R 0)) 1 (y.2.1 1 + 1)) (ansS (dP x) (ask2 τ R) r R) h) := by
  have hN4 := hx.2.2.2.1
  have cm : ¬ nI r = -1 := nI_nm (by omega)
  have hP' : (ask2 τ R).1 0 = nI (dP x) := hP
  unfold f_RS_ask_b195 f_RS_ask_b215
  rw [if_neg cm, c_ask220 hx hR h26, if_neg cm, rv0 hx, xb_ok (c_answer_w hx hP' hP1 h3 h5 h6 hr hR), c_ask293 hx hR]
  rfl
theorem c_askB (hx : Wx x) (hR : R < dR x) (h26 : τ.1 26 = nI R) (hp : pt = 0) : f_RS_ask_b195 (en x 0 0 0) pt (en x 25 R 0) (-1) (er x y (uI τ 27 R 0) h) = some (.inl (nI R), er x (yn (yR y R (en x 25 R 0)) 2 (y.2.1 2 + 1)) (uI (uI (ask2 τ R) 27 R 2) 38 R (τ.1 3)) h) := by
  unfold f_RS_ask_b195 f_RS_ask_b215
  rw [if_pos rfl, if_pos hp, c_ask220 hx hR h26, if_pos rfl, if_pos hp, rv0 hx, xb_ok (c_fail hx hR), c_ask293 hx hR]
  rfl
theorem c_askC (hx : Wx x) (hp : ¬ pt = 0) (h40 : y.2.1 0 = 40) {σ : xS} : f_RS_ask_b195 (en x 0 0 0) pt (en x 25 R 0) (-1) (er x y σ h) = (xth 12 : xM Int32) (er x y σ h) := by
  unfold f_RS_ask_b195
  rw [if_pos rfl, if_neg hp, rg0_7 hx, h40, if_pos (by decide)]
  unfold f_RS_ask_b220
  show xb (xth 12) _ _ = _
  rw [xb_xth]
theorem c_askD {c : Nat} (hx : Wx x) (hR : R < dR x) (h26 : τ.1 26 = nI R) (hp : ¬ pt = 0) (h40 : y.2.1 0 = nI c) (hc : c < 40) : f_RS_ask_b195 (en x 0 0 0) pt (en x 25 R 0) (-1) (er x y (uI τ 27 R 0) h) = some (.inl (nI R), er x (yw (yn (yR y R (en x 25 R 0)) 0 (nI (c + 1))) (va_up y.1 c (nI R))) (ask2 τ R) h) := by
  have c4 : ¬ (40 : Int32) ≤ nI c := nI_ge (b := 40) (by omega) (by omega)
  have h40' : (yR y R (en x 25 R 0)).2.1 0 = nI c := h40
  unfold f_RS_ask_b195 f_RS_ask_b215
  rw [if_pos rfl, if_neg hp, rg0_7 hx, h40, if_neg c4, c_ask220 hx hR h26, if_pos rfl, if_neg hp, rg0_6 hx, rg0_7 hx, h40', np1, rp0_7 hx, rg25_0 hx hR, rs3 hx hc, c_ask293 hx hR]
  rfl
end XDD
section XDE
variable {β : Type} {x x' : xX} {y y' : xY} {σ : xS} {h : xH} {T : Nat} {t : Nat → Nat} {R : Nat} {bd pt kd ab : Int32} {tok : Int64}
theorem c_ask36 {l0 l8 a : Nat} {l1 : Int32} {H : xH} : f_RS_ask_b36 l0 l1 bd pt kd ab l8 (some a) H = f_RS_ask_b76 l0 l1 bd pt kd ab l8 (some a) (bI (inb bd.toInt64 (-1) 400 && inb pt.toInt64 0 1000)) H := by
  unfold f_RS_ask_b36
  show (xb (f_RS_isIn bd.toInt64 (-1) 400) _) H = _
  rw [xb_ok (c_in _ _ _)]
  cases inb bd.toInt64 (-1) 400
  · rw [bI_f, if_pos rfl]
    rfl
  · rw [bI_t, if_neg ne10, xb_ok (c_in _ _ _)]
    cases inb pt.toInt64 0 1000
    · rw [bI_f, if_pos rfl]
      rfl
    · rw [bI_t, if_neg ne10]
      rfl
theorem c_ask1 {a : Int32} (hx : Wx x) (hP : σ.1 0 = nI (dP x)) (hP1 : 1 ≤ dP x) (hf : Fr x h) (hr : rm6 h) (h1 : (inb a.toInt64 0 7 && isQ (dP x) kd ab) = false) : Thr (f_RS_ask (en x 0 0 0) a tok bd pt kd ab) x y σ h 10 := by
  unfold Thr f_RS_ask
  rw [rv0 hx]
  cases h2 : inb a.toInt64 0 7
  · rw [xb_thr (c_sessionAt1 hx hf hr h2)]
  · rw [h2, Bool.true_and] at h1
    obtain ⟨s, hs, rfl⟩ := inb_of (n := 8) (by omega) (by decide) h2
    rw [xb_ok (c_sessionAt hx hs), rv0 hx, xb_thr (c_question1 hx hP hP1 hf hr h1)]
theorem c_askP {s : Nat} (hx : Wx x) (hP : σ.1 0 = nI (dP x)) (hf : Fr x h) (hr : 10 ≤ h.1.2.1 ∧ 50 ≤ h.1.2.2) (hs : s < 8) (hq : qok (dP x) kd ab) (h3 : isTok (dP x) σ tok = true) : f_RS_ask (en x 0 0 0) (nI s) tok bd pt kd ab (er x y σ h) = f_RS_ask_b76 (en x 0 0 0) (nI s) bd pt kd ab (en x 17 s 0) (some h.1.1) (bI (inb bd.toInt64 (-1) 400 && inb pt.toInt64 0 1000)) (er x y σ (vH h (pr tok 3))) := by
  rw [← c_ask36]
  unfold f_RS_ask
  rw [rv0 hx, xb_ok (c_sessionAt hx hs), rv0 hx, xb_ok (c_question0 hx hP hq)]
  by_cases c : tok = 0
  · subst c
    rw [if_pos ((lg_cmp_eq _ _).mpr rfl), c_nE hf (by omega), xb_ok (c_vinit hf (by omega)), pr0]
  · rw [if_neg (fun q => c ((lg_cmp_eq _ _).mp q)), rv0 hx, xb_ok ((c_vectorOf (tk := tok) hx hP hf (by omega)).1 h3)]
theorem c_askN {s : Nat} {e : Nat → Nat} (hx : Wx x) (hP : σ.1 0 = nI (dP x)) (hl : i_log (dP x) e t σ) (hf : Fr x h) (hr : 10 ≤ h.1.2.1 ∧ 50 ≤ h.1.2.2) (hs : s < 8) (hq : qok (dP x) kd ab) (h3 : isTok (dP x) σ tok = false) : ∃ h2, f_RS_ask (en x 0 0 0) (nI s) tok bd pt kd ab (er x y σ h) = f_RS_ask_b76 (en x 0 0 0) (nI s) bd pt kd ab (en x 17 s 0) none 0 (er x y σ h2) ∧ Ext h h2 2 4 := by
  obtain ⟨h2, g1, g2⟩ := (c_vectorOf (h := h) (y := y) (tk := tok) hx hP hf (by omega)).2 h3
  refine ⟨h2, ?_, g2⟩
  unfold f_RS_ask
  rw [rv0 hx, xb_ok (c_sessionAt hx hs), rv0 hx, xb_ok (c_question0 hx hP hq)]
  have c : ¬ tok = 0 := fun q => by
    rw [q, isTok0 hl] at h3
    cases h3
  rw [if_neg (fun q => c ((lg_cmp_eq _ _).mp q)), rv0 hx, xb_ok g1]
  rfl
theorem c_ask76 {l0 l8 : Nat} {l1 : Int32} {l9 : Option Nat} {H : xH} : f_RS_ask_b76 l0 l1 bd pt kd ab l8 l9 0 H = (xth 11 : xM Int32) H := by
  unfold f_RS_ask_b76
  show xb (xth 11) _ _ = _
  rw [xb_xth]
theorem c_ask2 {s : Nat} {e : Nat → Nat} (hx : Wx x) (hP : σ.1 0 = nI (dP x)) (hl : i_log (dP x) e t σ) (hf : Fr x h) (hr : 10 ≤ h.1.2.1 ∧ 50 ≤ h.1.2.2) (hs : s < 8) (hq : qok (dP x) kd ab) (h3 : (isTok (dP x) σ tok && (inb bd.toInt64 (-1) 400 && inb pt.toInt64 0 1000)) = false) : ThrE (f_RS_ask (en x 0 0 0) (nI s) tok bd pt kd ab) x y σ h 11 := by
  cases c : isTok (dP x) σ tok
  · obtain ⟨h2, g1, g2⟩ := c_askN (h := h) (y := y) (tok := tok) (bd := bd) (pt := pt) hx hP hl hf hr hs hq c
    refine thrE_ext (h2 := h2) hf g2 (by omega) (by omega) (g1.trans c_ask76) ?_
    unfold rm6
    have := g2.2.2.1
    have := g2.2.2.2
    omega
  · rw [c, Bool.true_and] at h3
    have g1 := c_askP (h := h) (y := y) (tok := tok) (bd := bd) (pt := pt) hx hP hf hr hs hq c
    rw [h3, bI_f, c_ask76] at g1
    refine thrE_ext hf (Ext.vH h (pr tok 3)) (by omega) (by omega) g1 ?_
    show 1 ≤ h.1.2.1 - 1 - 1 ∧ 6 ≤ h.1.2.2 - 1 - 3
    omega
theorem c_ask3 {s : Nat} (hx : Wx x) (hP : σ.1 0 = nI (dP x)) (hf : Fr x h) (hr : 10 ≤ h.1.2.1 ∧ 50 ≤ h.1.2.2) (hs : s < 8) (hq : qok (dP x) kd ab) (h3 : isTok (dP x) σ tok = true) (h4 : inb bd.toInt64 (-1) 400 = true) (h5 : inb pt.toInt64 0 1000 = true) (h6 : σ.1 26 = 500) : ThrE (f_RS_ask (en x 0 0 0) (nI s) tok bd pt kd ab) x y σ h 12 := by
  have g1 := c_askP (h := h) (y := y) (tok := tok) (bd := bd) (pt := pt) hx hP hf hr hs hq h3
  rw [h4, h5, Bool.true_and, bI_t] at g1
  refine thrE_ext hf (Ext.vH h (pr tok 3)) (by omega) (by omega) (g1.trans ?_) ?_
  · unfold f_RS_ask_b76
    rw [xb_ok c_want_ok, rg0_5 hx, h6, if_pos (by decide)]
    unfold f_RS_ask_b94
    show xb (xth 12) _ _ = _
    rw [xb_xth]
  · show 1 ≤ h.1.2.1 - 1 - 1 ∧ 6 ≤ h.1.2.2 - 1 - 3
    omega
/-- the heap behind a new read -/
def rH (h : xH) (R s : Nat) (T : Int32) (tok : Int64) (bd pt kd ab : Int32) : xH := nw (vH h (pr tok 3)) 12 (.inr (4, [.int (nI R), .int (nI s), .ref h.1.1, .int bd, .long (T.toInt64 + pt.toInt64), .int kd, .int ab, .int 0, .int (-1), .long 0, .long 0, .long (-1)]))
theorem Ext.rH (h : xH) (R s : Nat) (T : Int32) : Ext h (rH h R s T tok bd pt kd ab) 3 16 := (Ext.vH h _).trans (Ext.nw _ 12 _)
theorem c_askQ {s : Nat} (hx : Wx x) (hP : σ.1 0 = nI (dP x)) (h26 : σ.1 26 = nI (dR x)) (hR : dR x < 500) (hf : Fr x h) (hr : 10 ≤ h.1.2.1 ∧ 50 ≤ h.1.2.2) (hs : s < 8) (hq : qok (dP x) kd ab) (h3 : isTok (dP x) σ tok = true) (h4 : inb bd.toInt64 (-1) 400 = true) (h5 : inb pt.toInt64 0 1000 = true) : f_RS_ask (en x 0 0 0) (nI s) tok bd pt kd ab (er x y σ h) = f_RS_ask_h133 1000 (en x 0 0 0) pt (en x 17 s 0) (h.1.1 + 2) (-1) 0 (er x y σ (rH h (dR x) s (σ.1 3) tok bd pt kd ab)) := by
  have g1 := c_askP (h := h) (y := y) (tok := tok) (bd := bd) (pt := pt) hx hP hf hr hs hq h3
  rw [h4, h5, Bool.true_and, bI_t] at g1
  rw [g1]
  have c5 : ¬ (500 : Int32) ≤ nI (dR x) := nI_ge (b := 500) (by omega) (by omega)
  have hf2 : Fr x (vH h (pr tok 3)) := hf.vH
  unfold f_RS_ask_b76
  rw [xb_ok c_want_ok, rg0_5 hx, h26, if_neg c5]
  unfold f_RS_ask_b94
  rw [xb_ok c_need_ok, c_nE hf2 (by
    show 1 ≤ h.1.2.1 - 1 - 1 ∧ 12 ≤ h.1.2.2 - 1 - 3
    omega), rg0_5 hx, h26, rg0_10 hx]
  show xb (f_Read_init _ _ _ _ _ _ _ _) _ _ = _
  rw [xb_ok (c_rinit hf2)]
  rfl
theorem er_rH {s : Nat} (hx : Wx x) (hR : dR x < 500) (hf : Fr x h) : er x y σ (rH h (dR x) s (σ.1 3) tok bd pt kd ab) = er (addR x (h.1.1 + 2) h.1.1) y (rT σ (dR x) s tok bd pt kd ab) (rH h (dR x) s (σ.1 3) tok bd pt kd ab) := by
  have ha : (vH h (pr tok 3)).1.1 = h.1.1 + 2 := rfl
  refine er_addR hx hR (by omega) (hf.off (by omega)) (hf.off (by omega)) (hf.off (by omega)) ?_ ?_ ?_
  · exact nw_at (vH h (pr tok 3)) 12 _
  · unfold rH
    rw [nw_lo _ _ _ (by omega), vH_a]
  · unfold rH
    rw [nw_lo _ _ _ (by omega), vH_b]
end XDE
