/-! the law's loop -/
section XEG
variable {x : xX} {y : xY} {σ : xS} {h : xH} {T : Nat} {t : Nat → Nat} {m o b L : Nat} {f : Nat → Int32} {n l : Nat} {k : Nat → Nat → Nat → Nat → Int32 → xM Int32}
theorem Jn.less (hJ : Jn m o b L f (n + 1) x y σ h T t) : Jn m o b L f n x y σ h T t := by
  obtain ⟨k1, k2, k3, k4, k5, k6, k7⟩ := hJ
  exact ⟨k1, k2, k3, k4, by omega, by omega, by omega⟩
theorem b_skip (hJ : Jn m o b L f (n + 1) x y σ h T t) : Nxt m o b L f n l k (f_law_law_b1621 k b (en x 0 0 0) m o (nI l)) (er x y σ h) := by
  have e8 : nI l + (8 : Int32) = nI (l + 8) := nI_add l 8
  refine ⟨x, y, σ, h, T, t, ?_, hJ.less⟩
  show k b (en x 0 0 0) m o (nI l + 8) _ = _
  rw [e8]
theorem b_trim (hJ : Jn m o b L f (n + 1) x y σ h T t) : Nxt m o b L f n l k (f_law_law_b790 k b (en x 0 0 0) m o (nI l)) (er x y σ h) := by
  have hp := p_trim (m := m) (h := h) hJ.1 hJ.2.1
  have e8 : nI l + (8 : Int32) = nI (l + 8) := nI_add l 8
  obtain ⟨k1, k2, k3, k4, k5, k6, k7⟩ := hJ
  rcases hp with ⟨c, hc, -⟩ | ⟨v, v', x', y', σ', h', T', t', p1, p2, p3, p4, p5, p6, p7, p8, p9, p10⟩
  · cases hc
  · have b2 := k3.ext p5 p6
    have m2 := em_ext k4 p5 k3.2.1
    have e2 : f_Mdl_trim m (er x' y' σ' h') = some (.inl v', er x' y' σ' (em h' m σ')) := mo_op b2.1 m2 p2
    have ev : v = v' := by
      have := congrArg Int64.toInt32 p3
      rwa [Int32.toInt32_toInt64, Int32.toInt32_toInt64] at this
    refine ⟨x', y', σ', em h' m σ', T', t', ?_, p8, p7, b2.em, em_em, by omega, ?_, ?_⟩
    · unfold f_law_law_b790
      rw [rv0 k1.1, xb_ok p1, mo_xv b2.1 m2, xb_ok e2, if_pos ev]
      show k b (en x 0 0 0) m o (nI l + 8) _ = _
      rw [e8, p10]
    · show 20 * n ≤ h'.1.2.1
      have := p5.2.2.1
      omega
    · show 100 * n ≤ h'.1.2.2
      have := p5.2.2.2
      omega
def jU (v : Int32) : Int64 := if v = 0 then 0 else 1
theorem b_up635 {c u a : Int32} : f_law_law_b635 k b (en x 0 0 0) m o (nI l) c u a m = (xv m 9 <| xb (f_Mdl_up m a u) fun v6 => xv m 9 <| xb (f_Mdl_thrown m) fun v7 => tlK (f_law_law_b675 k b (en x 0 0 0) m o (nI l)) o (jU v6) v7 c) := by
  have key : ∀ v1 v2 : Int32, (if v2 = c then if c = 0 then (lJ o 0 fun v3 => if v1 = 0 then f_law_law_b669 k b (en x 0 0 0) m o (nI l) 0 v3 else f_law_law_b669 k b (en x 0 0 0) m o (nI l) 1 v3) else f_law_law_b675 k b (en x 0 0 0) m o (nI l) else if (0 : Int32) = 0 ∨ (0 : Int32) = 1 then xr 0 else xst) = tlK (f_law_law_b675 k b (en x 0 0 0) m o (nI l)) o (jU v1) v2 c := by
    intro v1 v2
    unfold tlK
    have : (fun v3 => if v1 = 0 then f_law_law_b669 k b (en x 0 0 0) m o (nI l) 0 v3 else f_law_law_b669 k b (en x 0 0 0) m o (nI l) 1 v3) = fun v8 => if (lg_cmp v8 (jU v1)) = 0 then f_law_law_b675 k b (en x 0 0 0) m o (nI l) else (if (0 : Int32) = 0 ∨ (0 : Int32) = 1 then xr 0 else xst) := by
      funext v3
      unfold jU f_law_law_b669
      by_cases h1 : v1 = 0
      · rw [if_pos h1, if_pos h1]
      · rw [if_neg h1, if_neg h1]
    rw [this]
  unfold f_law_law_b635
  have e2 : ∀ v1 : Int32, (fun v2 : Int32 => (if v2 = c then if c = 0 then (lJ o 0 fun v3 => if v1 = 0 then f_law_law_b669 k b (en x 0 0 0) m o (nI l) 0 v3 else f_law_law_b669 k b (en x 0 0 0) m o (nI l) 1 v3) else f_law_law_b675 k b (en x 0 0 0) m o (nI l) else if (0 : Int32) = 0 ∨ (0 : Int32) = 1 then xr 0 else xst)) = fun v7 => tlK (f_law_law_b675 k b (en x 0 0 0) m o (nI l)) o (jU v1) v7 c := fun v1 => funext fun v2 => key v1 v2
  exact congrArg (fun F => xv m 9 <| xb (f_Mdl_up m a u) F) (funext fun v1 => congrArg (fun F => xv m 9 <| xb (f_Mdl_thrown m) F) (e2 v1))
theorem b_up (hJ : Jn m o b L f (n + 1) x y σ h T t) (hl : l + 8 ≤ L) (hL : L < 2 ^ 31) : Nxt m o b L f n l k (f_law_law_b587 k b (en x 0 0 0) m o (nI l)) (er x y σ h) := by
  have main : ∀ u : Int32, (u = 0 ∨ u = 1) → (∀ A B : xM Int32, (if f (l + 2) = 0 then A else B) = if u = 0 then A else B) → Nxt m o b L f n l k (f_law_law_b608 k b (en x 0 0 0) m o (nI l) u (f (l + 1)) (en x 0 0 0)) (er x y σ h) := by
    intro u hu hs
    have hw : One m o b L f n x (f_law_up (en x 0 0 0) (f (l + 1)) u o) (f_Mdl_up m (f (l + 1)) u) jU (er x y σ h) := wrap hJ (p_up (j := jU) hJ.1 hJ.2.1 hJ.rmo hu) hA_ok (fun v => by
      unfold jU
      by_cases h1 : v = 0
      · rw [if_pos h1, if_pos h1]
        rfl
      · rw [if_neg h1, if_neg h1]
        rfl)
    obtain ⟨c, x', y', σ1, h1, σ', h', T', t', e1, e2, e3, e4, e5⟩ := hw
    have e8 : nI l + (8 : Int32) = nI (l + 8) := nI_add l 8
    refine ⟨x', y', σ', h', T', t', ?_, e5⟩
    unfold f_law_law_b608
    rw [xb_ok e1, scr (c := 1) (i := 1) e2 rfl (by omega) hL, scr (c := 2) (i := 2) e2 rfl (by omega) hL, hs, b_up635, b_up635]
    have fin : ∀ K : xM Int32, (xv m 9 <| xb (f_Mdl_up m (f (l + 1)) u) fun v6 => xv m 9 <| xb (f_Mdl_thrown m) fun v7 => tlK K o (jU v6) v7 c) (er x' y' σ1 h1) = K (er x' y' σ' h') := e3
    have g := fin (f_law_law_b675 k b (en x 0 0 0) m o (nI l))
    have : f_law_law_b675 k b (en x 0 0 0) m o (nI l) (er x' y' σ' h') = k b (en x' 0 0 0) m o (nI (l + 8)) (er x' y' σ' h') := by
      show k b (en x 0 0 0) m o (nI l + 8) _ = _
      rw [e4, e8]
    rw [← this, ← g]
    rcases hu with rfl | rfl
    · rw [if_pos rfl]
    · rw [if_neg ne10]
  have hlo : Nxt m o b L f n l k (f_law_law_b608 k b (en x 0 0 0) m o (nI l) (if f (l + 2) = 0 then 0 else 1) (f (l + 1)) (en x 0 0 0)) (er x y σ h) := by
    by_cases h1 : f (l + 2) = 0
    · rw [if_pos h1]
      exact main 0 (Or.inl rfl) (fun A B => by rw [if_pos h1, if_pos rfl])
    · rw [if_neg h1]
      exact main 1 (Or.inr rfl) (fun A B => by rw [if_neg h1, if_neg ne10])
  obtain ⟨x', y', σ', h', T', t', g1, g2⟩ := hlo
  refine ⟨x', y', σ', h', T', t', ?_, g2⟩
  rw [← g1]
  unfold f_law_law_b587
  rw [scr (c := 1) (i := 1) hJ.2.2.1 rfl (by omega) hL, scr (c := 2) (i := 2) hJ.2.2.1 rfl (by omega) hL]
  by_cases h1 : f (l + 2) = 0
  · rw [if_pos h1, if_pos h1]
  · rw [if_neg h1, if_neg h1]
theorem nxt_ite {c : Prop} [Decidable c] {A B : xM Int32} {H : xH} (h1 : c → Nxt m o b L f n l k A H) (h2 : ¬ c → Nxt m o b L f n l k B H) : Nxt m o b L f n l k (if c then A else B) H := by
  by_cases hc : c
  · rw [if_pos hc]
    exact h1 hc
  · rw [if_neg hc]
    exact h2 hc
theorem b_aL {kk : Int32 → xM Int32} (hb : Bs m o b L f x h) : aL b kk (er x y σ h) = kk (nI L) (er x y σ h) := by
  obtain ⟨-, -, -, b4, -, -, b11⟩ := hb
  simp only [aL, er_off b4.1, b11]
  rw [if_pos (by decide)]
theorem cmp_L (hL : L ≤ 4098) (hl : l ≤ 5000) : nI L - 8 < nI l ↔ L < l + 8 := by
  rw [Int32.lt_iff_toInt_lt, show (8 : Int32) = nI 8 from rfl, pk_sub_toInt (by omega) (by omega), nI_toInt (by omega)]
  omega
theorem lp (hL : L ≤ 4098) (n : Nat) : ∀ (l k : Nat) (x : xX) (y : xY) (σ : xS) (h : xH) (T : Nat) (t : Nat → Nat), Jn m o b L f n x y σ h T t → L ≤ l + 8 * n + 7 → l ≤ 5000 → n < k → ∃ H, f_law_law_h43 k b (en x 0 0 0) m o (nI l) (er x y σ h) = some (.inl 1, H) := by
  induction n with
  | zero =>
    intro l k x y σ h T t hJ h1 h2 h3
    obtain ⟨k, rfl, -⟩ := pos_of h3
    refine ⟨er x y σ h, ?_⟩
    show f_law_law_b43 (f_law_law_h43 k) _ _ _ _ _ _ = _
    unfold f_law_law_b43
    rw [b_aL hJ.2.2.1, if_pos ((cmp_L hL h2).mpr (by omega)), if_pos (Or.inr rfl)]
    rfl
  | succ n ih =>
    intro l k x y σ h T t hJ h1 h2 h3
    obtain ⟨k, rfl, h3⟩ := pos_of h3
    by_cases hc : L < l + 8
    · refine ⟨er x y σ h, ?_⟩
      show f_law_law_b43 (f_law_law_h43 k) _ _ _ _ _ _ = _
      unfold f_law_law_b43
      rw [b_aL hJ.2.2.1, if_pos ((cmp_L hL h2).mpr hc), if_pos (Or.inr rfl)]
      rfl
    · have hl : l + 8 ≤ L := by omega
      have hL2 : L < 2 ^ 31 := by omega
      have st : Nxt m o b L f n l (f_law_law_h43 k) (f_law_law_h43 (k + 1) b (en x 0 0 0) m o (nI l)) (er x y σ h) := by
        suffices hs : Nxt m o b L f n l (f_law_law_h43 k) (if (f l &&& 31) = 0 then f_law_law_b156 (f_law_law_h43 k) b (en x 0 0 0) m o (nI l) else if (f l &&& 31) = 1 then f_law_law_b224 (f_law_law_h43 k) b (en x 0 0 0) m o (nI l) else if (f l &&& 31) = 2 then f_law_law_b292 (f_law_law_h43 k) b (en x 0 0 0) m o (nI l) else if (f l &&& 31) = 3 then f_law_law_b395 (f_law_law_h43 k) b (en x 0 0 0) m o (nI l) else if (f l &&& 31) = 4 then f_law_law_b463 (f_law_law_h43 k) b (en x 0 0 0) m o (nI l) else if (f l &&& 31) = 5 then f_law_law_b531 (f_law_law_h43 k) b (en x 0 0 0) m o (nI l) else if (f l &&& 31) = 6 then f_law_law_b587 (f_law_law_h43 k) b (en x 0 0 0) m o (nI l) else if (f l &&& 31) = 7 then f_law_law_b678 (f_law_law_h43 k) b (en x 0 0 0) m o (nI l) else if (f l &&& 31) = 8 then f_law_law_b734 (f_law_law_h43 k) b (en x 0 0 0) m o (nI l) else if (f l &&& 31) = 9 then f_law_law_b790 (f_law_law_h43 k) b (en x 0 0 0) m o (nI l) else if (f l &&& 31) = 10 then f_law_law_b803 (f_law_law_h43 k) b (en x 0 0 0) m o (nI l) else if (f l &&& 31) = 11 then f_law_law_b955 (f_law_law_h43 k) b (en x 0 0 0) m o (nI l) else if (f l &&& 31) = 12 then f_law_law_b1022 (f_law_law_h43 k) b (en x 0 0 0) m o (nI l) else if (f l &&& 31) = 13 then f_law_law_b1101 (f_law_law_h43 k) b (en x 0 0 0) m o (nI l) else if (f l &&& 31) = 14 then f_law_law_b1169 (f_law_law_h43 k) b (en x 0 0 0) m o (nI l) else if (f l &&& 31) = 15 then f_law_law_b1237 (f_law_law_h43 k) b (en x 0 0 0) m o (nI l) else if (f l &&& 31) = 16 then f_law_law_b1305 (f_law_law_h43 k) b (en x 0 0 0) m o (nI l) else if (f l &&& 31) = 17 then f_law_law_b1385 (f_law_law_h43 k) b (en x 0 0 0) m o (nI l) else if (f l &&& 31) = 18 then f_law_law_b1465 (f_law_law_h43 k) b (en x 0 0 0) m o (nI l) else if (f l &&& 31) = 19 then f_law_law_b1565 (f_law_law_h43 k) b (en x 0 0 0) m o (nI l) else f_law_law_b1621 (f_law_law_h43 k) b (en x 0 0 0) m o (nI l)) (er x y σ h) by
          obtain ⟨x', y', σ', h', T', t', g1, g2⟩ := hs
          refine ⟨x', y', σ', h', T', t', ?_, g2⟩
          rw [← g1]
          show f_law_law_b43 (f_law_law_h43 k) _ _ _ _ _ _ = _
          unfold f_law_law_b43
          rw [b_aL hJ.2.2.1, if_neg (fun q => hc ((cmp_L hL h2).mp q)), scr0 hJ.2.2.1 (by omega) hL2]
        refine nxt_ite (fun _ => b_mode hJ hl hL2) (fun _ => ?_)
        refine nxt_ite (fun _ => b_home hJ hl hL2) (fun _ => ?_)
        refine nxt_ite (fun _ => b_command hJ hl hL2) (fun _ => ?_)
        refine nxt_ite (fun _ => b_step hJ hl hL2) (fun _ => ?_)
        refine nxt_ite (fun _ => b_speed hJ hl hL2) (fun _ => ?_)
        refine nxt_ite (fun _ => b_ticks hJ hl hL2) (fun _ => ?_)
        refine nxt_ite (fun _ => b_up hJ hl hL2) (fun _ => ?_)
        refine nxt_ite (fun _ => b_snapshot hJ hl hL2) (fun _ => ?_)
        refine nxt_ite (fun _ => b_crash hJ hl hL2) (fun _ => ?_)
        refine nxt_ite (fun _ => b_trim hJ) (fun _ => ?_)
        refine nxt_ite (fun _ => b_ask hJ hl hL2) (fun _ => ?_)
        refine nxt_ite (fun _ => b_read hJ hl hL2) (fun _ => ?_)
        refine nxt_ite (fun _ => b_value hJ hl hL2) (fun _ => ?_)
        refine nxt_ite (fun _ => b_at hJ hl hL2) (fun _ => ?_)
        refine nxt_ite (fun _ => b_kept hJ hl hL2) (fun _ => ?_)
        refine nxt_ite (fun _ => b_log hJ hl hL2) (fun _ => ?_)
        refine nxt_ite (fun _ => b_logged hJ hl hL2) (fun _ => ?_)
        refine nxt_ite (fun _ => b_session hJ hl hL2) (fun _ => ?_)
        refine nxt_ite (fun _ => b_told hJ hl hL2) (fun _ => ?_)
        refine nxt_ite (fun _ => b_count hJ hl hL2) (fun _ => ?_)
        exact b_skip hJ
      obtain ⟨x', y', σ', h', T', t', g1, g2⟩ := st
      obtain ⟨H, hH⟩ := ih (l + 8) k x' y' σ' h' T' t' g2 (by omega) (by omega) (by omega)
      exact ⟨H, g1.trans hH⟩
end XEG
