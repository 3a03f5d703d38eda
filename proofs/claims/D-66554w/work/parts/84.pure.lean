/-! the law's blocks -/
section XEF
variable {x : xX} {y : xY} {σ : xS} {h : xH} {T : Nat} {t : Nat → Nat} {m o b L : Nat} {f : Nat → Int32} {n l : Nat} {k : Nat → Nat → Nat → Nat → Int32 → xM Int32}
def Nxt (m o b L : Nat) (f : Nat → Int32) (n l : Nat) (k : Nat → Nat → Nat → Nat → Int32 → xM Int32) (F : xM Int32) (H : xH) : Prop := ∃ x' y' σ' h' T' t', F H = k b (en x' 0 0 0) m o (nI (l + 8)) (er x' y' σ' h') ∧ Jn m o b L f n x' y' σ' h' T' t'
theorem b_mode (hJ : Jn m o b L f (n + 1) x y σ h T t) (hl : l + 8 ≤ L) (hL : L < 2 ^ 31) : Nxt m o b L f n l k (f_law_law_b156 k b (en x 0 0 0) m o (nI l)) (er x y σ h) := by
  have hw : One m o b L f n x (f_law_mode (en x 0 0 0) (f (l + 1)) (f (l + 2)) o) (f_Mdl_mode m (f (l + 1)) (f (l + 2))) xj (er x y σ h) := wrap hJ (p_mode hJ.1 hJ.2.1 hJ.rmo) hB_ok (fun v => rfl)
  obtain ⟨c, x', y', σ1, h1, σ', h', T', t', e1, e2, e3, e4, e5⟩ := hw
  have e8 : nI l + (8 : Int32) = nI (l + 8) := nI_add l 8
  refine ⟨x', y', σ', h', T', t', ?_, e5⟩
  unfold f_law_law_b156
  rw [scr (c := 1) (i := 1) hJ.2.2.1 rfl (by omega) hL, scr (c := 2) (i := 2) hJ.2.2.1 rfl (by omega) hL, xb_ok e1, scr (c := 1) (i := 1) e2 rfl (by omega) hL, scr (c := 2) (i := 2) e2 rfl (by omega) hL]
  refine (e3 _).trans ?_
  show k b (en x 0 0 0) m o (nI l + 8) _ = _
  rw [e4, e8]
theorem b_home (hJ : Jn m o b L f (n + 1) x y σ h T t) (hl : l + 8 ≤ L) (hL : L < 2 ^ 31) : Nxt m o b L f n l k (f_law_law_b224 k b (en x 0 0 0) m o (nI l)) (er x y σ h) := by
  have hw : One m o b L f n x (f_law_home (en x 0 0 0) (f (l + 1)) (f (l + 2)) o) (f_Mdl_home m (f (l + 1)) (f (l + 2))) xj (er x y σ h) := wrap hJ (p_home hJ.1 hJ.2.1 hJ.rmo) hA_ok (fun v => rfl)
  obtain ⟨c, x', y', σ1, h1, σ', h', T', t', e1, e2, e3, e4, e5⟩ := hw
  have e8 : nI l + (8 : Int32) = nI (l + 8) := nI_add l 8
  refine ⟨x', y', σ', h', T', t', ?_, e5⟩
  unfold f_law_law_b224
  rw [scr (c := 1) (i := 1) hJ.2.2.1 rfl (by omega) hL, scr (c := 2) (i := 2) hJ.2.2.1 rfl (by omega) hL, xb_ok e1, scr (c := 1) (i := 1) e2 rfl (by omega) hL, scr (c := 2) (i := 2) e2 rfl (by omega) hL]
  refine (e3 _).trans ?_
  show k b (en x 0 0 0) m o (nI l + 8) _ = _
  rw [e4, e8]
theorem b_command (hJ : Jn m o b L f (n + 1) x y σ h T t) (hl : l + 8 ≤ L) (hL : L < 2 ^ 31) : Nxt m o b L f n l k (f_law_law_b292 k b (en x 0 0 0) m o (nI l)) (er x y σ h) := by
  have hw : One m o b L f n x (f_law_command (en x 0 0 0) (f (l + 1)) (f (l + 2)) (f (l + 3)) (f (l + 4)) (f (l + 5)) o) (f_Mdl_command m (f (l + 1)) (f (l + 2)) (f (l + 3)) (f (l + 4)) (f (l + 5))) xi (er x y σ h) := wrap hJ (p_command hJ.1 hJ.2.1 hJ.rmo) hC_ok (fun v => rfl)
  obtain ⟨c, x', y', σ1, h1, σ', h', T', t', e1, e2, e3, e4, e5⟩ := hw
  have e8 : nI l + (8 : Int32) = nI (l + 8) := nI_add l 8
  refine ⟨x', y', σ', h', T', t', ?_, e5⟩
  unfold f_law_law_b292
  rw [scr (c := 1) (i := 1) hJ.2.2.1 rfl (by omega) hL, scr (c := 2) (i := 2) hJ.2.2.1 rfl (by omega) hL, scr (c := 3) (i := 3) hJ.2.2.1 rfl (by omega) hL, scr (c := 4) (i := 4) hJ.2.2.1 rfl (by omega) hL, scr (c := 5) (i := 5) hJ.2.2.1 rfl (by omega) hL, xb_ok e1, scr (c := 1) (i := 1) e2 rfl (by omega) hL, scr (c := 2) (i := 2) e2 rfl (by omega) hL, scr (c := 3) (i := 3) e2 rfl (by omega) hL, scr (c := 4) (i := 4) e2 rfl (by omega) hL, scr (c := 5) (i := 5) e2 rfl (by omega) hL]
  refine (e3 _).trans ?_
  show k b (en x 0 0 0) m o (nI l + 8) _ = _
  rw [e4, e8]
theorem b_step (hJ : Jn m o b L f (n + 1) x y σ h T t) (hl : l + 8 ≤ L) (hL : L < 2 ^ 31) : Nxt m o b L f n l k (f_law_law_b395 k b (en x 0 0 0) m o (nI l)) (er x y σ h) := by
  have hw : One m o b L f n x (f_law_step (en x 0 0 0) (f (l + 1)) (f (l + 2)) o) (f_Mdl_step m (f (l + 1)) (f (l + 2))) xj (er x y σ h) := wrap hJ (p_step hJ.1 hJ.2.1 hJ.rmo) hA_ok (fun v => rfl)
  obtain ⟨c, x', y', σ1, h1, σ', h', T', t', e1, e2, e3, e4, e5⟩ := hw
  have e8 : nI l + (8 : Int32) = nI (l + 8) := nI_add l 8
  refine ⟨x', y', σ', h', T', t', ?_, e5⟩
  unfold f_law_law_b395
  rw [scr (c := 1) (i := 1) hJ.2.2.1 rfl (by omega) hL, scr (c := 2) (i := 2) hJ.2.2.1 rfl (by omega) hL, xb_ok e1, scr (c := 1) (i := 1) e2 rfl (by omega) hL, scr (c := 2) (i := 2) e2 rfl (by omega) hL]
  refine (e3 _).trans ?_
  show k b (en x 0 0 0) m o (nI l + 8) _ = _
  rw [e4, e8]
theorem b_speed (hJ : Jn m o b L f (n + 1) x y σ h T t) (hl : l + 8 ≤ L) (hL : L < 2 ^ 31) : Nxt m o b L f n l k (f_law_law_b463 k b (en x 0 0 0) m o (nI l)) (er x y σ h) := by
  have hw : One m o b L f n x (f_law_speed (en x 0 0 0) (f (l + 1)) (f (l + 2)) o) (f_Mdl_speed m (f (l + 1)) (f (l + 2))) xj (er x y σ h) := wrap hJ (p_speed hJ.1 hJ.2.1 hJ.rmo) hB_ok (fun v => rfl)
  obtain ⟨c, x', y', σ1, h1, σ', h', T', t', e1, e2, e3, e4, e5⟩ := hw
  have e8 : nI l + (8 : Int32) = nI (l + 8) := nI_add l 8
  refine ⟨x', y', σ', h', T', t', ?_, e5⟩
  unfold f_law_law_b463
  rw [scr (c := 1) (i := 1) hJ.2.2.1 rfl (by omega) hL, scr (c := 2) (i := 2) hJ.2.2.1 rfl (by omega) hL, xb_ok e1, scr (c := 1) (i := 1) e2 rfl (by omega) hL, scr (c := 2) (i := 2) e2 rfl (by omega) hL]
  refine (e3 _).trans ?_
  show k b (en x 0 0 0) m o (nI l + 8) _ = _
  rw [e4, e8]
theorem b_ticks (hJ : Jn m o b L f (n + 1) x y σ h T t) (hl : l + 8 ≤ L) (hL : L < 2 ^ 31) : Nxt m o b L f n l k (f_law_law_b531 k b (en x 0 0 0) m o (nI l)) (er x y σ h) := by
  have hw : One m o b L f n x (f_law_ticks (en x 0 0 0) (f (l + 1)) o) (f_Mdl_ticks m (f (l + 1))) xj (er x y σ h) := wrap hJ (p_ticks hJ.1 hJ.2.1 hJ.rmo (by have := hJ.2.2.2.2.1; omega)) hT_ok (fun v => rfl)
  obtain ⟨c, x', y', σ1, h1, σ', h', T', t', e1, e2, e3, e4, e5⟩ := hw
  have e8 : nI l + (8 : Int32) = nI (l + 8) := nI_add l 8
  refine ⟨x', y', σ', h', T', t', ?_, e5⟩
  unfold f_law_law_b531
  rw [scr (c := 1) (i := 1) hJ.2.2.1 rfl (by omega) hL, xb_ok e1, scr (c := 1) (i := 1) e2 rfl (by omega) hL]
  refine (e3 _).trans ?_
  show k b (en x 0 0 0) m o (nI l + 8) _ = _
  rw [e4, e8]
theorem b_snapshot (hJ : Jn m o b L f (n + 1) x y σ h T t) (hl : l + 8 ≤ L) (hL : L < 2 ^ 31) : Nxt m o b L f n l k (f_law_law_b678 k b (en x 0 0 0) m o (nI l)) (er x y σ h) := by
  have hw : One m o b L f n x (f_law_snapshot (en x 0 0 0) (f (l + 1)) o) (f_Mdl_snapshot m (f (l + 1))) xj (er x y σ h) := wrap hJ (p_snapshot hJ.1 hJ.2.1 hJ.rmo) hA_ok (fun v => rfl)
  obtain ⟨c, x', y', σ1, h1, σ', h', T', t', e1, e2, e3, e4, e5⟩ := hw
  have e8 : nI l + (8 : Int32) = nI (l + 8) := nI_add l 8
  refine ⟨x', y', σ', h', T', t', ?_, e5⟩
  unfold f_law_law_b678
  rw [scr (c := 1) (i := 1) hJ.2.2.1 rfl (by omega) hL, xb_ok e1, scr (c := 1) (i := 1) e2 rfl (by omega) hL]
  refine (e3 _).trans ?_
  show k b (en x 0 0 0) m o (nI l + 8) _ = _
  rw [e4, e8]
theorem b_crash (hJ : Jn m o b L f (n + 1) x y σ h T t) (hl : l + 8 ≤ L) (hL : L < 2 ^ 31) : Nxt m o b L f n l k (f_law_law_b734 k b (en x 0 0 0) m o (nI l)) (er x y σ h) := by
  have hw : One m o b L f n x (f_law_crash (en x 0 0 0) (f (l + 1)) o) (f_Mdl_crash m (f (l + 1))) xj (er x y σ h) := wrap hJ (p_crash hJ.1 hJ.2.1 hJ.rmo) hA_ok (fun v => rfl)
  obtain ⟨c, x', y', σ1, h1, σ', h', T', t', e1, e2, e3, e4, e5⟩ := hw
  have e8 : nI l + (8 : Int32) = nI (l + 8) := nI_add l 8
  refine ⟨x', y', σ', h', T', t', ?_, e5⟩
  unfold f_law_law_b734
  rw [scr (c := 1) (i := 1) hJ.2.2.1 rfl (by omega) hL, xb_ok e1, scr (c := 1) (i := 1) e2 rfl (by omega) hL]
  refine (e3 _).trans ?_
  show k b (en x 0 0 0) m o (nI l + 8) _ = _
  rw [e4, e8]
theorem b_ask (hJ : Jn m o b L f (n + 1) x y σ h T t) (hl : l + 8 ≤ L) (hL : L < 2 ^ 31) : Nxt m o b L f n l k (f_law_law_b803 k b (en x 0 0 0) m o (nI l)) (er x y σ h) := by
  have hw : One m o b L f n x (f_law_ask (en x 0 0 0) (f (l + 1)) (((f (l + 2)).toInt64 <<< ((32 : Int32).toInt64 &&& 63)) ||| ((f (l + 3)).toInt64 &&& 4294967295)) (f (l + 4)) (f (l + 5)) (f (l + 6)) (f (l + 7)) o) (f_Mdl_ask m (f (l + 1)) (((f (l + 2)).toInt64 <<< ((32 : Int32).toInt64 &&& 63)) ||| ((f (l + 3)).toInt64 &&& 4294967295)) (f (l + 4)) (f (l + 5)) (f (l + 6)) (f (l + 7))) xj (er x y σ h) := wrap hJ (p_ask hJ.1 hJ.2.1 hJ.rmo) hC_ok (fun v => rfl)
  obtain ⟨c, x', y', σ1, h1, σ', h', T', t', e1, e2, e3, e4, e5⟩ := hw
  have e8 : nI l + (8 : Int32) = nI (l + 8) := nI_add l 8
  refine ⟨x', y', σ', h', T', t', ?_, e5⟩
  unfold f_law_law_b803
  rw [scr (c := 1) (i := 1) hJ.2.2.1 rfl (by omega) hL, scr (c := 2) (i := 2) hJ.2.2.1 rfl (by omega) hL, scr (c := 3) (i := 3) hJ.2.2.1 rfl (by omega) hL, scr (c := 4) (i := 4) hJ.2.2.1 rfl (by omega) hL, scr (c := 5) (i := 5) hJ.2.2.1 rfl (by omega) hL, scr (c := 6) (i := 6) hJ.2.2.1 rfl (by omega) hL, scr (c := 7) (i := 7) hJ.2.2.1 rfl (by omega) hL, xb_ok e1, scr (c := 1) (i := 1) e2 rfl (by omega) hL, scr (c := 2) (i := 2) e2 rfl (by omega) hL, scr (c := 3) (i := 3) e2 rfl (by omega) hL, scr (c := 4) (i := 4) e2 rfl (by omega) hL, scr (c := 5) (i := 5) e2 rfl (by omega) hL, scr (c := 6) (i := 6) e2 rfl (by omega) hL, scr (c := 7) (i := 7) e2 rfl (by omega) hL]
  refine (e3 _).trans ?_
  show k b (en x 0 0 0) m o (nI l + 8) _ = _
  rw [e4, e8]
theorem b_read (hJ : Jn m o b L f (n + 1) x y σ h T t) (hl : l + 8 ≤ L) (hL : L < 2 ^ 31) : Nxt m o b L f n l k (f_law_law_b955 k b (en x 0 0 0) m o (nI l)) (er x y σ h) := by
  have hw : One m o b L f n x (f_law_read (en x 0 0 0) (f (l + 1)) (f (l + 2)) o) (f_Mdl_read m (f (l + 1)) (f (l + 2))) xi (er x y σ h) := wrap hJ (p_read hJ.1 hJ.2.1 hJ.rmo) hA_ok (fun v => rfl)
  obtain ⟨c, x', y', σ1, h1, σ', h', T', t', e1, e2, e3, e4, e5⟩ := hw
  have e8 : nI l + (8 : Int32) = nI (l + 8) := nI_add l 8
  refine ⟨x', y', σ', h', T', t', ?_, e5⟩
  unfold f_law_law_b955
  rw [scr (c := 1) (i := 1) hJ.2.2.1 rfl (by omega) hL, scr (c := 2) (i := 2) hJ.2.2.1 rfl (by omega) hL, xb_ok e1, scr (c := 1) (i := 1) e2 rfl (by omega) hL, scr (c := 2) (i := 2) e2 rfl (by omega) hL]
  refine (e3 _).trans ?_
  show k b (en x 0 0 0) m o (nI l + 8) _ = _
  rw [e4, e8]
theorem b_value (hJ : Jn m o b L f (n + 1) x y σ h T t) (hl : l + 8 ≤ L) (hL : L < 2 ^ 31) : Nxt m o b L f n l k (f_law_law_b1022 k b (en x 0 0 0) m o (nI l)) (er x y σ h) := by
  have hw : One m o b L f n x (f_law_value (en x 0 0 0) (f (l + 1)) (f (l + 2)) (f (l + 3)) o) (f_Mdl_value m (f (l + 1)) (f (l + 2)) (f (l + 3))) xi (er x y σ h) := wrap hJ (p_value hJ.1 hJ.2.1 hJ.rmo) hA_ok (fun v => rfl)
  obtain ⟨c, x', y', σ1, h1, σ', h', T', t', e1, e2, e3, e4, e5⟩ := hw
  have e8 : nI l + (8 : Int32) = nI (l + 8) := nI_add l 8
  refine ⟨x', y', σ', h', T', t', ?_, e5⟩
  unfold f_law_law_b1022
  rw [scr (c := 1) (i := 1) hJ.2.2.1 rfl (by omega) hL, scr (c := 2) (i := 2) hJ.2.2.1 rfl (by omega) hL, scr (c := 3) (i := 3) hJ.2.2.1 rfl (by omega) hL, xb_ok e1, scr (c := 1) (i := 1) e2 rfl (by omega) hL, scr (c := 2) (i := 2) e2 rfl (by omega) hL, scr (c := 3) (i := 3) e2 rfl (by omega) hL]
  refine (e3 _).trans ?_
  show k b (en x 0 0 0) m o (nI l + 8) _ = _
  rw [e4, e8]
theorem b_at (hJ : Jn m o b L f (n + 1) x y σ h T t) (hl : l + 8 ≤ L) (hL : L < 2 ^ 31) : Nxt m o b L f n l k (f_law_law_b1101 k b (en x 0 0 0) m o (nI l)) (er x y σ h) := by
  have hw : One m o b L f n x (f_law_at (en x 0 0 0) (f (l + 1)) (f (l + 2)) o) (f_Mdl_at m (f (l + 1)) (f (l + 2))) xj (er x y σ h) := wrap hJ (p_at hJ.1 hJ.2.1 hJ.rmo) hA_ok (fun v => rfl)
  obtain ⟨c, x', y', σ1, h1, σ', h', T', t', e1, e2, e3, e4, e5⟩ := hw
  have e8 : nI l + (8 : Int32) = nI (l + 8) := nI_add l 8
  refine ⟨x', y', σ', h', T', t', ?_, e5⟩
  unfold f_law_law_b1101
  rw [scr (c := 1) (i := 1) hJ.2.2.1 rfl (by omega) hL, scr (c := 2) (i := 2) hJ.2.2.1 rfl (by omega) hL, xb_ok e1, scr (c := 1) (i := 1) e2 rfl (by omega) hL, scr (c := 2) (i := 2) e2 rfl (by omega) hL]
  refine (e3 _).trans ?_
  show k b (en x 0 0 0) m o (nI l + 8) _ = _
  rw [e4, e8]
theorem b_kept (hJ : Jn m o b L f (n + 1) x y σ h T t) (hl : l + 8 ≤ L) (hL : L < 2 ^ 31) : Nxt m o b L f n l k (f_law_law_b1169 k b (en x 0 0 0) m o (nI l)) (er x y σ h) := by
  have hw : One m o b L f n x (f_law_kept (en x 0 0 0) (f (l + 1)) (f (l + 2)) o) (f_Mdl_kept m (f (l + 1)) (f (l + 2))) xj (er x y σ h) := wrap hJ (p_kept hJ.1 hJ.2.1 hJ.rmo) hA_ok (fun v => rfl)
  obtain ⟨c, x', y', σ1, h1, σ', h', T', t', e1, e2, e3, e4, e5⟩ := hw
  have e8 : nI l + (8 : Int32) = nI (l + 8) := nI_add l 8
  refine ⟨x', y', σ', h', T', t', ?_, e5⟩
  unfold f_law_law_b1169
  rw [scr (c := 1) (i := 1) hJ.2.2.1 rfl (by omega) hL, scr (c := 2) (i := 2) hJ.2.2.1 rfl (by omega) hL, xb_ok e1, scr (c := 1) (i := 1) e2 rfl (by omega) hL, scr (c := 2) (i := 2) e2 rfl (by omega) hL]
  refine (e3 _).trans ?_
  show k b (en x 0 0 0) m o (nI l + 8) _ = _
  rw [e4, e8]
theorem b_log (hJ : Jn m o b L f (n + 1) x y σ h T t) (hl : l + 8 ≤ L) (hL : L < 2 ^ 31) : Nxt m o b L f n l k (f_law_law_b1237 k b (en x 0 0 0) m o (nI l)) (er x y σ h) := by
  have hw : One m o b L f n x (f_law_log (en x 0 0 0) (f (l + 1)) (f (l + 2)) o) (f_Mdl_log m (f (l + 1)) (f (l + 2))) xj (er x y σ h) := wrap hJ (p_log hJ.1 hJ.2.1 hJ.rmo) hA_ok (fun v => rfl)
  obtain ⟨c, x', y', σ1, h1, σ', h', T', t', e1, e2, e3, e4, e5⟩ := hw
  have e8 : nI l + (8 : Int32) = nI (l + 8) := nI_add l 8
  refine ⟨x', y', σ', h', T', t', ?_, e5⟩
  unfold f_law_law_b1237
  rw [scr (c := 1) (i := 1) hJ.2.2.1 rfl (by omega) hL, scr (c := 2) (i := 2) hJ.2.2.1 rfl (by omega) hL, xb_ok e1, scr (c := 1) (i := 1) e2 rfl (by omega) hL, scr (c := 2) (i := 2) e2 rfl (by omega) hL]
  refine (e3 _).trans ?_
  show k b (en x 0 0 0) m o (nI l + 8) _ = _
  rw [e4, e8]
theorem b_logged (hJ : Jn m o b L f (n + 1) x y σ h T t) (hl : l + 8 ≤ L) (hL : L < 2 ^ 31) : Nxt m o b L f n l k (f_law_law_b1305 k b (en x 0 0 0) m o (nI l)) (er x y σ h) := by
  have hw : One m o b L f n x (f_law_logged (en x 0 0 0) (f (l + 1)) (f (l + 2)) (f (l + 3)) o) (f_Mdl_logged m (f (l + 1)) (f (l + 2)) (f (l + 3))) xj (er x y σ h) := wrap hJ (p_logged hJ.1 hJ.2.1 hJ.rmo) hA_ok (fun v => rfl)
  obtain ⟨c, x', y', σ1, h1, σ', h', T', t', e1, e2, e3, e4, e5⟩ := hw
  have e8 : nI l + (8 : Int32) = nI (l + 8) := nI_add l 8
  refine ⟨x', y', σ', h', T', t', ?_, e5⟩
  unfold f_law_law_b1305
  rw [scr (c := 1) (i := 1) hJ.2.2.1 rfl (by omega) hL, scr (c := 2) (i := 2) hJ.2.2.1 rfl (by omega) hL, scr (c := 3) (i := 3) hJ.2.2.1 rfl (by omega) hL, xb_ok e1, scr (c := 1) (i := 1) e2 rfl (by omega) hL, scr (c := 2) (i := 2) e2 rfl (by omega) hL, scr (c := 3) (i := 3) e2 rfl (by omega) hL]
  refine (e3 _).trans ?_
  show k b (en x 0 0 0) m o (nI l + 8) _ = _
  rw [e4, e8]
theorem b_session (hJ : Jn m o b L f (n + 1) x y σ h T t) (hl : l + 8 ≤ L) (hL : L < 2 ^ 31) : Nxt m o b L f n l k (f_law_law_b1385 k b (en x 0 0 0) m o (nI l)) (er x y σ h) := by
  have hw : One m o b L f n x (f_law_session (en x 0 0 0) (f (l + 1)) (f (l + 2)) (f (l + 3)) o) (f_Mdl_session m (f (l + 1)) (f (l + 2)) (f (l + 3))) xj (er x y σ h) := wrap hJ (p_session hJ.1 hJ.2.1 hJ.rmo) hA_ok (fun v => rfl)
  obtain ⟨c, x', y', σ1, h1, σ', h', T', t', e1, e2, e3, e4, e5⟩ := hw
  have e8 : nI l + (8 : Int32) = nI (l + 8) := nI_add l 8
  refine ⟨x', y', σ', h', T', t', ?_, e5⟩
  unfold f_law_law_b1385
  rw [scr (c := 1) (i := 1) hJ.2.2.1 rfl (by omega) hL, scr (c := 2) (i := 2) hJ.2.2.1 rfl (by omega) hL, scr (c := 3) (i := 3) hJ.2.2.1 rfl (by omega) hL, xb_ok e1, scr (c := 1) (i := 1) e2 rfl (by omega) hL, scr (c := 2) (i := 2) e2 rfl (by omega) hL, scr (c := 3) (i := 3) e2 rfl (by omega) hL]
  refine (e3 _).trans ?_
  show k b (en x 0 0 0) m o (nI l + 8) _ = _
  rw [e4, e8]
theorem b_told (hJ : Jn m o b L f (n + 1) x y σ h T t) (hl : l + 8 ≤ L) (hL : L < 2 ^ 31) : Nxt m o b L f n l k (f_law_law_b1465 k b (en x 0 0 0) m o (nI l)) (er x y σ h) := by
  have hw : One m o b L f n x (f_law_told (en x 0 0 0) (((f (l + 1)).toInt64 <<< ((32 : Int32).toInt64 &&& 63)) ||| ((f (l + 2)).toInt64 &&& 4294967295)) (f (l + 3)) o) (f_Mdl_told m (((f (l + 1)).toInt64 <<< ((32 : Int32).toInt64 &&& 63)) ||| ((f (l + 2)).toInt64 &&& 4294967295)) (f (l + 3))) xj (er x y σ h) := wrap hJ (p_told hJ.1 hJ.2.1 hJ.rmo) hB_ok (fun v => rfl)
  obtain ⟨c, x', y', σ1, h1, σ', h', T', t', e1, e2, e3, e4, e5⟩ := hw
  have e8 : nI l + (8 : Int32) = nI (l + 8) := nI_add l 8
  refine ⟨x', y', σ', h', T', t', ?_, e5⟩
  unfold f_law_law_b1465
  rw [scr (c := 1) (i := 1) hJ.2.2.1 rfl (by omega) hL, scr (c := 2) (i := 2) hJ.2.2.1 rfl (by omega) hL, scr (c := 3) (i := 3) hJ.2.2.1 rfl (by omega) hL, xb_ok e1, scr (c := 1) (i := 1) e2 rfl (by omega) hL, scr (c := 2) (i := 2) e2 rfl (by omega) hL, scr (c := 3) (i := 3) e2 rfl (by omega) hL]
  refine (e3 _).trans ?_
  show k b (en x 0 0 0) m o (nI l + 8) _ = _
  rw [e4, e8]
theorem b_count (hJ : Jn m o b L f (n + 1) x y σ h T t) (hl : l + 8 ≤ L) (hL : L < 2 ^ 31) : Nxt m o b L f n l k (f_law_law_b1565 k b (en x 0 0 0) m o (nI l)) (er x y σ h) := by
  have hw : One m o b L f n x (f_law_count (en x 0 0 0) (f (l + 1)) o) (f_Mdl_count m (f (l + 1))) xj (er x y σ h) := wrap hJ (p_count hJ.1 hJ.2.1 hJ.rmo) hA_ok (fun v => rfl)
  obtain ⟨c, x', y', σ1, h1, σ', h', T', t', e1, e2, e3, e4, e5⟩ := hw
  have e8 : nI l + (8 : Int32) = nI (l + 8) := nI_add l 8
  refine ⟨x', y', σ', h', T', t', ?_, e5⟩
  unfold f_law_law_b1565
  rw [scr (c := 1) (i := 1) hJ.2.2.1 rfl (by omega) hL, xb_ok e1, scr (c := 1) (i := 1) e2 rfl (by omega) hL]
  refine (e3 _).trans ?_
  show k b (en x 0 0 0) m o (nI l + 8) _ = _
  rw [e4, e8]
end XEF
