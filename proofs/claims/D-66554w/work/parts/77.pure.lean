/-! command: exceptions; what holds behind it -/
section XCU
variable {β : Type} {x x' : xX} {y y' : xY} {σ σ' : xS} {h : xH} {T : Nat} {t : Nat → Nat}
theorem c_command1 {a b c d f : Int32} (hx : Wx x) (hf : Fr x h) (hr : rm6 h) (h1 : (inb a.toInt64 0 7 && (inb c.toInt64 0 29 && inb d.toInt64 0 9)) = false) : Thr (f_RS_command (en x 0 0 0) a b c d f) x y σ h 10 := by
  unfold Thr f_RS_command
  rw [rv0 hx]
  cases h2 : inb a.toInt64 0 7
  · rw [xb_thr (c_sessionAt1 hx hf hr h2)]
  · rw [h2, Bool.true_and] at h1
    obtain ⟨s, hs, rfl⟩ := inb_of (n := 8) (by omega) (by decide) h2
    rw [xb_ok (c_sessionAt hx hs)]
    cases h3 : inb c.toInt64 0 29
    · have : f_RS_index c 30 (er x y σ h) = _ := c_idx1 (x := x) (y := y) (σ := σ) (n := 30) (hi := 29) (by omega) (by decide) hf hr h3
      rw [xb_thr this]
    · rw [h3, Bool.true_and] at h1
      obtain ⟨it, hit, rfl⟩ := inb_of (n := 30) (by omega) (by decide) h3
      have i30 : f_RS_index (nI it) 30 (er x y σ h) = _ := c_index_ok (n := 30) hit (by omega)
      have : f_RS_index d 10 (er x y σ h) = _ := c_idx1 (x := x) (y := y) (σ := σ) (n := 10) (hi := 9) (by omega) (by decide) hf hr h1
      rw [xb_ok i30, xb_thr this]
theorem c_command2 {s it cu : Nat} {b f : Int32} (hx : Wx x) (hf : Fr x h) (hr : rm6 h) (hs : s < 8) (hit : it < 30) (hcu : cu < 10) (h1 : (inb b.toInt64 0 4 && inb f.toInt64 1 1000) = false) : Thr (f_RS_command (en x 0 0 0) (nI s) b (nI it) (nI cu) f) x y σ h 11 := by
  have i30 : f_RS_index (nI it) 30 (er x y σ h) = _ := c_index_ok (n := 30) hit (by omega)
  have i10 : f_RS_index (nI cu) 10 (er x y σ h) = _ := c_index_ok (n := 10) hcu (by omega)
  have fin : f_RS_command_b51 (en x 0 0 0) b (nI it) (nI cu) f (en x 17 s 0) (er x y σ h) = some (.inr (h.1.1, 11), er x y σ (nw h 6 (.inr (11, [])))) := by
    unfold f_RS_command_b51 f_RS_command_b52
    rw [xb_thr (c_want_no.trans (c_xth hf hr))]
  unfold Thr f_RS_command
  rw [rv0 hx, xb_ok (c_sessionAt hx hs), xb_ok i30, xb_ok i10, xb_ok (c_in _ _ _)]
  cases h2 : inb b.toInt64 0 4
  · rw [bI_f, if_pos rfl, fin]
  · rw [h2, Bool.true_and] at h1
    rw [bI_t, if_neg ne10, xb_ok (c_in _ _ _), h1, bI_f, if_pos rfl, fin]
theorem c_command3 {s it cu : Nat} {b f : Int32} (hx : Wx x) (hP : σ.1 0 = nI (dP x)) (hP1 : 1 ≤ dP x) (hf : Fr x h) (hr : rm6 h) (hs : s < 8) (hit : it < 30) (hcu : cu < 10) (h4 : inb b.toInt64 0 4 = true) (h5 : inb f.toInt64 1 1000 = true) (h6 : σ.2.1 4 (it % dP x) = 400) : Thr (f_RS_command (en x 0 0 0) (nI s) b (nI it) (nI cu) f) x y σ h 12 := by
  have hP3 := hx.2.2.1
  have hp : it % dP x < dP x := Nat.mod_lt _ (by omega)
  have i30 : f_RS_index (nI it) 30 (er x y σ h) = _ := c_index_ok (n := 30) hit (by omega)
  have i10 : f_RS_index (nI cu) 10 (er x y σ h) = _ := c_index_ok (n := 10) hcu (by omega)
  unfold Thr f_RS_command
  rw [rv0 hx, xb_ok (c_sessionAt hx hs), xb_ok i30, xb_ok i10, xb_ok (c_in _ _ _), h4, bI_t, if_neg ne10, xb_ok (c_in _ _ _), h5, bI_t, if_neg ne10]
  unfold f_RS_command_b52
  rw [xb_ok c_want_ok, rg0_0 hx, hP, rI_ok (by omega) (by omega) (by omega), rg0_1 hx, rl4 hx hp, rg5_1 hx hp, h6, if_pos (by decide)]
  unfold f_RS_command_b88
  rw [xb_thr (c_need_no.trans (c_xth hf hr))]
end XCU
section XCV
variable {σ τ : xS} {P N R T : Nat} {e t : Nat → Nat}
theorem cmdS_24 (σ : xS) (s p E : Nat) (kd it cu am : Int32) : (cmdS σ s p E kd it cu am).2.1 24 = va_up (σ.2.1 24) (3 * s + p) (nI (E + 1)) := by
  have hs := (cmdS_same σ s p E kd it cu am).2.1 24 (by decide)
  rw [hs, uI_fun, uI_o (by decide)]
theorem cmdS_4 (σ : xS) (s p E : Nat) (kd it cu am : Int32) : (cmdS σ s p E kd it cu am).2.1 4 = va_up (σ.2.1 4) p (nI (E + 1)) := by
  have hs := (cmdS_same σ s p E kd it cu am).2.1 4 (by decide)
  rw [hs, uI_o (by decide), uI_fun]
theorem cmdS_o {σ : xS} {s p E : Nat} {kd it cu am : Int32} {j : Nat} (hj : j ∉ [4, 6, 7, 8, 9, 10, 24]) : (cmdS σ s p E kd it cu am).2.1 j = σ.2.1 j := by
  simp at hj
  have hs := (cmdS_same σ s p E kd it cu am).2.1 j (by simp [hj])
  rw [hs, uI_o hj.2.2.2.2.2.2, uI_o hj.1]
theorem cmdS_F (σ : xS) (s p E : Nat) (kd it cu am : Int32) : same [4, 6, 7, 8, 9, 10, 24] σ (cmdS σ s p E kd it cu am) := by
  refine ⟨(cmdS_same σ s p E kd it cu am).1, fun j hj => cmdS_o hj, fun j hj => ?_⟩
  simp at hj
  have := (cmdS_same σ s p E kd it cu am).2.2 j (by simp [hj])
  rw [this]
  rfl
def eC (e : Nat → Nat) (p : Nat) : Nat → Nat := fun q => if q = p then e p + 1 else e q
theorem cmd_inv (h : Inv P N R T e t σ) {s p it cu am : Nat} {kd : Int32} (hs : s < 8) (hp : p < P) (hE : e p < 400) (hit : it < 30) (hcu : cu < 10) (ham : 1 ≤ am ∧ am ≤ 1000) : Inv P N R T (eC e p) t (cmdS σ s p (e p) kd (nI it) (nI cu) (nI am)) := by
  have hF := cmdS_F σ s p (e p) kd (nI it) (nI cu) (nI am)
  have hee : ∀ q, e q ≤ eC e p q := fun q => by
    unfold eC
    split
    · rename_i hq
      subst hq
      omega
    · exact Nat.le_refl _
  obtain ⟨⟨h1, h2, h3, h4, h5, h6, h7, h8⟩, h9⟩ := h
  have hP3 := h1.2.1
  have e4 := cmdS_4 σ s p (e p) kd (nI it) (nI cu) (nI am)
  have e24 := cmdS_24 σ s p (e p) kd (nI it) (nI cu) (nI am)
  refine ⟨⟨h1.same hF, ?_, ?_, h4.same hF (by decide) (by decide), ?_, h6.same hF (by decide), h7.same hF (by decide), ?_⟩, ?_⟩
  · intro q hq
    obtain ⟨g1, g2, g3, g4, g5⟩ := h2 q hq
    have hcok : ∀ j, 1 ≤ j → j ≤ e q → cok P (cmdS σ s p (e p) kd (nI it) (nI cu) (nI am)) (401 * q + j) := by
      intro j j1 j2
      have hne : 401 * q + j ≠ 401 * p + (e p + 1) := by
        by_cases hqp : q = p
        · subst hqp
          omega
        · omega
      obtain ⟨c1, c2, c3, c4⟩ := g5 j j1 j2
      unfold cok
      rw [cmdS_k (Or.inr (Or.inl rfl)) hne, cmdS_k (Or.inr (Or.inr (Or.inl rfl))) hne, cmdS_k (Or.inr (Or.inr (Or.inr rfl))) hne]
      exact ⟨c1, c2, c3, fun r r1 r2 => by rw [cmdS_10o (fun r' hr' => by omega)]; exact c4 r r1 r2⟩
    rw [e4, hF.2.1 5 (by decide)]
    by_cases hqp : q = p
    · subst hqp
      have eE : eC e q q = e q + 1 := if_pos rfl
      rw [eE]
      refine ⟨by simp [va_up], g2, by omega, by omega, fun j j1 j2 => ?_⟩
      by_cases hj : j = e q + 1
      · subst hj
        obtain ⟨-, a7, a8, a9⟩ := cmdS_at σ s q (e q) kd (nI it) (nI cu) (nI am)
        refine ⟨⟨it, hit, a7⟩, ⟨cu, hcu, a8⟩, ⟨am, ham.1, ham.2, a9⟩, fun r r1 r2 => ?_⟩
        rw [cmdS_10 _ _ _ _ _ _ _ _ _ r2]
        obtain ⟨⟨w, -, ew, -, w0⟩, -, s0⟩ := (h5 s hs).2 r r2
        unfold needN
        rw [ew, w0 r1, s0 r1]
        split <;> split <;> rfl
      · exact hcok j j1 (by omega)
    · have eE : eC e p q = e q := if_neg hqp
      rw [eE]
      refine ⟨by simp only [va_up, if_neg hqp]; exact g1, g2, g3, g4, hcok⟩
  · unfold i_at
    rw [hF.2.1 18 (by decide)]
    refine ⟨fun s' hs' q hq => ?_, h3.2⟩
    obtain ⟨a, a1, a2, a3, a4⟩ := h3.1 s' hs' q hq
    exact ⟨a, a1, a2, fun hqP => Nat.le_trans (a3 hqP) (hee q), a4⟩
  · intro j hj
    obtain ⟨g1, g2⟩ := h5 j hj
    rw [hF.2.1 23 (by decide), hF.2.1 25 (by decide), e24]
    refine ⟨g1, fun q hq => ⟨?_, (g2 q hq).2⟩⟩
    obtain ⟨w, w1, w2, w3, w4⟩ := (g2 q hq).1
    by_cases hc : 3 * j + q = 3 * s + p
    · obtain ⟨rfl, rfl⟩ : j = s ∧ q = p := by omega
      refine ⟨e q + 1, by omega, by simp [va_up], fun _ => ?_, fun h => by omega⟩
      unfold eC
      rw [if_pos rfl]
      exact Nat.le_refl _
    · simp only [va_up, if_neg hc]
      exact ⟨w, w1, w2, fun hqP => Nat.le_trans (w3 hqP) (hee q), w4⟩
  · have : wl (cmdS σ s p (e p) kd (nI it) (nI cu) (nI am)) R = wl σ R := by
      unfold wl
      rw [hF.2.1 27 (by decide)]
    rw [this]
    exact h8
  · intro r hr k hk h0
    have hN := h1.2.2.2.1
    rw [hF.2.1 27 (by decide)] at h0
    cases hm : mayb P (cmdS σ s p (e p) kd (nI it) (nI cu) (nI am)) r k
    · rfl
    · obtain ⟨s', hs', es'⟩ := (h6 k hk).1
      have hsn : sn σ k = s' := by unfold sn; rw [es', nI_clamp (by omega)]
      have := may_m (τ := cmdS σ s p (e p) kd (nI it) (nI cu) (nI am)) (σ := σ) (P := P) (r := r) (k := k) (by rw [hF.2.1 21 (by decide)]; exact id) (by rw [hF.2.1 28 (by decide)]) (fun q hq => by rw [hF.2.1 29 (by decide)]) (by rw [hF.2.1 22 (by decide)]) (fun q hq => by
        rw [e24, hsn]
        by_cases hc : 3 * s' + q = 3 * s + p
        · obtain ⟨rfl, rfl⟩ : s' = s ∧ q = p := by omega
          obtain ⟨w, w1, w2, w3, w4⟩ := ((h5 s' hs').2 q (by omega)).1
          simp only [va_up, if_true]
          rw [w2]
          exact nI_le (by have := w3 hq; omega) (by omega)
        · simp only [va_up, if_neg hc]
          exact Int32.le_refl _) (fun q hq => by rw [hF.2.1 25 (by decide)]; exact Int32.le_refl _) (by rw [hF.2.1 30 (by decide)]) (fun q hq => by rw [hF.2.1 18 (by decide)]; exact Int32.le_refl _) (fun q hq => by
        rw [hF.2.1 18 (by decide), e4]
        by_cases hc : q = p
        · subst hc
          obtain ⟨a, a1, a2, a3, a4⟩ := h3.1 r (by omega) q (by omega)
          simp only [va_up, if_true]
          rw [a1, (h2 q hq).1, Int32.le_iff_toInt_le, Int32.le_iff_toInt_le, pk_sub_toInt (by omega) (by omega), pk_sub_toInt (by omega) (by omega)]
          omega
        · simp only [va_up, if_neg hc]
          exact id) hm
      rw [h9 r hr k hk h0] at this
      cases this
end XCV
section XCW
variable {x : xX} {y : xY} {σ : xS} {h : xH} {t : Nat → Nat}
theorem JL.cmd {p a : Nat} (hx : Wx x) (hp : p < dP x) (hE : dE x p < 400) (ht : t p ≤ dE x p) (hj : JL x y t) : JL (addC x p a) (yr y p (va_up (y.2.2 p) (dE x p) (some a))) t := by
  intro q hq j hj4
  have hq : q < dP x := hq
  rw [addC_E]
  show va_up y.2.2 p (va_up (y.2.2 p) (dE x p) (some a)) q j = _
  by_cases hqp : q = p
  · subst hqp
    simp only [va_up, if_true]
    by_cases hje : j = dE x q
    · subst hje
      rw [if_pos rfl, if_pos (by omega), addC_22]
    · rw [if_neg hje, hj q hq j hj4]
      by_cases hc : t q ≤ j ∧ j < dE x q
      · rw [if_pos hc, if_pos (by omega), addC_en (by omega)]
      · rw [if_neg hc, if_neg (by omega)]
  · simp only [va_up, if_neg hqp]
    rw [hj q hq j hj4]
    by_cases hc : t q ≤ j ∧ j < dE x q
    · rw [if_pos hc, if_pos hc, addC_en (by omega)]
    · rw [if_neg hc, if_neg hc]
theorem JR.cmd {p a : Nat} {f : Nat → Option Nat} (hp : p < 3) (hj : JR x y) : JR (addC x p a) (yr y p f) := by
  intro k hk
  show va_up y.2.2 p f 3 k = _
  have : ¬ 3 = p := by omega
  simp only [va_up, if_neg this]
  rw [addC_en (by omega)]
  exact hj k hk
theorem Fr.cmd {p : Nat} {H : xH} (hf : Fr x h) (hH : h.1.1 + 3 ≤ H.1.1) : Fr (addC x p h.1.1) H := by
  intro t i j hv
  rcases addC_v hv with hv | ⟨ht, rfl, rfl⟩
  · rw [addC_en (addC_o hv)]
    have := hf t i j hv
    omega
  · rcases ht with rfl | rfl | rfl
    · rw [addC_22]; omega
    · rw [addC_23]; omega
    · rw [addC_24]; omega
end XCW
