/-! side by side: command, logged, told, ask -/
section XEC
variable {x : xX} {y : xY} {σ : xS} {h : xH} {T : Nat} {t : Nat → Nat} {m : Nat}
theorem addC_grow {p a : Nat} : Grow x (addC x p a) a := by
  intro t i j hv
  rcases addC_v hv with hv | ⟨ht, rfl, rfl⟩
  · exact Or.inl ⟨hv, addC_en (addC_o hv)⟩
  · right
    rcases ht with rfl | rfl | rfl
    · rw [addC_22]; omega
    · rw [addC_23]; omega
    · rw [addC_24]; omega
theorem addR_grow {a b n : Nat} (ha : n ≤ a) (hb : n ≤ b) : Grow x (addR x a b) n := by
  intro t i j hv
  rcases addR_v hv with hv | ⟨ht, rfl, rfl⟩
  · exact Or.inl ⟨hv, addR_en (addR_o hv)⟩
  · right
    rcases ht with rfl | rfl | rfl
    · rw [addR_25]; omega
    · rw [addR_26]; omega
    · rw [addR_27]; omega
theorem inb_of1 {v : Int32} (h1 : inb v.toInt64 1 1000 = true) : ∃ k, 1 ≤ k ∧ k ≤ 1000 ∧ v = nI k := by
  obtain ⟨g1, g2⟩ := (inb_iff _ _ _).mp h1
  have g1 : (1 : Int) ≤ v.toInt := g1
  have g2 : v.toInt ≤ (1000 : Int) := g2
  obtain ⟨k, hk, rfl⟩ := inb_of (x := v) (n := 1001) (hi := 1000) (by omega) (by decide) ((inb_iff _ _ _).mpr ⟨by show (0 : Int) ≤ _; omega, g2⟩)
  rw [nI_toInt (by omega)] at g1
  exact ⟨k, by omega, by omega, rfl⟩
theorem p_command {a b c d f : Int32} (hk : Kn x y σ T t) (hf : Fr x h) (hr : rmo h) : Pair [(10, 1), (11, 2), (12, 3)] (f_RS_command (en x 0 0 0) a b c d f) (f_Mdl_command m a b c d f) m xi xi x y σ h T := by
  have hz := hk.z
  have hP3 := hk.1.2.2.1
  have hP1 := hk.P1
  cases h1 : (inb a.toInt64 0 7 && (inb c.toInt64 0 29 && inb d.toInt64 0 9))
  · exact prT 10 1 hk hf (by decide) (c_command1 hk.1 hf hr.six h1) (fun g => s_command1 hk.P hk.P1 hP3 h1)
  · rw [Bool.and_eq_true, Bool.and_eq_true] at h1
    obtain ⟨s, hs, rfl⟩ := inb_of (n := 8) (by omega) (by decide) h1.1
    obtain ⟨it, hit, rfl⟩ := inb_of (n := 30) (by omega) (by decide) h1.2.1
    obtain ⟨cu, hcu, rfl⟩ := inb_of (n := 10) (by omega) (by decide) h1.2.2
    cases h4 : (inb b.toInt64 0 4 && inb f.toInt64 1 1000)
    · exact prT 11 2 hk hf (by decide) (c_command2 hk.1 hf hr.six hs hit hcu h4) (fun g => s_command2 hk.P hk.P1 hP3 h1.1 h1.2.1 h1.2.2 h4)
    · rw [Bool.and_eq_true] at h4
      have hp : it % dP x < dP x := Nat.mod_lt _ (by omega)
      obtain ⟨e4, e5, e6, e7, -⟩ := hk.2.1.1.2.1 _ hp
      by_cases hE : dE x (it % dP x) < 400
      · obtain ⟨am, am1, am2, rfl⟩ := inb_of1 h4.2
        have g1 := c_command0 (h := h) (y := y) hk.1 hz.2.1 hf hr.ten hs hit hcu h4.1 h4.2 hE
        refine prG (T' := T) (t' := t) g1 (fun g => s_command0 hk.P hk.P1 hP3 hs hit h1.2.2 h4.1 h4.2 e4 hE) rfl ?_ (((Ext.cH h _ _).trans (Ext.vH _ _)).mono (by omega) (by omega)) addC_grow (Fr.cmd hf ?_) ⟨?_, ?_, ?_, ?_, ?_⟩ (by omega) (addC_en (by omega))
        · rw [(cmdS_F _ _ _ _ _ _ _ _).1]
          exact uS_g σ 2 0
        · show h.1.1 + 3 ≤ h.1.1 + 3 + 1 + 1
          omega
        · exact addC_wx hk.1 hp hE (hf.off (by omega)) (hf.off (by omega)) (hf.off (by omega))
        · exact cmd_inv hz.2.1 hs hp hE hit hcu ⟨am1, am2⟩
        · have := JW.st (τ := cmdS (uS σ 2 0) s (it % dP x) (dE x (it % dP x)) b (nI it) (nI cu) (nI am)) (cmdS_o (by decide)) hz.2.2.1
          exact this
        · exact hk.2.2.2.1.cmd (by omega)
        · exact hk.2.2.2.2.cmd hk.1 hp hE e6
      · have h400 : σ.2.1 4 (it % dP x) = 400 := by
          rw [e4, show dE x (it % dP x) = 400 by omega]
          rfl
        exact prT 12 3 hk hf (by decide) (c_command3 hk.1 hk.P hk.P1 hf hr.six hs hit hcu h4.1 h4.2 h400) (fun g => s_command3 hk.P hk.P1 hP3 h1.1 hit h1.2.2 h4.1 h4.2 h400)
theorem p_logged {a b c : Int32} (hk : Kn x y σ T t) (hf : Fr x h) (hr : rmo h) : Pair [(10, 1)] (f_RS_logged (en x 0 0 0) a b c) (f_Mdl_logged m a b c) m xj xj x y σ h T := by
  have hz := hk.z
  have hP3 := hk.1.2.2.1
  cases h1 : inb a.toInt64 0 (σ.1 0 - 1).toInt64
  · exact prT 10 1 hk hf (by decide) (c_logged1 hk.1 hk.P hf hr.six h1) (fun g => s_logged1 (by rw [h1]; rfl))
  · obtain ⟨p, hpP, rfl⟩ := part_of hk.1 hk.P h1
    obtain ⟨e4, e5, e6, e7, -⟩ := hk.2.1.1.2.1 _ hpP
    by_cases h3 : b ≤ σ.2.1 5 p ∨ σ.2.1 4 p < b
    · refine prT 10 1 (d := 0) hk hf (by decide) (c_logged1a hk.1 hk.2.1.1 hf hr.six hpP h3) (fun g => ?_)
      cases h2 : inb c.toInt64 0 6
      · exact s_logged1 (by rw [h2, Bool.and_false])
      · exact s_logged1' (by omega) h1 h2 h3
    · rw [not_or] at h3
      obtain ⟨j, hj, rfl⟩ : ∃ j, (t p < j ∧ j ≤ dE x p) ∧ b = nI j := by
        have g := h3
        rw [e4, e5, Int32.le_iff_toInt_le, Int32.lt_iff_toInt_lt, nI_toInt (by omega), nI_toInt (by omega)] at g
        refine ⟨b.toInt.toNat, by omega, ?_⟩
        apply Int32.toInt_inj.mp
        rw [nI_toInt (by omega)]
        omega
      cases h2 : inb c.toInt64 0 6
      · exact prT 10 1 hk hf (by decide) (c_logged1b hk.1 hk.2.1.1 hf hr.six hpP hj h2) (fun g => s_logged1 (by rw [h2, Bool.and_false]))
      · obtain ⟨w, hw, rfl⟩ := inb_of (n := 7) (by omega) (by decide) h2
        exact prS hf (c_logged0 hk.1 hz.2.1.1 hk.2.2.2.2 hpP hj hw) (fun g => s_logged0 (by omega) hw (by omega) h1 h3.1 h3.2) rfl (uS_g σ 2 0) hz (by omega)
theorem p_told {a : Int64} {b : Int32} (hk : Kn x y σ T t) (hf : Fr x h) (hr : rmo h) : Pair [(10, 1), (11, 2)] (f_RS_told (en x 0 0 0) a b) (f_Mdl_told m a b) m xj xj x y σ h T := by
  have hz := hk.z
  have hP3 := hk.1.2.2.1
  cases h1 : inb b.toInt64 0 (σ.1 0 - 1).toInt64
  · exact prT 10 1 hk hf (by decide) (c_tld1 hk.1 hk.P hf hr.six h1) (fun g => s_told1 h1)
  · obtain ⟨p, hpP, rfl⟩ := part_of hk.1 hk.P h1
    cases h2 : isTok (dP x) σ a
    · exact prE 11 2 hk (by decide) (c_tld2 hk.1 hk.P hf hr.ten hpP h2) (fun g => s_told2 hk.P hP3 h1 h2)
    · exact prG (c_tld0 hk.1 hz.P hf hr.ten hpP h2) (fun g => s_told0 hk.P hP3 h1 h2) rfl (uS_g σ 2 0) ((Ext.vH _ _).mono (by omega) (by omega)) (Grow.refl _) hf.vH hz (by omega) rfl
end XEC
section XED
variable {x : xX} {y : xY} {σ : xS} {h : xH} {T : Nat} {t : Nat → Nat} {m : Nat} {s : Nat} {tok : Int64} {bd pt kd ab : Int32} {P N R : Nat} {e : Nat → Nat}
theorem er_eq {σ' : xS} (hc : ∀ t i j, vd x t i j = true → cd x y σ' t i j = cd x y σ t i j) : er x y σ' h = er x y σ h := by
  refine Prod.ext rfl (funext fun q => ?_)
  show (if vd x (tg x q).1 (tg x q).2.1 (tg x q).2.2 = true ∧ en x (tg x q).1 (tg x q).2.1 (tg x q).2.2 = q then some (cd x y σ' (tg x q).1 (tg x q).2.1 (tg x q).2.2) else h.2 q) = (if vd x (tg x q).1 (tg x q).2.1 (tg x q).2.2 = true ∧ en x (tg x q).1 (tg x q).2.1 (tg x q).2.2 = q then some (cd x y σ (tg x q).1 (tg x q).2.1 (tg x q).2.2) else h.2 q)
  by_cases hq : vd x (tg x q).1 (tg x q).2.1 (tg x q).2.2 = true ∧ en x (tg x q).1 (tg x q).2.1 (tg x q).2.2 = q
  · rw [if_pos hq, if_pos hq, hc _ _ _ hq.1]
  · rw [if_neg hq, if_neg hq]
theorem er_askT : er x y (askT σ (dR x) s tok bd pt kd ab) h = er x y σ h := by
  refine er_eq fun t i j hv => ?_
  by_cases h25 : t = 25
  · subst h25
    have hb : i < dR x ∧ j = 0 := of_decide_eq_true hv
    obtain ⟨hi, rfl⟩ := hb
    have hne : i ≠ dR x := by omega
    rw [cd_25, cd_25, askT_o hne (by decide), askT_o hne (by decide), askT_o hne (by decide), askT_o hne (by decide), askT_o hne (by decide), askT_o hne (by decide), askT_o hne (by decide), askT_o hne (by decide), askT_o hne (by decide), askT_oJ hne (by decide), askT_oJ hne (by decide)]
  by_cases h27 : t = 27
  · subst h27
    have hb : i < dR x ∧ j = 0 := of_decide_eq_true hv
    rw [hb.2, cd_27, cd_27]
    congr 4
    refine cl_ext fun q hq => ?_
    rw [askT_29o (fun r hr => by omega)]
  · refine cd_same (askT_same σ (dR x) s tok bd pt kd ab) t i j (fun k hk hm => ?_)
    simp at hm
    rcases hm with rfl | rfl | rfl | rfl | rfl | rfl | rfl | rfl | rfl | rfl | rfl
    · exact h25 (rd28 hk)
    · exact h27 (rd29 hk)
    · exact h25 (rd30 hk)
    · exact h25 (rd31 hk)
    · exact h25 (rd32 hk)
    · exact h25 (rd33 hk)
    · exact h25 (rd34 hk)
    · exact h25 (rd35 hk)
    · exact h25 (rd36 hk)
    · exact h25 (rd37 hk)
    · exact h25 (rd38 hk)
theorem askT_inv (h : Inv P N R T e t σ) : Inv P N R T e t (askT σ R s tok bd pt kd ab) := by
  have hS := askT_same σ R s tok bd pt kd ab
  obtain ⟨⟨g1, g2, g3, g4, g5, g6, g7, g8⟩, g9⟩ := h
  have hP3 := g1.2.1
  have e27 : (askT σ R s tok bd pt kd ab).2.1 27 = σ.2.1 27 := hS.2.1 27 (by decide)
  refine ⟨⟨g1.same hS, g2.same hS (by decide), g3.same hS (by decide), g4.same hS (by decide) (by decide), g5.same hS (by decide), ?_, g7.same hS (by decide), ?_⟩, fun r hr k hk h0 => ?_⟩
  · intro k hk
    have hkR : k ≠ R := by omega
    rw [askT_o hkR (by decide), askT_o hkR (by decide), askT_o hkR (by decide), askT_o hkR (by decide), askT_o hkR (by decide), askT_o hkR (by decide)]
    have := g6 k hk
    refine ⟨this.1, this.2.1, fun q h1 h2 => ?_, this.2.2.2⟩
    rw [askT_29o (fun r hr => by omega)]
    exact this.2.2.1 q h1 h2
  · unfold wl
    rw [e27]
    exact g8
  · rw [e27] at h0
    have hkR : k ≠ R := by omega
    have hf := g9 r hr k hk h0
    cases hm : mayb P (askT σ R s tok bd pt kd ab) r k
    · rfl
    · have := may_m (τ := askT σ R s tok bd pt kd ab) (σ := σ) (P := P) (r := r) (k := k) (by rw [hS.2.1 21 (by decide)]; exact id) (askT_o hkR (by decide)) (fun p hp => askT_29o (fun r hr => by omega)) (by rw [hS.2.1 22 (by decide)]) (fun p hp => by rw [hS.2.1 24 (by decide)]; exact Int32.le_refl _) (fun p hp => by rw [hS.2.1 25 (by decide)]; exact Int32.le_refl _) (askT_o hkR (by decide)) (fun p hp => by rw [hS.2.1 18 (by decide)]; exact Int32.le_refl _) (fun p hp => by rw [hS.2.1 18 (by decide), hS.2.1 4 (by decide)]; exact id) hm
      rw [hf] at this
      cases this
theorem askF_ok {τ : xS} {hm : Nat} (hok : fndS P N τ hm R < N ∨ pt = 0 ∨ ¬ cnt τ 0 R = 40) : (askF P N τ hm R pt).1 = nI R ∧ (askF P N τ hm R pt).2.1 2 = 0 := by
  have z : (ask2 τ R).1 2 = 0 := by simp [ask2, uS, uI, va_up]
  unfold askF
  by_cases c1 : fndS P N τ hm R < N
  · rw [if_pos c1]
    refine ⟨rfl, ?_⟩
    show (ansS P _ _ _).1 2 = 0
    rw [(ans_same _ _ _ _).1]
    exact z
  · rw [if_neg c1]
    by_cases c2 : pt = 0
    · rw [if_pos c2]
      exact ⟨rfl, z⟩
    · rw [if_neg c2, if_neg ((hok.resolve_left c1).resolve_left c2)]
      exact ⟨rfl, z⟩
theorem askF_no {τ : xS} {hm : Nat} (hok : ¬ (fndS P N τ hm R < N ∨ pt = 0 ∨ ¬ cnt τ 0 R = 40)) : askF P N τ hm R pt = (0, uS τ 2 3) := by
  rw [not_or, not_or, Decidable.not_not] at hok
  unfold askF
  rw [if_neg hok.1, if_neg hok.2.1, if_pos hok.2.2]
theorem p_ask {a : Int32} (hk : Kn x y σ T t) (hf : Fr x h) (hr : rmo h) : Pair [(10, 1), (11, 2), (12, 3)] (f_RS_ask (en x 0 0 0) a tok bd pt kd ab) (f_Mdl_ask m a tok bd pt kd ab) m xj xj x y σ h T := by
  have hz := hk.z
  have hP3 := hk.1.2.2.1
  have hP1 := hk.P1
  have hR5 := hk.1.2.2.2.2
  cases h1 : (inb a.toInt64 0 7 && isQ (dP x) kd ab)
  · exact prT 10 1 hk hf (by decide) (c_ask1 hk.1 hk.P hk.P1 hf hr.six h1) (fun g => s_ask1 hk.P hP3 h1)
  · rw [Bool.and_eq_true] at h1
    obtain ⟨s, hs, rfl⟩ := inb_of (n := 8) (by omega) (by decide) h1.1
    have hq := isQ_qok hk.P1 hP3 h1.2
    cases h3 : (isTok (dP x) σ tok && (inb bd.toInt64 (-1) 400 && inb pt.toInt64 0 1000))
    · exact prE 11 2 hk (by decide) (c_ask2 hk.1 hk.P hk.2.1.1.2.1 hf hr.ten hs hq h3) (fun g => s_ask2 hk.P hP3 h1.1 h1.2 h3)
    · rw [Bool.and_eq_true, Bool.and_eq_true] at h3
      obtain ⟨h3, h4, h5⟩ := h3
      by_cases hR : dR x < 500
      · obtain ⟨hm, hhm, eh⟩ := (hk.2.1.1.2.2.2.2.1 s hs).1
        have hi := hk.2.1
        have sM : ∀ g, f_Mdl_ask m (nI s) tok bd pt kd ab (em g m σ) = _ := fun g => s_ask0 (h := g) (m := m) hk.P hk.N hk.R hP1 hP3 hi.1.1.2.2.1 hi.1.1.2.2.2.1 hR hs hhm eh (hi.1.2.2.2.1.sok hi.1.2.2.1) h1.2 hq h3 h4 h5
        obtain ⟨cA, cB⟩ := c_ask0 (h := h) (y := y) (σ := uS σ 2 0) hk.1 hz.2.1 hz.2.2.1 hf hr.ten hR hs eh hhm hq h3 h4 h5
        have ct : cnt (askT (uS σ 2 0) (dR x) s tok bd pt kd ab) 0 (dR x) = cnt (uS σ 2 0) 0 (dR x) := cnt_x (fun k hk => askT_o (by omega) (by decide))
        by_cases hok : fndS (dP x) (dN x) (askT (uS σ 2 0) (dR x) s tok bd pt kd ab) hm (dR x) < dN x ∨ pt = 0 ∨ ¬ cnt (uS σ 2 0) 0 (dR x) = 40
        · obtain ⟨y', g1, g2, g3⟩ := cA hok
          have iv := ask_inv hz.2.1 hR hs hhm hq h3 h4 h5 hok
          have fo := askF_ok (P := dP x) (N := dN x) (R := dR x) (pt := pt) (τ := askT (uS σ 2 0) (dR x) s tok bd pt kd ab) (hm := hm) (by rw [ct]; exact hok)
          refine prG (T' := T) (t' := t) g1 sM ?_ fo.2 ((Ext.rH h _ _ _).mono (by omega) (by omega)) (addR_grow (by omega) (Nat.le_refl _)) (Fr.ask hf ?_) ⟨?_, iv, g2, hk.2.2.2.1.ask g3, hk.2.2.2.2.ask hP3 g3⟩ (by omega) (addR_en (by omega))
          · show xj (nI (dR x)) = xj _
            rw [fo.1]
          · show h.1.1 + 3 ≤ h.1.1 + 1 + 1 + 1
            omega
          · exact addR_wx hk.1 hR (by omega) (hf.off (by omega)) (hf.off (by omega)) (hf.off (by omega))
        · have cE := cB hok
          have fo := askF_no (P := dP x) (N := dN x) (R := dR x) (pt := pt) (τ := askT (uS σ 2 0) (dR x) s tok bd pt kd ab) (hm := hm) (by rw [ct]; exact hok)
          rw [fo] at sM
          have cE' : ThrE (f_RS_ask (en x 0 0 0) (nI s) tok bd pt kd ab) x y σ h 12 := by
            unfold ThrE at cE ⊢
            simp only [er_2] at cE
            exact cE
          refine Or.inl ⟨(12, 3), by decide, 0, _, t, cE', sM, uS_g _ _ _, fun H => ?_, ⟨hk.1, (askT_inv hz.2.1).thr, ?_, hk.2.2.2⟩⟩
          · rw [er_2, er_askT, er_2]
          · exact JW.st (askT_same (uS σ 2 0) (dR x) s tok bd pt kd ab |>.2.1 27 (by decide)) hz.2.2.1
      · have h500 : σ.1 26 = 500 := by
          rw [hk.R, show dR x = 500 by omega]
          rfl
        exact prE 12 3 hk (by decide) (c_ask3 hk.1 hk.P hf hr.ten hs hq h3 h4 h5 h500) (fun g => s_ask3 hk.P hP3 h1.1 h1.2 h3 h4 h5 h500)
end XED
