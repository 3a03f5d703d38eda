/-! component and model side by side: one operation of each -/
/-- the layout grew by addresses from n on -/
def Grow (x x' : xX) (n : Nat) : Prop := ∀ t i j, vd x' t i j = true → (vd x t i j = true ∧ en x' t i j = en x t i j) ∨ n ≤ en x' t i j
/-- what holds between operations -/
def Kn (x : xX) (y : xY) (σ : xS) (T : Nat) (t : Nat → Nat) : Prop := Wx x ∧ Inv (dP x) (dN x) (dR x) T (dE x) t σ ∧ JW (dR x) y σ ∧ JR x y ∧ JL x y t
def PrT {α α' : Type} (L : List (Nat × Int32)) (F : xM α) (M : xM α') (m : Nat) (x : xX) (y : xY) (σ : xS) (h : xH) (T : Nat) : Prop := ∃ c, c ∈ L ∧ ∃ d σ' t', ThrE F x y σ h c.1 ∧ (∀ g, M (em g m σ) = some (.inl d, em g m σ')) ∧ σ'.1 2 = c.2 ∧ (∀ H, er x y σ' H = er x y σ H) ∧ Kn x y σ' T t'
def PrS {α α' : Type} (F : xM α) (M : xM α') (m : Nat) (j : α → Int64) (j' : α' → Int64) (x : xX) (y : xY) (σ : xS) (h : xH) (T : Nat) : Prop := ∃ v v' x' y' σ' h' T' t', F (er x y σ h) = some (.inl v, er x' y' σ' h') ∧ (∀ g, M (em g m σ) = some (.inl v', em g m σ')) ∧ j v = j' v' ∧ σ'.1 2 = 0 ∧ Ext h h' 20 100 ∧ Grow x x' h.1.1 ∧ Fr x' h' ∧ Kn x' y' σ' T' t' ∧ T' ≤ T + 100 ∧ en x' 0 0 0 = en x 0 0 0
def Pair {α α' : Type} (L : List (Nat × Int32)) (F : xM α) (M : xM α') (m : Nat) (j : α → Int64) (j' : α' → Int64) (x : xX) (y : xY) (σ : xS) (h : xH) (T : Nat) : Prop := PrT L F M m x y σ h T ∨ PrS F M m j j' x y σ h T
abbrev xj : Int32 → Int64 := Int32.toInt64
abbrev xi : Int64 → Int64 := id
/-- room for one operation -/
def rmo (h : xH) : Prop := 20 ≤ h.1.2.1 ∧ 100 ≤ h.1.2.2
section XEA
variable {α α' : Type} {x x' : xX} {y y' : xY} {σ σ' : xS} {h h' : xH} {T T' : Nat} {t t' : Nat → Nat} {m : Nat}
theorem rmo.six (hr : rmo h) : rm6 h := by
  unfold rmo at hr
  unfold rm6
  omega
theorem rmo.ten (hr : rmo h) : 10 ≤ h.1.2.1 ∧ 50 ≤ h.1.2.2 := by
  unfold rmo at hr
  omega
theorem Grow.refl (n : Nat) : Grow x x n := fun _ _ _ hv => Or.inl ⟨hv, rfl⟩
theorem Kn.z (hk : Kn x y σ T t) : Kn x y (uS σ 2 0) T t := ⟨hk.1, hk.2.1.thr, JW.st (σ := σ) (τ := uS σ 2 0) rfl hk.2.2.1, hk.2.2.2⟩
theorem Kn.P (hk : Kn x y σ T t) : σ.1 0 = nI (dP x) := hk.2.1.1.1.2.2.2.2.2.2.1
theorem Kn.N (hk : Kn x y σ T t) : σ.1 1 = nI (dN x) := hk.2.1.1.1.2.2.2.2.2.2.2.1
theorem Kn.R (hk : Kn x y σ T t) : σ.1 26 = nI (dR x) := hk.2.1.1.1.2.2.2.2.2.2.2.2.1
theorem Kn.tm (hk : Kn x y σ T t) : σ.1 3 = nI T := hk.2.1.1.1.2.2.2.2.2.2.2.2.2
theorem Kn.P1 (hk : Kn x y σ T t) : 1 ≤ dP x := hk.2.1.1.1.1
theorem Kn.T5 (hk : Kn x y σ T t) : T ≤ 100000 := hk.2.1.1.1.2.2.2.2.2.1
theorem prE {L : List (Nat × Int32)} {F : xM α} {M : xM α'} {j : α → Int64} {j' : α' → Int64} (ci : Nat) (cd : Int32) (hk : Kn x y σ T t) (hm : (ci, cd) ∈ L) {d : α'} (ht : ThrE F x y σ h ci) (hM : ∀ g, M (em g m σ) = some (.inl d, em g m (uS σ 2 cd))) : Pair L F M m j j' x y σ h T := Or.inl ⟨(ci, cd), hm, d, uS σ 2 cd, t, ht, hM, uS_g _ _ _, fun H => er_2 _, ⟨hk.1, hk.2.1.thr, JW.st (σ := σ) (τ := uS σ 2 cd) rfl hk.2.2.1, hk.2.2.2⟩⟩
theorem prT {L : List (Nat × Int32)} {F : xM α} {M : xM α'} {j : α → Int64} {j' : α' → Int64} (ci : Nat) (cd : Int32) (hk : Kn x y σ T t) (hf : Fr x h) (hm : (ci, cd) ∈ L) {d : α'} (ht : Thr F x y σ h ci) (hM : ∀ g, M (em g m σ) = some (.inl d, em g m (uS σ 2 cd))) : Pair L F M m j j' x y σ h T := prE ci cd hk hm (ht.e hf) hM
theorem prS {L : List (Nat × Int32)} {F : xM α} {M : xM α'} {j : α → Int64} {j' : α' → Int64} {v : α} {v' : α'} (hf : Fr x h) (e : F (er x y (uS σ 2 0) h) = some (.inl v, er x y' σ' h)) (hM : ∀ g, M (em g m σ) = some (.inl v', em g m σ')) (hv : j v = j' v') (h2 : σ'.1 2 = 0) (hk : Kn x y' σ' T' t') (hT : T' ≤ T + 100) : Pair L F M m j j' x y σ h T := by
  rw [er_2] at e
  exact Or.inr ⟨v, v', x, y', σ', h, T', t', e, hM, hv, h2, Ext.refl _ _ _, Grow.refl _, hf, hk, hT, rfl⟩
theorem prG {L : List (Nat × Int32)} {F : xM α} {M : xM α'} {j : α → Int64} {j' : α' → Int64} {v : α} {v' : α'} (e : F (er x y (uS σ 2 0) h) = some (.inl v, er x' y' σ' h')) (hM : ∀ g, M (em g m σ) = some (.inl v', em g m σ')) (hv : j v = j' v') (h2 : σ'.1 2 = 0) (he : Ext h h' 20 100) (hg : Grow x x' h.1.1) (hf : Fr x' h') (hk : Kn x' y' σ' T' t') (hT : T' ≤ T + 100) (h0 : en x' 0 0 0 = en x 0 0 0) : Pair L F M m j j' x y σ h T := by
  rw [er_2] at e
  exact Or.inr ⟨v, v', x', y', σ', h', T', t', e, hM, hv, h2, he, hg, hf, hk, hT, h0⟩
theorem Kn.same {F : List Nat} (hk : Kn x y σ T t) (hi : Inv (dP x) (dN x) (dR x) T (dE x) t σ') (hs : σ'.2.1 27 = σ.2.1 27) : Kn x y σ' T t := ⟨hk.1, hi, hk.2.2.1.st hs, hk.2.2.2⟩
theorem Kn.yy (hk : Kn x y σ T t) (hi : Inv (dP x) (dN x) (dR x) T' (dE x) t σ') (hj : JW (dR x) y' σ') (hy : y'.2.2 = y.2.2) : Kn x y' σ' T' t := by
  refine ⟨hk.1, hi, hj, ?_, ?_⟩
  · intro k hk2
    rw [hy]
    exact hk.2.2.2.1 k hk2
  · intro p hp j hj2
    rw [hy]
    exact hk.2.2.2.2 p hp j hj2
end XEA
section XEB
variable {x : xX} {y : xY} {σ : xS} {h : xH} {T : Nat} {t : Nat → Nat} {m : Nat}
theorem p_mode {a b : Int32} (hk : Kn x y σ T t) (hf : Fr x h) (hr : rmo h) : Pair [(10, 1), (11, 2)] (f_RS_mode (en x 0 0 0) a b) (f_Mdl_mode m a b) m xj xj x y σ h T := by
  have hk' := hk
  obtain ⟨hx, hi, hj, hjr, hjl⟩ := hk'
  cases h1 : inb a.toInt64 0 7
  · exact prT 10 1 hk hf (by decide) (c_mode1 hx hf hr.six h1) (fun g => s_mode1 h1)
  · obtain ⟨j, hj8, rfl⟩ := inb_of (n := 8) (by omega) (by decide) h1
    cases h2 : inb b.toInt64 0 15
    · exact prT 11 2 hk hf (by decide) (c_mode2 hx hf hr.six hj8 h2) (fun g => s_mode2 h1 h2)
    · have hz : Kn x y (uS σ 2 0) T t := Kn.z ⟨hx, hi, hj, hjr, hjl⟩
      obtain ⟨y', g1, g2, g3⟩ := c_mode0 (h := h) hx hz.2.1 hz.2.2.1 hjr hj8 h2
      have me := mode_eq hz.2.1 j b
      have hi2 := mode_inv hz.2.1 j b
      refine prS hf g1 (fun g => ?_) rfl ?_ (hz.yy hi2 g2 g3) (by omega)
      · rw [← me]
        exact s_mode0 hi.1.lok hi.1.1.2.2.2.2.2.2.2.1 hi.1.1.1 hi.1.1.2.1 hi.1.1.2.2.2.2.1 hi.1.1.2.2.2.1 hj8 h2
      · rw [(lookA_same _ _ _ _).1]
        exact uS_g σ 2 0
theorem p_home {a b : Int32} (hk : Kn x y σ T t) (hf : Fr x h) (hr : rmo h) : Pair [(10, 1)] (f_RS_home (en x 0 0 0) a b) (f_Mdl_home m a b) m xj xj x y σ h T := by
  have hz := hk.z
  cases h1 : (inb a.toInt64 0 7 && inb b.toInt64 0 (σ.1 1 - 1).toInt64)
  · exact prT 10 1 hk hf (by decide) (c_home1 hk.1 hk.N hf hr.six h1) (fun g => s_home1 h1)
  · rw [Bool.and_eq_true] at h1
    obtain ⟨j, hj8, rfl⟩ := inb_of (n := 8) (by omega) (by decide) h1.1
    obtain ⟨r, hrN, rfl⟩ := repl_of hk.1 hk.N h1.2
    exact prS hf (c_home0 hk.1 hj8 hrN) (fun g => s_home0 hj8 h1.2) rfl (uS_g σ 2 0) (Kn.same (F := []) hz (home_inv hz.2.1 hrN) (uI_o (by decide))) (by omega)
theorem p_step {a b : Int32} (hk : Kn x y σ T t) (hf : Fr x h) (hr : rmo h) : Pair [(10, 1)] (f_RS_step (en x 0 0 0) a b) (f_Mdl_step m a b) m xj xj x y σ h T := by
  have hz := hk.z
  cases h1 : (inb a.toInt64 0 (σ.1 1 - 1).toInt64 && inb b.toInt64 0 (σ.1 0 - 1).toInt64)
  · exact prT 10 1 hk hf (by decide) (c_step1 hk.1 hk.P hk.N hf hr.six h1) (fun g => s_step1 h1)
  · rw [Bool.and_eq_true] at h1
    obtain ⟨r, hrN, rfl⟩ := repl_of hk.1 hk.N h1.1
    obtain ⟨p, hpP, rfl⟩ := part_of hk.1 hk.P h1.2
    obtain ⟨y', g1, g2, g3⟩ := c_step0 (h := h) hk.1 hz.2.1 hz.2.2.1 hk.2.2.2.1 hk.2.2.2.2 hrN hpP
    have hs : Inv (dP x) (dN x) (dR x) T (dE x) t (if (uS σ 2 0).2.1 21 r = 0 then uS σ 2 0 else (advS (dP x) (uS σ 2 0) r p).2) := by
      split
      · exact hz.2.1
      · exact adv_inv hz.2.1 hrN hpP
    refine prS hf g1 (fun g => s_step0 hk.2.1 hrN hpP) rfl ?_ (hz.yy hs g2 g3) (by omega)
    show (if (uS σ 2 0).2.1 21 r = 0 then uS σ 2 0 else (advS (dP x) (uS σ 2 0) r p).2).1 2 = 0
    split
    · exact uS_g σ 2 0
    · rw [adv_sc]
      exact uS_g σ 2 0
theorem p_speed {a b : Int32} (hk : Kn x y σ T t) (hf : Fr x h) (hr : rmo h) : Pair [(10, 1), (11, 2)] (f_RS_speed (en x 0 0 0) a b) (f_Mdl_speed m a b) m xj xj x y σ h T := by
  have hz := hk.z
  have hN4 := hk.1.2.2.2.1
  cases h1 : inb a.toInt64 0 (σ.1 1 - 1).toInt64
  · exact prT 10 1 hk hf (by decide) (c_speed1 hk.1 hk.N hf hr.six h1) (fun g => s_speed1 h1)
  · obtain ⟨r, hrN, rfl⟩ := repl_of hk.1 hk.N h1
    cases h2 : inb b.toInt64 0 10
    · exact prT 11 2 hk hf (by decide) (c_speed2 hk.1 hf hr.six hrN h2) (fun g => s_speed2 h1 h2)
    · obtain ⟨v, hv, rfl⟩ := inb_of (n := 11) (by omega) (by decide) h2
      exact prS hf (c_speed0 hk.1 hrN h2) (fun g => s_speed0 (by omega) h1 h2) rfl (uS_g σ 2 0) (Kn.same (F := []) hz (speed_inv hz.2.1 (by omega)) (uI_o (by decide))) (by omega)
theorem p_ticks {a : Int32} (hk : Kn x y σ T t) (hf : Fr x h) (hr : rmo h) (hT : T + 100 ≤ 100000) : Pair [(11, 1)] (f_RS_ticks (en x 0 0 0) a) (f_Mdl_ticks m a) m xj xj x y σ h T := by
  have hz := hk.z
  cases h1 : inb a.toInt64 0 100
  · exact prT 11 1 hk hf (by decide) (c_ticks1 hf hr.six h1) (fun g => s_ticks1 h1)
  · obtain ⟨n, hn, rfl⟩ := inb_of (n := 101) (by omega) (by decide) h1
    obtain ⟨y', g1, g2, g3⟩ := c_ticks (h := h) hk.1 hz.2.1 (n := n) (by omega) (by omega) hz.2.2.1 hk.2.2.2.1 hk.2.2.2.2
    refine prS hf g1 (fun g => s_ticks0 hk.2.1 (by omega) (by omega)) rfl ?_ (hz.yy (ticks_inv hz.2.1 n (by omega)) g2 g3) (by omega)
    rw [ticks_sc _ _ _ _ _ _ (by decide)]
    exact uS_g σ 2 0
theorem p_up {a b : Int32} {j : Int32 → Int64} (hk : Kn x y σ T t) (hf : Fr x h) (hr : rmo h) (hb : b = 0 ∨ b = 1) : Pair [(10, 1)] (f_RS_up (en x 0 0 0) a b) (f_Mdl_up m a b) m j j x y σ h T := by
  have hz := hk.z
  have hN4 := hk.1.2.2.2.1
  cases h1 : inb a.toInt64 0 (σ.1 1 - 1).toInt64
  · exact prT 10 1 hk hf (by decide) (c_up1 hk.1 hk.N hf hr.six h1) (fun g => s_up1 h1)
  · obtain ⟨r, hrN, rfl⟩ := repl_of hk.1 hk.N h1
    obtain ⟨y', g1, g2, g3⟩ := c_up0 (h := h) hk.1 hz.2.1 hz.2.2.1 hk.2.2.2.1 hrN hb
    have hi := hk.2.1
    refine prS hf g1 (fun g => s_up0 hi.1.lok hi.1.1.1 hi.1.1.2.1 hi.1.1.2.2.2.2.1 (by omega) h1 hb (hi.1.2.2.2.2.2.2.1 r (by omega)).2.2) rfl ?_ (hz.yy (up_inv hz.2.1 hrN hb) g2 g3) (by omega)
    split
    · rw [(look_same _ _ _ _).1]
      exact uS_g σ 2 0
    · exact uS_g σ 2 0
theorem cp_sc2 (σ : xS) (a b : Nat) : (cpS (uS σ 2 0) a b).1 2 = 0 := by
  rw [(cpS_same _ _ _).1]
  exact uS_g σ 2 0
theorem cp_27 (σ : xS) (a b : Nat) : (cpS σ a b).2.1 27 = σ.2.1 27 := (cpS_same _ _ _).2.1 27 (by decide)
theorem p_snapshot {a : Int32} (hk : Kn x y σ T t) (hf : Fr x h) (hr : rmo h) : Pair [(10, 1)] (f_RS_snapshot (en x 0 0 0) a) (f_Mdl_snapshot m a) m xj xj x y σ h T := by
  have hz := hk.z
  have hN4 := hk.1.2.2.2.1
  cases h1 : inb a.toInt64 0 (σ.1 1 - 1).toInt64
  · exact prT 10 1 hk hf (by decide) (c_snapshot1 hk.1 hk.N hf hr.six h1) (fun g => s_snapshot1 h1)
  · obtain ⟨r, hrN, rfl⟩ := repl_of hk.1 hk.N h1
    exact prS hf (c_snapshot0 hk.1 hrN) (fun g => s_snapshot0 (by omega) h1) rfl (cp_sc2 _ _ _) (Kn.same (F := []) hz (snap_inv hz.2.1 hrN) (cp_27 _ _ _)) (by omega)
theorem p_crash {a : Int32} (hk : Kn x y σ T t) (hf : Fr x h) (hr : rmo h) : Pair [(10, 1)] (f_RS_crash (en x 0 0 0) a) (f_Mdl_crash m a) m xj xj x y σ h T := by
  have hz := hk.z
  have hN4 := hk.1.2.2.2.1
  cases h1 : inb a.toInt64 0 (σ.1 1 - 1).toInt64
  · exact prT 10 1 hk hf (by decide) (c_crash1 hk.1 hk.N hf hr.six h1) (fun g => s_crash1 h1)
  · obtain ⟨r, hrN, rfl⟩ := repl_of hk.1 hk.N h1
    exact prS hf (c_crash0 hk.1 hrN) (fun g => s_crash0 (by omega) h1) rfl (cp_sc2 _ _ _) (Kn.same (F := []) hz (crash_inv hz.2.1 hrN) (cp_27 _ _ _)) (by omega)
theorem p_trim (hk : Kn x y σ T t) (hf : Fr x h) : Pair [] (f_RS_trim (en x 0 0 0)) (f_Mdl_trim m) m xj xj x y σ h T := by
  have hz := hk.z
  obtain ⟨y', g1, g2, g3, g4⟩ := c_trim (h := h) hk.1 hz.2.1 hz.2.2.1 hk.2.2.2.1 hk.2.2.2.2
  refine prS hf g1 (fun g => s_trim0 hk.P hk.N hk.1.2.2.1 hk.1.2.2.2.1) rfl ?_ ⟨hk.1, trim_inv hz.2.1, g2, g3, g4⟩ (by omega)
  rw [(trim_same _ _ _).1]
  exact uS_g σ 2 0
theorem p_read {a b : Int32} (hk : Kn x y σ T t) (hf : Fr x h) (hr : rmo h) : Pair [(10, 1)] (f_RS_read (en x 0 0 0) a b) (f_Mdl_read m a b) m xi xi x y σ h T := by
  have hz := hk.z
  have hR5 := hk.1.2.2.2.2
  cases h1 : (inb a.toInt64 0 (σ.1 26 - 1).toInt64 && inb b.toInt64 0 5)
  · exact prT 10 1 hk hf (by decide) (c_read1 hk.1 hk.R hk.2.2.2.1 hf hr.six h1) (fun g => s_read1 h1)
  · rw [Bool.and_eq_true] at h1
    have h1a := h1.1
    rw [hk.R] at h1a
    obtain ⟨k, hkR, rfl⟩ := inb_of (n := dR x) (by omega) (hiN (by omega)) h1a
    obtain ⟨w, hw, rfl⟩ := inb_of (n := 6) (by omega) (by decide) h1.2
    exact prS hf (c_read0 hk.1 hz.R hk.2.2.2.1 hkR hw) (fun g => s_read0 (by omega) h1.1 h1.2) rfl (uS_g σ 2 0) hz (by omega)
theorem p_value {a b c : Int32} (hk : Kn x y σ T t) (hf : Fr x h) (hr : rmo h) : Pair [(10, 1)] (f_RS_value (en x 0 0 0) a b c) (f_Mdl_value m a b c) m xi xi x y σ h T := by
  have hz := hk.z
  have hN4 := hk.1.2.2.2.1
  cases h1 : (inb a.toInt64 0 (σ.1 1 - 1).toInt64 && isQ (dP x) b c)
  · exact prT 10 1 hk hf (by decide) (c_value1 hk.1 hk.P hk.N hk.P1 hf hr.six h1) (fun g => s_value1 hk.P h1)
  · rw [Bool.and_eq_true] at h1
    obtain ⟨r, hrN, rfl⟩ := repl_of hk.1 hk.N h1.1
    have hq := isQ_qok hk.P1 hk.1.2.2.1 h1.2
    have hi := hk.2.1
    exact prS hf (c_value0 hk.1 hz.P hk.P1 hrN hq) (fun g => s_value0 hk.P hk.P1 hk.1.2.2.1 (by omega) h1.1 h1.2 hq (hi.1.2.2.2.1.sok hi.1.2.2.1 r (by omega))) rfl (uS_g σ 2 0) hz (by omega)
theorem p_at {a b : Int32} (hk : Kn x y σ T t) (hf : Fr x h) (hr : rmo h) : Pair [(10, 1)] (f_RS_at (en x 0 0 0) a b) (f_Mdl_at m a b) m xj xj x y σ h T := by
  have hz := hk.z
  have hN4 := hk.1.2.2.2.1
  have hP3 := hk.1.2.2.1
  cases h1 : (inb a.toInt64 0 (σ.1 1 - 1).toInt64 && inb b.toInt64 0 (σ.1 0 - 1).toInt64)
  · exact prT 10 1 hk hf (by decide) (c_at1 hk.1 hk.P hk.N hf hr.six h1) (fun g => s_at1 h1)
  · rw [Bool.and_eq_true] at h1
    obtain ⟨r, hrN, rfl⟩ := repl_of hk.1 hk.N h1.1
    obtain ⟨p, hpP, rfl⟩ := part_of hk.1 hk.P h1.2
    exact prS hf (c_at0 hk.1 hz.P hrN hpP) (fun g => s_at0 (by omega) (by omega) h1.1 h1.2) rfl (uS_g σ 2 0) hz (by omega)
theorem p_kept {a b : Int32} (hk : Kn x y σ T t) (hf : Fr x h) (hr : rmo h) : Pair [(10, 1)] (f_RS_kept (en x 0 0 0) a b) (f_Mdl_kept m a b) m xj xj x y σ h T := by
  have hz := hk.z
  have hN4 := hk.1.2.2.2.1
  have hP3 := hk.1.2.2.1
  cases h1 : (inb a.toInt64 0 (σ.1 1 - 1).toInt64 && inb b.toInt64 0 (σ.1 0 - 1).toInt64)
  · exact prT 10 1 hk hf (by decide) (c_kept1 hk.1 hk.P hk.N hf hr.six h1) (fun g => s_kept1 h1)
  · rw [Bool.and_eq_true] at h1
    obtain ⟨r, hrN, rfl⟩ := repl_of hk.1 hk.N h1.1
    obtain ⟨p, hpP, rfl⟩ := part_of hk.1 hk.P h1.2
    exact prS hf (c_kept0 hk.1 hz.P hrN hpP) (fun g => s_kept0 (by omega) (by omega) h1.1 h1.2) rfl (uS_g σ 2 0) hz (by omega)
theorem p_log {a b : Int32} (hk : Kn x y σ T t) (hf : Fr x h) (hr : rmo h) : Pair [(10, 1)] (f_RS_log (en x 0 0 0) a b) (f_Mdl_log m a b) m xj xj x y σ h T := by
  have hz := hk.z
  have hP3 := hk.1.2.2.1
  cases h1 : (inb a.toInt64 0 (σ.1 0 - 1).toInt64 && inb b.toInt64 0 1)
  · exact prT 10 1 hk hf (by decide) (c_log1 hk.1 hk.P hf hr.six h1) (fun g => s_log1 h1)
  · rw [Bool.and_eq_true] at h1
    obtain ⟨p, hpP, rfl⟩ := part_of hk.1 hk.P h1.1
    obtain ⟨w, hw, rfl⟩ := inb_of (n := 2) (by omega) (by decide) h1.2
    exact prS hf (c_log0 hk.1 hz.P hpP hw) (fun g => s_log0 (by omega) h1.1 h1.2) rfl (uS_g σ 2 0) hz (by omega)
theorem p_session {a b c : Int32} (hk : Kn x y σ T t) (hf : Fr x h) (hr : rmo h) : Pair [(10, 1)] (f_RS_session (en x 0 0 0) a b c) (f_Mdl_session m a b c) m xj xj x y σ h T := by
  have hz := hk.z
  have hP3 := hk.1.2.2.1
  cases h1 : (inb a.toInt64 0 7 && (inb b.toInt64 0 1 && inb c.toInt64 0 (σ.1 0 - 1).toInt64))
  · exact prT 10 1 hk hf (by decide) (c_session1 hk.1 hk.P hf hr.six h1) (fun g => s_session1 h1)
  · rw [Bool.and_eq_true, Bool.and_eq_true] at h1
    obtain ⟨j, hj8, rfl⟩ := inb_of (n := 8) (by omega) (by decide) h1.1
    obtain ⟨w, hw, rfl⟩ := inb_of (n := 2) (by omega) (by decide) h1.2.1
    obtain ⟨p, hpP, rfl⟩ := part_of hk.1 hk.P h1.2.2
    exact prS hf (c_session0 hk.1 hz.P hj8 hw hpP) (fun g => s_session0 hj8 (by omega) h1.2.1 h1.2.2) rfl (uS_g σ 2 0) hz (by omega)
theorem p_count {a : Int32} (hk : Kn x y σ T t) (hf : Fr x h) (hr : rmo h) : Pair [(10, 1)] (f_RS_count (en x 0 0 0) a) (f_Mdl_count m a) m xj xj x y σ h T := by
  have hz := hk.z
  cases h1 : inb a.toInt64 0 4
  · exact prT 10 1 hk hf (by decide) (c_count1 hf hr.six h1) (fun g => s_count1 h1)
  · obtain ⟨w, hw, rfl⟩ := inb_of (n := 5) (by omega) (by decide) h1
    refine prS hf (c_count0 hk.1 hz.R hz.tm hk.T5 hz.2.2.1 hw) (fun g => s_count0 hk.R hk.1.2.2.2.2 h1) ?_ (uS_g σ 2 0) hz (by omega)
    rw [cnt_c (σ := σ) (τ := uS σ 2 0) rfl]
    rfl
end XEB
