/-! the component: more of the small operations -/
theorem isQ_qok {P : Nat} (hP1 : 1 ≤ P) (hP3 : P ≤ 3) {kd a : Int32} (h : isQ P kd a = true) : qok P kd a := by
  unfold isQ at h
  rw [Bool.and_eq_true] at h
  obtain ⟨h1, h2⟩ := h
  obtain ⟨k, hk, rfl⟩ := inb_of (n := 9) (by omega) (by decide) h1
  refine ⟨k, by omega, rfl, ?_⟩
  have l4 : nI k < 4 ↔ k < 4 := nI_ltI (b := 4) (by omega) (by omega)
  have l7 : nI k < 7 ↔ k < 7 := nI_ltI (b := 7) (by omega) (by omega)
  have e7 : nI k = 7 ↔ k = 7 := nI_eq (b := 7) (by omega) (by omega)
  by_cases c1 : k < 4 ∨ k = 7
  · rw [if_pos (by rw [l4, e7]; exact c1)] at h2
    exact Or.inl ⟨c1, inb_of (n := 30) (by omega) (by decide) h2⟩
  · rw [if_neg (by rw [l4, e7]; exact c1)] at h2
    by_cases c2 : k < 7
    · rw [if_pos (by rw [l7]; exact c2)] at h2
      exact Or.inr (Or.inl ⟨by omega, inb_of (n := 10) (by omega) (by decide) h2⟩)
    · rw [if_neg (by rw [l7]; exact c2)] at h2
      refine Or.inr (Or.inr ⟨by omega, ?_⟩)
      rw [inb_iff, hiN (by omega)] at h2
      obtain ⟨g1, g2⟩ := h2
      have g1 : (-1 : Int) ≤ a.toInt := g1
      by_cases c3 : a.toInt = -1
      · left
        apply Int32.toInt_inj.mp
        exact c3
      · right
        rcases pk_ix a (n := P) (by omega) with q | q | q
        · rw [Int32.lt_iff_toInt_lt] at q
          have q : a.toInt < 0 := q
          omega
        · rw [Int32.le_iff_toInt_le, nI_toInt (by omega)] at q
          omega
        · exact q
section XCJ
variable {β : Type} {x : xX} {y y' : xY} {σ σ' : xS} {h : xH} {T : Nat} {t : Nat → Nat}
theorem c_log1 {a b : Int32} (hx : Wx x) (hP : σ.1 0 = nI (dP x)) (hf : Fr x h) (hr : rm6 h) (h1 : (inb a.toInt64 0 (σ.1 0 - 1).toInt64 && inb b.toInt64 0 1) = false) : Thr (f_RS_log (en x 0 0 0) a b) x y σ h 10 := by
  have hP3 := hx.2.2.1
  unfold Thr f_RS_log
  rw [rg0_1 hx, rg0_0 hx, hP]
  rw [hP] at h1
  cases h2 : inb a.toInt64 0 (nI (dP x) - 1).toInt64
  · rw [xb_thr (c_idx1 (by omega) (hiN (by omega)) hf hr h2)]
  · rw [h2, Bool.true_and] at h1
    obtain ⟨p, hp, rfl⟩ := inb_of (n := dP x) (by omega) (hiN (by omega)) h2
    have : f_RS_index b 2 (er x y σ h) = _ := c_idx1 (x := x) (y := y) (σ := σ) (n := 2) (hi := 1) (by omega) (by decide) hf hr h1
    rw [xb_ok (c_index_ok hp (by omega)), rl4 hx hp, xb_thr this]
theorem c_log0 {p w : Nat} (hx : Wx x) (hP : σ.1 0 = nI (dP x)) (hp : p < dP x) (hw : w < 2) : f_RS_log (en x 0 0 0) (nI p) (nI w) (er x y σ h) = some (.inl (if nI w = 0 then σ.2.1 4 p else σ.2.1 5 p), er x y σ h) := by
  have hP3 := hx.2.2.1
  have : f_RS_index (nI w) 2 (er x y σ h) = _ := c_index_ok (n := 2) hw (by omega)
  unfold f_RS_log
  rw [rg0_1 hx, rg0_0 hx, hP, xb_ok (c_index_ok hp (by omega)), rl4 hx hp, xb_ok this]
  by_cases c : nI w = 0
  · rw [if_pos c, if_pos c, rg5_1 hx hp]; rfl
  · rw [if_neg c, if_neg c, rg5_2 hx hp]; rfl
theorem c_session1 {a b c : Int32} (hx : Wx x) (hP : σ.1 0 = nI (dP x)) (hf : Fr x h) (hr : rm6 h) (h1 : (inb a.toInt64 0 7 && (inb b.toInt64 0 1 && inb c.toInt64 0 (σ.1 0 - 1).toInt64)) = false) : Thr (f_RS_session (en x 0 0 0) a b c) x y σ h 10 := by
  have hP3 := hx.2.2.1
  unfold Thr f_RS_session
  rw [rv0 hx]
  cases h2 : inb a.toInt64 0 7
  · rw [xb_thr (c_sessionAt1 hx hf hr h2)]
  · rw [h2, Bool.true_and] at h1
    obtain ⟨j, hj, rfl⟩ := inb_of (n := 8) (by omega) (by decide) h2
    rw [xb_ok (c_sessionAt hx hj)]
    cases h3 : inb b.toInt64 0 1
    · have : f_RS_index b 2 (er x y σ h) = _ := c_idx1 (x := x) (y := y) (σ := σ) (n := 2) (hi := 1) (by omega) (by decide) hf hr h3
      rw [xb_thr this]
    · rw [h3, Bool.true_and, hP] at h1
      obtain ⟨w, hw, rfl⟩ := inb_of (n := 2) (by omega) (by decide) h3
      have : f_RS_index (nI w) 2 (er x y σ h) = _ := c_index_ok (n := 2) hw (by omega)
      rw [xb_ok this]
      by_cases c0 : nI w = 0
      · rw [if_pos c0, rg17_2 hx hj]
        unfold f_RS_session_b28
        rw [rg18_0 hx hj, rg0_0 hx, hP, xb_thr (c_idx1 (by omega) (hiN (by omega)) hf hr h1)]
      · rw [if_neg c0, rg17_3 hx hj]
        unfold f_RS_session_b28
        rw [rg20_0 hx hj, rg0_0 hx, hP, xb_thr (c_idx1 (by omega) (hiN (by omega)) hf hr h1)]
theorem c_session0 {j w p : Nat} (hx : Wx x) (hP : σ.1 0 = nI (dP x)) (hj : j < 8) (hw : w < 2) (hp : p < dP x) : f_RS_session (en x 0 0 0) (nI j) (nI w) (nI p) (er x y σ h) = some (.inl (if nI w = 0 then σ.2.1 24 (3 * j + p) else σ.2.1 25 (3 * j + p)), er x y σ h) := by
  have hP3 := hx.2.2.1
  have : f_RS_index (nI w) 2 (er x y σ h) = _ := c_index_ok (n := 2) hw (by omega)
  unfold f_RS_session
  rw [rv0 hx, xb_ok (c_sessionAt hx hj), xb_ok this]
  by_cases c0 : nI w = 0
  · rw [if_pos c0, if_pos c0, rg17_2 hx hj]
    unfold f_RS_session_b28
    rw [rg18_0 hx hj, rg0_0 hx, hP, xb_ok (c_index_ok hp (by omega)), rl19 hx hj (by omega)]
    rfl
  · rw [if_neg c0, if_neg c0, rg17_3 hx hj]
    unfold f_RS_session_b28
    rw [rg20_0 hx hj, rg0_0 hx, hP, xb_ok (c_index_ok hp (by omega)), rl21 hx hj (by omega)]
    rfl
theorem c_count1 {a : Int32} (hf : Fr x h) (hr : rm6 h) (h1 : inb a.toInt64 0 4 = false) : Thr (f_RS_count (en x 0 0 0) a) x y σ h 10 := by
  unfold Thr f_RS_count
  have : f_RS_index a 5 (er x y σ h) = _ := c_idx1 (x := x) (y := y) (σ := σ) (n := 5) (hi := 4) (by omega) (by decide) hf hr h1
  rw [xb_thr this]
theorem c_count0 {w : Nat} (hx : Wx x) (hRn : σ.1 26 = nI (dR x)) (hT : σ.1 3 = nI T) (hT5 : T ≤ 100000) (hj : JW (dR x) y σ) (hw : w < 5) : f_RS_count (en x 0 0 0) (nI w) (er x y σ h) = some (.inl (if nI w = 0 then nI (dR x) else if nI w = 4 then σ.1 3 else nI (cnt σ (nI w - 1) (dR x))), er x y σ h) := by
  have : f_RS_index (nI w) 5 (er x y σ h) = _ := c_index_ok (n := 5) hw (by omega)
  have et : ((σ.1 3).toInt64).toInt32 = σ.1 3 := by
    rw [hT, nI_l (by omega)]
    exact lN_i T
  unfold f_RS_count
  rw [xb_ok this]
  have hw5 : w = 0 ∨ w = 1 ∨ w = 2 ∨ w = 3 ∨ w = 4 := by omega
  rcases hw5 with rfl | rfl | rfl | rfl | rfl
  · rw [if_pos (by decide), if_pos (by decide), rg0_5 hx, hRn]; rfl
  · rw [if_neg (by decide), if_pos (by decide), if_neg (by decide), if_neg (by decide), rg0_7 hx, hj.1]; rfl
  · rw [if_neg (by decide), if_neg (by decide), if_pos (by decide), if_neg (by decide), if_neg (by decide), rg0_8 hx, hj.2.2.1]; rfl
  · rw [if_neg (by decide), if_neg (by decide), if_neg (by decide), if_pos (by decide), if_neg (by decide), if_neg (by decide), rg0_9 hx, hj.2.2.2]; rfl
  · rw [if_neg (by decide), if_neg (by decide), if_neg (by decide), if_neg (by decide), if_neg (by decide), if_pos (by decide), rg0_10 hx, et]; rfl
theorem c_question1 {kd a : Int32} (hx : Wx x) (hP : σ.1 0 = nI (dP x)) (hP1 : 1 ≤ dP x) (hf : Fr x h) (hr : rm6 h) (h1 : isQ (dP x) kd a = false) : Thr (f_RS_question (en x 0 0 0) kd a) x y σ h 10 := by
  have hP3 := hx.2.2.1
  unfold Thr f_RS_question
  unfold isQ at h1
  cases h2 : inb kd.toInt64 0 8
  · have : f_RS_index kd 9 (er x y σ h) = _ := c_idx1 (x := x) (y := y) (σ := σ) (n := 9) (hi := 8) (by omega) (by decide) hf hr h2
    rw [xb_thr this]
  · rw [h2, Bool.true_and] at h1
    obtain ⟨k, hk, rfl⟩ := inb_of (n := 9) (by omega) (by decide) h2
    have : f_RS_index (nI k) 9 (er x y σ h) = _ := c_index_ok (n := 9) hk (by omega)
    rw [xb_ok this]
    have l4 : nI k < 4 ↔ k < 4 := nI_ltI (b := 4) (by omega) (by omega)
    have l7 : nI k < 7 ↔ k < 7 := nI_ltI (b := 7) (by omega) (by omega)
    have e7 : nI k = 7 ↔ k = 7 := nI_eq (b := 7) (by omega) (by omega)
    have e8 : nI k = 8 ↔ k = 8 := nI_eq (b := 8) (by omega) (by omega)
    have l46 : inb (nI k).toInt64 4 6 = true ↔ 4 ≤ k ∧ k ≤ 6 := by
      rw [inb_iff, nI_toInt (by omega)]
      show (4 : Int) ≤ _ ∧ _ ≤ (6 : Int) ↔ _
      omega
    by_cases c8 : k = 8
    · rw [if_pos (e8.mpr c8), rg0_0 hx, hP]
      rw [if_neg (by rw [l4, e7]; omega), if_neg (by rw [l7]; omega)] at h1
      have hno : inb (a + 1).toInt64 0 (nI (dP x)).toInt64 = false := by
        rw [← Bool.not_eq_true] at h1 ⊢
        rw [inb_iff, hiN (by omega)] at h1
        rw [inb_iff, Int32.toInt_toInt64, nI_toInt (by omega), Int32.toInt_add]
        intro ⟨g1, g2⟩
        apply h1
        have g1 : (0 : Int) ≤ _ := g1
        have hb1 : a.toInt < 2 ^ 31 := Int32.toInt_lt a
        have hb2 : -2 ^ 31 ≤ a.toInt := Int32.le_toInt a
        have g3 : (a.toInt + (1 : Int32).toInt).bmod (2 ^ 32) = a.toInt + 1 ∨ a.toInt = 2 ^ 31 - 1 := by
          by_cases hm : a.toInt = 2 ^ 31 - 1
          · exact Or.inr hm
          · left
            rw [show (1 : Int32).toInt = 1 by decide]
            rw [Int.bmod_eq_of_le (by omega) (by omega)]
        rcases g3 with g3 | g3
        · rw [g3] at g1 g2
          refine ⟨?_, by omega⟩
          show (-1 : Int) ≤ _
          omega
        · rw [g3] at g1
          exact absurd g1 (by decide)
      have := c_idx1 (x := x) (y := y) (σ := σ) (a := a + 1) (n := dP x + 1) (hi := (nI (dP x)).toInt64) (by omega) (by rw [Int32.toInt_toInt64, nI_toInt (by omega)]; omega) hf hr hno
      rw [np1, xb_thr this]
    · rw [if_neg (by rw [e8]; exact c8), xb_ok (c_in _ _ _)]
      by_cases c46 : 4 ≤ k ∧ k ≤ 6
      · rw [if_neg (by rw [l4, e7]; omega), if_pos (by rw [l7]; omega)] at h1
        rw [l46.mpr c46, bI_t, if_neg ne10]
        unfold f_RS_question_b51
        have : f_RS_index a 10 (er x y σ h) = _ := c_idx1 (x := x) (y := y) (σ := σ) (n := 10) (hi := 9) (by omega) (by decide) hf hr h1
        rw [xb_thr this]
      · rw [if_pos (by rw [l4, e7]; omega)] at h1
        have : inb (nI k).toInt64 4 6 = false := by rw [← Bool.not_eq_true, l46]; exact c46
        rw [this, bI_f, if_pos rfl]
        unfold f_RS_question_b51
        have : f_RS_index a 30 (er x y σ h) = _ := c_idx1 (x := x) (y := y) (σ := σ) (n := 30) (hi := 29) (by omega) (by decide) hf hr h1
        rw [xb_thr this]
theorem c_question0 {kd a : Int32} (hx : Wx x) (hP : σ.1 0 = nI (dP x)) (hq : qok (dP x) kd a) : f_RS_question (en x 0 0 0) kd a (er x y σ h) = some (.inl (), er x y σ h) := by
  have hP3 := hx.2.2.1
  obtain ⟨k, hk8, rfl, hq⟩ := hq
  have : f_RS_index (nI k) 9 (er x y σ h) = _ := c_index_ok (n := 9) (by omega) (by omega)
  have e8 : nI k = 8 ↔ k = 8 := nI_eq (b := 8) (by omega) (by omega)
  have l46 : inb (nI k).toInt64 4 6 = true ↔ 4 ≤ k ∧ k ≤ 6 := by
    rw [inb_iff, nI_toInt (by omega)]
    show (4 : Int) ≤ _ ∧ _ ≤ (6 : Int) ↔ _
    omega
  unfold f_RS_question
  rw [xb_ok this]
  rcases hq with ⟨hk2, i, hi, rfl⟩ | ⟨hk2, i, hi, rfl⟩ | ⟨rfl, hq⟩
  · have h2 : inb (nI k).toInt64 4 6 = false := by rw [← Bool.not_eq_true, l46]; omega
    have h3 : f_RS_index (nI i) 30 (er x y σ h) = _ := c_index_ok (n := 30) hi (by omega)
    rw [if_neg (by rw [e8]; omega), xb_ok (c_in _ _ _), h2, bI_f, if_pos rfl]
    unfold f_RS_question_b51
    rw [xb_ok h3]
    rfl
  · have h3 : f_RS_index (nI i) 10 (er x y σ h) = _ := c_index_ok (n := 10) hi (by omega)
    rw [if_neg (by rw [e8]; omega), xb_ok (c_in _ _ _), l46.mpr (by omega), bI_t, if_neg ne10]
    unfold f_RS_question_b51
    rw [xb_ok h3]
    rfl
  · rw [if_pos (by decide), rg0_0 hx, hP, np1]
    rcases hq with rfl | ⟨i, hi, rfl⟩
    · have h3 : f_RS_index ((-1) + 1) (nI (dP x + 1)) (er x y σ h) = _ := c_index_ok (i := 0) (n := dP x + 1) (by omega) (by omega)
      rw [xb_ok h3]
      rfl
    · rw [np1, xb_ok (c_index_ok (by omega) (by omega))]
      rfl
theorem c_value1 {a b c : Int32} (hx : Wx x) (hP : σ.1 0 = nI (dP x)) (hN : σ.1 1 = nI (dN x)) (hP1 : 1 ≤ dP x) (hf : Fr x h) (hr : rm6 h) (h1 : (inb a.toInt64 0 (σ.1 1 - 1).toInt64 && isQ (dP x) b c) = false) : Thr (f_RS_value (en x 0 0 0) a b c) x y σ h 10 := by
  unfold Thr f_RS_value
  cases h2 : inb a.toInt64 0 (σ.1 1 - 1).toInt64
  · rw [rv0 hx, xb_thr (c_replicaAt1 hx hN hf hr h2)]
  · rw [h2, Bool.true_and] at h1
    obtain ⟨r, hr2, rfl⟩ := repl_of hx hN h2
    rw [rv0 hx, xb_ok (c_replicaAt hx hr2), rv0 hx, xb_thr (c_question1 hx hP hP1 hf hr h1)]
theorem c_value0 {r : Nat} {b c : Int32} (hx : Wx x) (hP : σ.1 0 = nI (dP x)) (hP1 : 1 ≤ dP x) (hr : r < dN x) (hq : qok (dP x) b c) : f_RS_value (en x 0 0 0) (nI r) b c (er x y σ h) = some (.inl (tellS (dP x) σ r b c), er x y σ h) := by
  have hs : sv x r := Or.inl hr
  unfold f_RS_value
  rw [rv0 hx, xb_ok (c_replicaAt hx hr), rv0 hx, xb_ok (c_question0 hx hP hq), rg8_0 hx hr, rg0_0 hx, hP, rv9 hx hs, xb_ok (c_tell hx hs hP1 hq)]
  rfl
end XCJ
