/-! what the model computes, in plain functions; its leaf methods -/
def bI (b : Bool) : Int32 := if b then 1 else 0
theorem bI_and (a b : Bool) : bI a &&& bI b = bI (a && b) := by cases a <;> cases b <;> rfl
theorem bI_01 (b : Bool) : bI b = 0 ∨ bI b = 1 := by cases b <;> simp [bI]
theorem bI_t : bI true = 1 := rfl
theorem bI_f : bI false = 0 := rfl
theorem bI_0 (b : Bool) : bI b = 0 ↔ b = false := by cases b <;> simp [bI]
theorem pos_of {n d : Nat} (h : d < n) : ∃ k, n = k + 1 ∧ d ≤ k := ⟨n - 1, by omega, by omega⟩
def cv (σ : xS) (f : Nat → Int32) (b r : Nat) : Nat → Bool
  | 0 => true
  | p + 1 => cv σ f b r p && decide (f (b + p) ≤ σ.2.1 18 (3 * r + p))
section XMS
variable {h : xH} {m : Nat} {σ : xS} {P N : Nat}
theorem s_covers {A L : Nat} {f : Nat → Int32} {b r : Nat} (hP : σ.1 0 = nI P) (hP3 : P ≤ 3) (hr : r < 8) (hb : b + P ≤ L) (hA : ∀ i, i < L → ∀ kk : Int32 → xM Int32, lI A (nI i) kk (em h m σ) = kk (f i) (em h m σ)) : f_Mdl_covers m A (nI b) (nI r) (em h m σ) = some (.inl (bI (cv σ f b r P)), em h m σ) := by
  have key : ∀ d p n, p + d = P → d < n → f_Mdl_covers_h6 n m A (nI b) (nI r) (bI (cv σ f b r p)) (nI p) (em h m σ) = some (.inl (bI (cv σ f b r P)), em h m σ) := by
    intro d
    induction d with
    | zero =>
      intro p n hp hn
      obtain ⟨n, rfl, -⟩ := pos_of hn
      simp only [f_Mdl_covers_h6, f_Mdl_covers_b6, mg0, hP]
      rw [if_pos (nI_le (by omega) (by omega)), if_pos (bI_01 _)]
      have : p = P := by omega
      subst this
      rfl
    | succ d ih =>
      intro p n hp hn
      obtain ⟨n, rfl, hn⟩ := pos_of hn
      simp only [f_Mdl_covers_h6, f_Mdl_covers_b6, mg0, hP]
      rw [if_neg (nI_ge (by omega) (by omega))]
      simp (disch := omega) only [↓mg0, ↓mg1, ↓mg2, ↓mg3, ↓mg26, ↓mp0, ↓mp1, ↓mp2, ↓mp3, ↓mp26, ↓mg4, ↓mg5, ↓mg6, ↓mg7, ↓mg8, ↓mg9, ↓mg10, ↓mg11, ↓mg12, ↓mg13, ↓mg14, ↓mg15, ↓mg16, ↓mg17, ↓mg18, ↓mg19, ↓mg20, ↓mg21, ↓mg22, ↓mg23, ↓mg24, ↓mg25, ↓mg27, ↓mg28, ↓mg29, ↓mg30, ↓mg31, ↓mg32, ↓mg33, ↓mg34, ↓mg35, ↓mg36, ↓mg37, ↓mg38, ↓ml4, ↓ms4, ↓ml5, ↓ms5, ↓ml6, ↓ms6, ↓ml7, ↓ms7, ↓ml8, ↓ms8, ↓ml9, ↓ms9, ↓ml10, ↓ms10, ↓ml11, ↓ms11, ↓ml12, ↓ms12, ↓ml13, ↓ms13, ↓ml14, ↓ms14, ↓ml15, ↓ms15, ↓ml16, ↓ms16, ↓ml17, ↓ms17, ↓ml18, ↓ms18, ↓ml19, ↓ms19, ↓ml20, ↓ms20, ↓ml21, ↓ml22, ↓ms22, ↓ml23, ↓ms23, ↓ml24, ↓ms24, ↓ml25, ↓ms25, ↓ml27, ↓ms27, ↓ml28, ↓ms28, ↓ml29, ↓ms29, ↓ml30, ↓ms30, ↓ml31, ↓ms31, ↓ml32, ↓ms32, ↓ml33, ↓ms33, ↓ml34, ↓ms34, ↓ml35, ↓ms35, ↓ml36, ↓ms36, ↓ml37, ↓ms37, ↓ml38, ↓ms38, ↓m_xv, ↓xb, ↓xr, ml4, ms4, ml5, ms5, ml6, ms6, ml7, ms7, ml8, ms8, ml9, ms9, ml10, ms10, ml11, ms11, ml12, ms12, ml13, ms13, ml14, ms14, ml15, ms15, ml16, ms16, ml17, ms17, ml18, ms18, ml19, ms19, ml20, ms20, ml21, ml22, ms22, ml23, ms23, ml24, ms24, ml25, ms25, ml27, ms27, ml28, ms28, ml29, ms29, ml30, ms30, ml31, ms31, ml32, ms32, ml33, ms33, ml34, ms34, ml35, ms35, ml36, ms36, ml37, ms37, ml38, ms38, n3, n30, n10, n300, n401, n4p, np1, np2, nI_add, ↓reduceIte, hA, f_Mdl_covers_b42]
      by_cases hc : f (b + p) ≤ σ.2.1 18 (3 * r + p)
      · rw [if_neg (by rw [Int32.not_lt]; exact hc), ← bI_t, bI_and]
        have := ih (p + 1) n (by omega) (by omega)
        simpa only [cv, hc, decide_true] using this
      · rw [if_pos (by rw [← Int32.not_le]; exact hc), ← bI_f, bI_and]
        have := ih (p + 1) n (by omega) (by omega)
        simpa only [cv, hc, decide_false] using this
  exact key P 0 1000 (by omega) (by omega)
def stl (σ : xS) (r k : Nat) : Nat → Bool
  | 0 => true
  | p + 1 => stl σ r k p && decide (σ.2.1 4 p - σ.2.1 18 (3 * r + p) ≤ σ.2.1 30 k)
def sn (σ : xS) (k : Nat) : Nat := (σ.2.1 28 k).toNatClampNeg
def mayb (P : Nat) (σ : xS) (r k : Nat) : Bool := decide (σ.2.1 21 r ≠ 0) && (cv σ (σ.2.1 29) (3 * k) r P && ((decide (σ.2.1 22 (sn σ k) &&& 1 = 0) || cv σ (σ.2.1 24) (3 * sn σ k) r P) && ((decide (σ.2.1 22 (sn σ k) &&& 2 = 0) || cv σ (σ.2.1 25) (3 * sn σ k) r P) && (decide (σ.2.1 30 k < 0) || stl σ r k P))))
theorem s_may_l {r k : Nat} (hP : σ.1 0 = nI P) (hP1 : 1 ≤ P) (hP3 : P ≤ 3) (hr : r < 4) (hk : k < 500) (b : Bool) : f_Mdl_may_h93 1000 m (nI r) (nI k) (bI b) 0 (em h m σ) = some (.inl (bI (b && (decide (σ.2.1 30 k < 0) || stl σ r k P))), em h m σ) := by
  by_cases hs : σ.2.1 30 k < 0
  · have key : ∀ n, 0 < n → f_Mdl_may_h93 n m (nI r) (nI k) (bI b) (nI 0) (em h m σ) = some (.inl (bI (b && (decide (σ.2.1 30 k < 0) || stl σ r k P))), em h m σ) := by
      intro n hn
      obtain ⟨n, rfl, -⟩ := pos_of hn
      have c1 : ¬ nI P ≤ nI 0 := nI_ge (by omega) (by omega)
      simp (disch := omega) only [f_Mdl_may_h93, f_Mdl_may_b93, f_Mdl_may_b155, ↓mg0, ↓mg1, ↓mg2, ↓mg3, ↓mg26, ↓mp0, ↓mp1, ↓mp2, ↓mp3, ↓mp26, ↓mg4, ↓mg5, ↓mg6, ↓mg7, ↓mg8, ↓mg9, ↓mg10, ↓mg11, ↓mg12, ↓mg13, ↓mg14, ↓mg15, ↓mg16, ↓mg17, ↓mg18, ↓mg19, ↓mg20, ↓mg21, ↓mg22, ↓mg23, ↓mg24, ↓mg25, ↓mg27, ↓mg28, ↓mg29, ↓mg30, ↓mg31, ↓mg32, ↓mg33, ↓mg34, ↓mg35, ↓mg36, ↓mg37, ↓mg38, ↓ml4, ↓ms4, ↓ml5, ↓ms5, ↓ml6, ↓ms6, ↓ml7, ↓ms7, ↓ml8, ↓ms8, ↓ml9, ↓ms9, ↓ml10, ↓ms10, ↓ml11, ↓ms11, ↓ml12, ↓ms12, ↓ml13, ↓ms13, ↓ml14, ↓ms14, ↓ml15, ↓ms15, ↓ml16, ↓ms16, ↓ml17, ↓ms17, ↓ml18, ↓ms18, ↓ml19, ↓ms19, ↓ml20, ↓ms20, ↓ml21, ↓ml22, ↓ms22, ↓ml23, ↓ms23, ↓ml24, ↓ms24, ↓ml25, ↓ms25, ↓ml27, ↓ms27, ↓ml28, ↓ms28, ↓ml29, ↓ms29, ↓ml30, ↓ms30, ↓ml31, ↓ms31, ↓ml32, ↓ms32, ↓ml33, ↓ms33, ↓ml34, ↓ms34, ↓ml35, ↓ms35, ↓ml36, ↓ms36, ↓ml37, ↓ms37, ↓ml38, ↓ms38, ↓m_xv, ↓xb, ↓xr, ml4, ms4, ml5, ms5, ml6, ms6, ml7, ms7, ml8, ms8, ml9, ms9, ml10, ms10, ml11, ms11, ml12, ms12, ml13, ms13, ml14, ms14, ml15, ms15, ml16, ms16, ml17, ms17, ml18, ms18, ml19, ms19, ml20, ms20, ml21, ml22, ms22, ml23, ms23, ml24, ms24, ml25, ms25, ml27, ms27, ml28, ms28, ml29, ms29, ml30, ms30, ml31, ms31, ml32, ms32, ml33, ms33, ml34, ms34, ml35, ms35, ml36, ms36, ml37, ms37, ml38, ms38, n3, n30, n10, n300, n401, n4p, np1, np2, nI_add, ↓reduceIte, hP, c1, hs, bI_01]
      simp
    exact key 1000 (by omega)
  · have key : ∀ d p n, p + d = P → d < n → f_Mdl_may_h93 n m (nI r) (nI k) (bI (b && stl σ r k p)) (nI p) (em h m σ) = some (.inl (bI (b && stl σ r k P)), em h m σ) := by
      intro d
      induction d with
      | zero =>
        intro p n hp hn
        obtain ⟨n, rfl, -⟩ := pos_of hn
        have c1 : nI P ≤ nI p := nI_le (by omega) (by omega)
        have : p = P := by omega
        subst this
        simp only [f_Mdl_may_h93, f_Mdl_may_b93, f_Mdl_may_b155, ↓mg0, ↓mg1, ↓mg2, ↓mg3, ↓mg26, ↓mp0, ↓mp1, ↓mp2, ↓mp3, ↓mp26, ↓mg4, ↓mg5, ↓mg6, ↓mg7, ↓mg8, ↓mg9, ↓mg10, ↓mg11, ↓mg12, ↓mg13, ↓mg14, ↓mg15, ↓mg16, ↓mg17, ↓mg18, ↓mg19, ↓mg20, ↓mg21, ↓mg22, ↓mg23, ↓mg24, ↓mg25, ↓mg27, ↓mg28, ↓mg29, ↓mg30, ↓mg31, ↓mg32, ↓mg33, ↓mg34, ↓mg35, ↓mg36, ↓mg37, ↓mg38, ↓ml4, ↓ms4, ↓ml5, ↓ms5, ↓ml6, ↓ms6, ↓ml7, ↓ms7, ↓ml8, ↓ms8, ↓ml9, ↓ms9, ↓ml10, ↓ms10, ↓ml11, ↓ms11, ↓ml12, ↓ms12, ↓ml13, ↓ms13, ↓ml14, ↓ms14, ↓ml15, ↓ms15, ↓ml16, ↓ms16, ↓ml17, ↓ms17, ↓ml18, ↓ms18, ↓ml19, ↓ms19, ↓ml20, ↓ms20, ↓ml21, ↓ml22, ↓ms22, ↓ml23, ↓ms23, ↓ml24, ↓ms24, ↓ml25, ↓ms25, ↓ml27, ↓ms27, ↓ml28, ↓ms28, ↓ml29, ↓ms29, ↓ml30, ↓ms30, ↓ml31, ↓ms31, ↓ml32, ↓ms32, ↓ml33, ↓ms33, ↓ml34, ↓ms34, ↓ml35, ↓ms35, ↓ml36, ↓ms36, ↓ml37, ↓ms37, ↓ml38, ↓ms38, ↓m_xv, ↓xb, ↓xr, ml4, ms4, ml5, ms5, ml6, ms6, ml7, ms7, ml8, ms8, ml9, ms9, ml10, ms10, ml11, ms11, ml12, ms12, ml13, ms13, ml14, ms14, ml15, ms15, ml16, ms16, ml17, ms17, ml18, ms18, ml19, ms19, ml20, ms20, ml21, ml22, ms22, ml23, ms23, ml24, ms24, ml25, ms25, ml27, ms27, ml28, ms28, ml29, ms29, ml30, ms30, ml31, ms31, ml32, ms32, ml33, ms33, ml34, ms34, ml35, ms35, ml36, ms36, ml37, ms37, ml38, ms38, n3, n30, n10, n300, n401, n4p, np1, np2, nI_add, ↓reduceIte, hP, c1, bI_01]
      | succ d ih =>
        intro p n hp hn
        obtain ⟨n, rfl, hn⟩ := pos_of hn
        have c1 : ¬ nI P ≤ nI p := nI_ge (by omega) (by omega)
        simp (disch := omega) only [f_Mdl_may_h93, f_Mdl_may_b93, ↓mg0, ↓mg1, ↓mg2, ↓mg3, ↓mg26, ↓mp0, ↓mp1, ↓mp2, ↓mp3, ↓mp26, ↓mg4, ↓mg5, ↓mg6, ↓mg7, ↓mg8, ↓mg9, ↓mg10, ↓mg11, ↓mg12, ↓mg13, ↓mg14, ↓mg15, ↓mg16, ↓mg17, ↓mg18, ↓mg19, ↓mg20, ↓mg21, ↓mg22, ↓mg23, ↓mg24, ↓mg25, ↓mg27, ↓mg28, ↓mg29, ↓mg30, ↓mg31, ↓mg32, ↓mg33, ↓mg34, ↓mg35, ↓mg36, ↓mg37, ↓mg38, ↓ml4, ↓ms4, ↓ml5, ↓ms5, ↓ml6, ↓ms6, ↓ml7, ↓ms7, ↓ml8, ↓ms8, ↓ml9, ↓ms9, ↓ml10, ↓ms10, ↓ml11, ↓ms11, ↓ml12, ↓ms12, ↓ml13, ↓ms13, ↓ml14, ↓ms14, ↓ml15, ↓ms15, ↓ml16, ↓ms16, ↓ml17, ↓ms17, ↓ml18, ↓ms18, ↓ml19, ↓ms19, ↓ml20, ↓ms20, ↓ml21, ↓ml22, ↓ms22, ↓ml23, ↓ms23, ↓ml24, ↓ms24, ↓ml25, ↓ms25, ↓ml27, ↓ms27, ↓ml28, ↓ms28, ↓ml29, ↓ms29, ↓ml30, ↓ms30, ↓ml31, ↓ms31, ↓ml32, ↓ms32, ↓ml33, ↓ms33, ↓ml34, ↓ms34, ↓ml35, ↓ms35, ↓ml36, ↓ms36, ↓ml37, ↓ms37, ↓ml38, ↓ms38, ↓m_xv, ↓xb, ↓xr, ml4, ms4, ml5, ms5, ml6, ms6, ml7, ms7, ml8, ms8, ml9, ms9, ml10, ms10, ml11, ms11, ml12, ms12, ml13, ms13, ml14, ms14, ml15, ms15, ml16, ms16, ml17, ms17, ml18, ms18, ml19, ms19, ml20, ms20, ml21, ml22, ms22, ml23, ms23, ml24, ms24, ml25, ms25, ml27, ms27, ml28, ms28, ml29, ms29, ml30, ms30, ml31, ms31, ml32, ms32, ml33, ms33, ml34, ms34, ml35, ms35, ml36, ms36, ml37, ms37, ml38, ms38, n3, n30, n10, n300, n401, n4p, np1, np2, nI_add, ↓reduceIte, hP, c1, hs, f_Mdl_may_b146]
        by_cases hc : σ.2.1 4 p - σ.2.1 18 (3 * r + p) ≤ σ.2.1 30 k
        · rw [if_neg (by rw [Int32.not_lt]; exact hc), ← bI_t, bI_and]
          have := ih (p + 1) n (by omega) (by omega)
          simpa only [stl, hc, decide_true, Bool.and_assoc] using this
        · rw [if_pos (by rw [← Int32.not_le]; exact hc), ← bI_f, bI_and]
          have := ih (p + 1) n (by omega) (by omega)
          simpa only [stl, hc, decide_false, Bool.and_assoc] using this
    have := key P 0 1000 (by omega) (by omega)
    rw [nI_0] at this
    simpa [stl, hs] using this
theorem s_may {r k : Nat} (hP : σ.1 0 = nI P) (hP1 : 1 ≤ P) (hP3 : P ≤ 3) (hr : r < 4) (hk : k < 500) (hs : ∃ s, s < 8 ∧ σ.2.1 28 k = nI s) : f_Mdl_may m (nI r) (nI k) (em h m σ) = some (.inl (bI (mayb P σ r k)), em h m σ) := by
  obtain ⟨s, hs8, hs⟩ := hs
  have hsn : sn σ k = s := by unfold sn; rw [hs, nI_clamp (by omega)]
  have c1 := s_covers (h := h) (m := m) (σ := σ) (A := m + 25) (L := 1500) (f := σ.2.1 29) (b := 3 * k) (r := r) hP hP3 (by omega) (by omega) (fun i hi kk => ml29 hi)
  have c2 := s_covers (h := h) (m := m) (σ := σ) (A := m + 21) (L := 24) (f := σ.2.1 24) (b := 3 * s) (r := r) hP hP3 (by omega) (by omega) (fun i hi kk => ml24 hi)
  have c3 := s_covers (h := h) (m := m) (σ := σ) (A := m + 22) (L := 24) (f := σ.2.1 25) (b := 3 * s) (r := r) hP hP3 (by omega) (by omega) (fun i hi kk => ml25 hi)
  have lt := s_may_l (h := h) (m := m) hP hP1 hP3 hr hk true
  have lf := s_may_l (h := h) (m := m) hP hP1 hP3 hr hk false
  rw [bI_t] at lt
  rw [bI_f] at lf
  unfold mayb
  rw [hsn]
  by_cases h1 : σ.2.1 21 r = 0
  · simp (disch := omega) only [f_Mdl_may, f_Mdl_may_b87, f_Mdl_may_b88, ↓mg0, ↓mg1, ↓mg2, ↓mg3, ↓mg26, ↓mp0, ↓mp1, ↓mp2, ↓mp3, ↓mp26, ↓mg4, ↓mg5, ↓mg6, ↓mg7, ↓mg8, ↓mg9, ↓mg10, ↓mg11, ↓mg12, ↓mg13, ↓mg14, ↓mg15, ↓mg16, ↓mg17, ↓mg18, ↓mg19, ↓mg20, ↓mg21, ↓mg22, ↓mg23, ↓mg24, ↓mg25, ↓mg27, ↓mg28, ↓mg29, ↓mg30, ↓mg31, ↓mg32, ↓mg33, ↓mg34, ↓mg35, ↓mg36, ↓mg37, ↓mg38, ↓ml4, ↓ms4, ↓ml5, ↓ms5, ↓ml6, ↓ms6, ↓ml7, ↓ms7, ↓ml8, ↓ms8, ↓ml9, ↓ms9, ↓ml10, ↓ms10, ↓ml11, ↓ms11, ↓ml12, ↓ms12, ↓ml13, ↓ms13, ↓ml14, ↓ms14, ↓ml15, ↓ms15, ↓ml16, ↓ms16, ↓ml17, ↓ms17, ↓ml18, ↓ms18, ↓ml19, ↓ms19, ↓ml20, ↓ms20, ↓ml21, ↓ml22, ↓ms22, ↓ml23, ↓ms23, ↓ml24, ↓ms24, ↓ml25, ↓ms25, ↓ml27, ↓ms27, ↓ml28, ↓ms28, ↓ml29, ↓ms29, ↓ml30, ↓ms30, ↓ml31, ↓ms31, ↓ml32, ↓ms32, ↓ml33, ↓ms33, ↓ml34, ↓ms34, ↓ml35, ↓ms35, ↓ml36, ↓ms36, ↓ml37, ↓ms37, ↓ml38, ↓ms38, ↓m_xv, ↓xb, ↓xr, ml4, ms4, ml5, ms5, ml6, ms6, ml7, ms7, ml8, ms8, ml9, ms9, ml10, ms10, ml11, ms11, ml12, ms12, ml13, ms13, ml14, ms14, ml15, ms15, ml16, ms16, ml17, ms17, ml18, ms18, ml19, ms19, ml20, ms20, ml21, ml22, ms22, ml23, ms23, ml24, ms24, ml25, ms25, ml27, ms27, ml28, ms28, ml29, ms29, ml30, ms30, ml31, ms31, ml32, ms32, ml33, ms33, ml34, ms34, ml35, ms35, ml36, ms36, ml37, ms37, ml38, ms38, n3, n30, n10, n300, n401, n4p, np1, np2, nI_add, ↓reduceIte, hs, h1, lf]
    simp
  cases h2 : cv σ (σ.2.1 29) (3 * k) r P
  · simp (disch := omega) only [f_Mdl_may, f_Mdl_may_b87, f_Mdl_may_b88, ↓mg0, ↓mg1, ↓mg2, ↓mg3, ↓mg26, ↓mp0, ↓mp1, ↓mp2, ↓mp3, ↓mp26, ↓mg4, ↓mg5, ↓mg6, ↓mg7, ↓mg8, ↓mg9, ↓mg10, ↓mg11, ↓mg12, ↓mg13, ↓mg14, ↓mg15, ↓mg16, ↓mg17, ↓mg18, ↓mg19, ↓mg20, ↓mg21, ↓mg22, ↓mg23, ↓mg24, ↓mg25, ↓mg27, ↓mg28, ↓mg29, ↓mg30, ↓mg31, ↓mg32, ↓mg33, ↓mg34, ↓mg35, ↓mg36, ↓mg37, ↓mg38, ↓ml4, ↓ms4, ↓ml5, ↓ms5, ↓ml6, ↓ms6, ↓ml7, ↓ms7, ↓ml8, ↓ms8, ↓ml9, ↓ms9, ↓ml10, ↓ms10, ↓ml11, ↓ms11, ↓ml12, ↓ms12, ↓ml13, ↓ms13, ↓ml14, ↓ms14, ↓ml15, ↓ms15, ↓ml16, ↓ms16, ↓ml17, ↓ms17, ↓ml18, ↓ms18, ↓ml19, ↓ms19, ↓ml20, ↓ms20, ↓ml21, ↓ml22, ↓ms22, ↓ml23, ↓ms23, ↓ml24, ↓ms24, ↓ml25, ↓ms25, ↓ml27, ↓ms27, ↓ml28, ↓ms28, ↓ml29, ↓ms29, ↓ml30, ↓ms30, ↓ml31, ↓ms31, ↓ml32, ↓ms32, ↓ml33, ↓ms33, ↓ml34, ↓ms34, ↓ml35, ↓ms35, ↓ml36, ↓ms36, ↓ml37, ↓ms37, ↓ml38, ↓ms38, ↓m_xv, ↓xb, ↓xr, ml4, ms4, ml5, ms5, ml6, ms6, ml7, ms7, ml8, ms8, ml9, ms9, ml10, ms10, ml11, ms11, ml12, ms12, ml13, ms13, ml14, ms14, ml15, ms15, ml16, ms16, ml17, ms17, ml18, ms18, ml19, ms19, ml20, ms20, ml21, ml22, ms22, ml23, ms23, ml24, ms24, ml25, ms25, ml27, ms27, ml28, ms28, ml29, ms29, ml30, ms30, ml31, ms31, ml32, ms32, ml33, ms33, ml34, ms34, ml35, ms35, ml36, ms36, ml37, ms37, ml38, ms38, n3, n30, n10, n300, n401, n4p, np1, np2, nI_add, ↓reduceIte, hs, c1, bI_0, h1, h2, lf]
    simp
  cases h4 : cv σ (σ.2.1 24) (3 * s) r P <;> by_cases h3 : σ.2.1 22 s &&& 1 = 0 <;> cases h6 : cv σ (σ.2.1 25) (3 * s) r P <;> by_cases h5 : σ.2.1 22 s &&& 2 = 0
  all_goals
    simp (disch := omega) only [f_Mdl_may, f_Mdl_may_b57, f_Mdl_may_b83, f_Mdl_may_b87, f_Mdl_may_b88, ↓mg0, ↓mg1, ↓mg2, ↓mg3, ↓mg26, ↓mp0, ↓mp1, ↓mp2, ↓mp3, ↓mp26, ↓mg4, ↓mg5, ↓mg6, ↓mg7, ↓mg8, ↓mg9, ↓mg10, ↓mg11, ↓mg12, ↓mg13, ↓mg14, ↓mg15, ↓mg16, ↓mg17, ↓mg18, ↓mg19, ↓mg20, ↓mg21, ↓mg22, ↓mg23, ↓mg24, ↓mg25, ↓mg27, ↓mg28, ↓mg29, ↓mg30, ↓mg31, ↓mg32, ↓mg33, ↓mg34, ↓mg35, ↓mg36, ↓mg37, ↓mg38, ↓ml4, ↓ms4, ↓ml5, ↓ms5, ↓ml6, ↓ms6, ↓ml7, ↓ms7, ↓ml8, ↓ms8, ↓ml9, ↓ms9, ↓ml10, ↓ms10, ↓ml11, ↓ms11, ↓ml12, ↓ms12, ↓ml13, ↓ms13, ↓ml14, ↓ms14, ↓ml15, ↓ms15, ↓ml16, ↓ms16, ↓ml17, ↓ms17, ↓ml18, ↓ms18, ↓ml19, ↓ms19, ↓ml20, ↓ms20, ↓ml21, ↓ml22, ↓ms22, ↓ml23, ↓ms23, ↓ml24, ↓ms24, ↓ml25, ↓ms25, ↓ml27, ↓ms27, ↓ml28, ↓ms28, ↓ml29, ↓ms29, ↓ml30, ↓ms30, ↓ml31, ↓ms31, ↓ml32, ↓ms32, ↓ml33, ↓ms33, ↓ml34, ↓ms34, ↓ml35, ↓ms35, ↓ml36, ↓ms36, ↓ml37, ↓ms37, ↓ml38, ↓ms38, ↓m_xv, ↓xb, ↓xr, ml4, ms4, ml5, ms5, ml6, ms6, ml7, ms7, ml8, ms8, ml9, ms9, ml10, ms10, ml11, ms11, ml12, ms12, ml13, ms13, ml14, ms14, ml15, ms15, ml16, ms16, ml17, ms17, ml18, ms18, ml19, ms19, ml20, ms20, ml21, ml22, ms22, ml23, ms23, ml24, ms24, ml25, ms25, ml27, ms27, ml28, ms28, ml29, ms29, ml30, ms30, ml31, ms31, ml32, ms32, ml33, ms33, ml34, ms34, ml35, ms35, ml36, ms36, ml37, ms37, ml38, ms38, n3, n30, n10, n300, n401, n4p, np1, np2, nI_add, ↓reduceIte, hs, c1, c2, c3, bI_0, h1, h2, h3, h4, h5, h6, lt, lf, Bool.true_eq_false]
    simp [h1]
end XMS
