/-! the model: a read is asked -/
def nqS (σ : xS) (R : Nat) (tok : Int64) : Nat → xS
  | 0 => σ
  | q + 1 => uI (nqS σ R tok q) 29 (3 * R + q) (posS tok q)
def askT (σ : xS) (R s : Nat) (tok : Int64) (bd pt kd ab : Int32) : xS := uI (uJ (uJ (uI (uI (uI (uI (uI (uI (nqS (uI σ 28 R (nI s)) R tok 3) 30 R bd) 31 R pt) 32 R (σ.1 3)) 33 R kd) 34 R ab) 35 R (-1)) 36 R 0) 37 R 0) 38 R (-1)
/-- the first from r on, of n -/
def fst (f : Nat → Bool) : Nat → Nat → Nat
  | 0, r => r
  | n + 1, r => if f r then r else fst f n (r + 1)
theorem fst_le (f : Nat → Bool) (n r : Nat) : r ≤ fst f n r ∧ fst f n r ≤ r + n := by
  induction n generalizing r with
  | zero => exact ⟨Nat.le_refl _, Nat.le_refl _⟩
  | succ n ih =>
    simp only [fst]
    split
    · omega
    · have := ih (r + 1)
      omega
theorem fst_t (f : Nat → Bool) (n r : Nat) (h : fst f n r < r + n) : f (fst f n r) = true := by
  induction n generalizing r with
  | zero => simp only [fst] at h; omega
  | succ n ih =>
    simp only [fst] at h ⊢
    split
    · assumption
    · rename_i hc
      rw [if_neg hc] at h
      exact ih (r + 1) (by omega)
theorem fst_f (f : Nat → Bool) (n r : Nat) (h : fst f n r = r + n) : ∀ i, r ≤ i → i < r + n → f i = false := by
  induction n generalizing r with
  | zero => intro i h1 h2; omega
  | succ n ih =>
    simp only [fst] at h
    intro i h1 h2
    split at h
    · omega
    · rename_i hc
      by_cases hi : i = r
      · subst hi
        simpa using hc
      · exact ih (r + 1) (by omega) i (by omega) (by omega)
theorem nq_same (σ : xS) (R : Nat) (tok : Int64) (q : Nat) : same [29] σ (nqS σ R tok q) := by
  induction q with
  | zero => exact same.refl _ _
  | succ q ih => exact ih.trans (same.uI _ _ _ (by decide))
theorem askT_same (σ : xS) (R s : Nat) (tok : Int64) (bd pt kd ab : Int32) : same [28, 29, 30, 31, 32, 33, 34, 35, 36, 37, 38] σ (askT σ R s tok bd pt kd ab) := by
  unfold askT
  refine same.trans (same.trans (same.trans (same.trans (same.trans (same.trans (same.trans (same.trans (same.trans (same.trans (same.uI _ _ _ (by decide)) ((nq_same _ _ _ _).mono (by decide))) (same.uI _ _ _ (by decide))) (same.uI _ _ _ (by decide))) (same.uI _ _ _ (by decide))) (same.uI _ _ _ (by decide))) (same.uI _ _ _ (by decide))) (same.uI _ _ _ (by decide))) (same.uJ _ _ _ (by decide))) (same.uJ _ _ _ (by decide))) (same.uI _ _ _ (by decide))
/-- the state when read R is taken in -/
def ask2 (τ : xS) (R : Nat) : xS := uI (uS (uS τ 2 0) 26 (nI (R + 1))) 27 R 0
def fndS (P N : Nat) (τ : xS) (hm R : Nat) : Nat := fst (fun r => mayb P τ ((hm + r) % N) R) N 0
/-- what asking makes of a state in which the read's row is written -/
def askF (P N : Nat) (τ : xS) (hm R : Nat) (pt : Int32) : Int32 × xS :=
  if fndS P N τ hm R < N then (nI R, ansS P (ask2 τ R) ((hm + fndS P N τ hm R) % N) R) else
  if pt = 0 then (nI R, uI (uI (ask2 τ R) 27 R 2) 38 R (τ.1 3)) else
  if cnt τ 0 R = 40 then (0, uS τ 2 3) else (nI R, ask2 τ R)
theorem xb_ok {α β : Type} {x : xM α} {k : α → xM β} {h h' : xH} {v : α} (e : x h = some (.inl v, h')) : xb x k h = k v h' := by
  unfold xb
  rw [e]
section XNA
variable {h : xH} {m : Nat} {σ τ : xS} {P N R T : Nat} {e t : Nat → Nat}
theorem s_ask298 {s hm r : Nat} {pt : Int32} (hP : τ.1 0 = nI P) (hN : τ.1 1 = nI N) (hRn : τ.1 26 = nI R) (hP1 : 1 ≤ P) (hP3 : P ≤ 3) (hN1 : 1 ≤ N) (hN4 : N ≤ 4) (hR : R < 500) (hs : s < 8) (hhm : hm < N) (eh : τ.2.1 23 s = nI hm) (es : ∃ s, s < 8 ∧ τ.2.1 28 R = nI s) (hq : qok P (τ.2.1 33 R) (τ.2.1 34 R)) (hso : ∀ r, r < 8 → sok τ r) (hr : r ≤ N) :
    f_Mdl_ask_b298 m (nI s) pt (nI R) (nI r) 0 m (em h m τ) = some (.inl (nI R), em h m (if r < N then ansS P (ask2 τ R) ((hm + r) % N) R else if pt = 0 then uI (uI (ask2 τ R) 27 R 2) 38 R (τ.1 3) else ask2 τ R)) := by
  have c3 : ¬ nI N = 0 := nI_ne0 (by omega) (by omega)
  have e26 : (uS τ 2 0).1 26 = nI R := hRn
  have e1 : (uI (uS (uS τ 2 0) 26 (nI (R + 1))) 27 R 0).1 1 = nI N := hN
  have e23 : (uI (uS (uS τ 2 0) 26 (nI (R + 1))) 27 R 0).2.1 23 = τ.2.1 23 := rfl
  have e3 : (uI (uI (uS (uS τ 2 0) 26 (nI (R + 1))) 27 R 0) 27 R 2).1 3 = τ.1 3 := rfl
  by_cases c1 : r < N
  · have c1' : ¬ nI N ≤ nI r := nI_ge c1 (by omega)
    have hmod : (hm + r) % N < N := Nat.mod_lt _ (by omega)
    have an := s_answer (h := h) (m := m) (σ := ask2 τ R) (P := P) (r := (hm + r) % N) (k := R) hP hP1 hP3 (by omega) hR es hq (hso _ (by omega))
    rw [if_pos c1]
    unfold ask2 at an ⊢
    simp (disch := omega) only [f_Mdl_ask_b298, f_Mdl_ask_b371, uS_g, le00, e26, e1, c1', e23, eh, rI, c3, pk_rem, an, ↓mg0, ↓mg1, ↓mg2, ↓mg3, ↓mg26, ↓mp0, ↓mp1, ↓mp2, ↓mp3, ↓mp26, ↓mg4, ↓mg5, ↓mg6, ↓mg7, ↓mg8, ↓mg9, ↓mg10, ↓mg11, ↓mg12, ↓mg13, ↓mg14, ↓mg15, ↓mg16, ↓mg17, ↓mg18, ↓mg19, ↓mg20, ↓mg21, ↓mg22, ↓mg23, ↓mg24, ↓mg25, ↓mg27, ↓mg28, ↓mg29, ↓mg30, ↓mg31, ↓mg32, ↓mg33, ↓mg34, ↓mg35, ↓mg36, ↓mg37, ↓mg38, ↓ml4, ↓ms4, ↓ml5, ↓ms5, ↓ml6, ↓ms6, ↓ml7, ↓ms7, ↓ml8, ↓ms8, ↓ml9, ↓ms9, ↓ml10, ↓ms10, ↓ml11, ↓ms11, ↓ml12, ↓ms12, ↓ml13, ↓ms13, ↓ml14, ↓ms14, ↓ml15, ↓ms15, ↓ml16, ↓ms16, ↓ml17, ↓ms17, ↓ml18, ↓ms18, ↓ml19, ↓ms19, ↓ml20, ↓ms20, ↓ml21, ↓ml22, ↓ms22, ↓ml23, ↓ms23, ↓ml24, ↓ms24, ↓ml25, ↓ms25, ↓ml27, ↓ms27, ↓ml28, ↓ms28, ↓ml29, ↓ms29, ↓ml30, ↓ms30, ↓ml31, ↓ms31, ↓ml32, ↓ms32, ↓ml33, ↓ms33, ↓ml34, ↓ms34, ↓ml35, ↓ms35, ↓ml36, ↓ms36, ↓ml37, ↓ms37, ↓ml38, ↓ms38, ↓m_xv, ↓xb, ↓xr, ml4, ms4, ml5, ms5, ml6, ms6, ml7, ms7, ml8, ms8, ml9, ms9, ml10, ms10, ml11, ms11, ml12, ms12, ml13, ms13, ml14, ms14, ml15, ms15, ml16, ms16, ml17, ms17, ml18, ms18, ml19, ms19, ml20, ms20, ml21, ml22, ms22, ml23, ms23, ml24, ms24, ml25, ms25, ml27, ms27, ml28, ms28, ml29, ms29, ml30, ms30, ml31, ms31, ml32, ms32, ml33, ms33, ml34, ms34, ml35, ms35, ml36, ms36, ml37, ms37, ml38, ms38, n3, n30, n10, n300, n401, n4p, np1, np2, nI_add, ↓reduceIte]
  · have c1' : nI N ≤ nI r := nI_le (by omega) (by omega)
    rw [if_neg c1]
    by_cases c2 : pt = 0
    · subst c2
      unfold ask2
      simp (disch := omega) only [f_Mdl_ask_b298, f_Mdl_ask_b371, f_Mdl_fail, uS_g, le00, e26, e1, c1', e3, ↓mg0, ↓mg1, ↓mg2, ↓mg3, ↓mg26, ↓mp0, ↓mp1, ↓mp2, ↓mp3, ↓mp26, ↓mg4, ↓mg5, ↓mg6, ↓mg7, ↓mg8, ↓mg9, ↓mg10, ↓mg11, ↓mg12, ↓mg13, ↓mg14, ↓mg15, ↓mg16, ↓mg17, ↓mg18, ↓mg19, ↓mg20, ↓mg21, ↓mg22, ↓mg23, ↓mg24, ↓mg25, ↓mg27, ↓mg28, ↓mg29, ↓mg30, ↓mg31, ↓mg32, ↓mg33, ↓mg34, ↓mg35, ↓mg36, ↓mg37, ↓mg38, ↓ml4, ↓ms4, ↓ml5, ↓ms5, ↓ml6, ↓ms6, ↓ml7, ↓ms7, ↓ml8, ↓ms8, ↓ml9, ↓ms9, ↓ml10, ↓ms10, ↓ml11, ↓ms11, ↓ml12, ↓ms12, ↓ml13, ↓ms13, ↓ml14, ↓ms14, ↓ml15, ↓ms15, ↓ml16, ↓ms16, ↓ml17, ↓ms17, ↓ml18, ↓ms18, ↓ml19, ↓ms19, ↓ml20, ↓ms20, ↓ml21, ↓ml22, ↓ms22, ↓ml23, ↓ms23, ↓ml24, ↓ms24, ↓ml25, ↓ms25, ↓ml27, ↓ms27, ↓ml28, ↓ms28, ↓ml29, ↓ms29, ↓ml30, ↓ms30, ↓ml31, ↓ms31, ↓ml32, ↓ms32, ↓ml33, ↓ms33, ↓ml34, ↓ms34, ↓ml35, ↓ms35, ↓ml36, ↓ms36, ↓ml37, ↓ms37, ↓ml38, ↓ms38, ↓m_xv, ↓xb, ↓xr, ml4, ms4, ml5, ms5, ml6, ms6, ml7, ms7, ml8, ms8, ml9, ms9, ml10, ms10, ml11, ms11, ml12, ms12, ml13, ms13, ml14, ms14, ml15, ms15, ml16, ms16, ml17, ms17, ml18, ms18, ml19, ms19, ml20, ms20, ml21, ml22, ms22, ml23, ms23, ml24, ms24, ml25, ms25, ml27, ms27, ml28, ms28, ml29, ms29, ml30, ms30, ml31, ms31, ml32, ms32, ml33, ms33, ml34, ms34, ml35, ms35, ml36, ms36, ml37, ms37, ml38, ms38, n3, n30, n10, n300, n401, n4p, np1, np2, nI_add, ↓reduceIte]
    · rw [if_neg c2]
      unfold ask2
      simp (disch := omega) only [f_Mdl_ask_b298, f_Mdl_ask_b371, uS_g, le00, e26, e1, c1', c2, ↓mg0, ↓mg1, ↓mg2, ↓mg3, ↓mg26, ↓mp0, ↓mp1, ↓mp2, ↓mp3, ↓mp26, ↓mg4, ↓mg5, ↓mg6, ↓mg7, ↓mg8, ↓mg9, ↓mg10, ↓mg11, ↓mg12, ↓mg13, ↓mg14, ↓mg15, ↓mg16, ↓mg17, ↓mg18, ↓mg19, ↓mg20, ↓mg21, ↓mg22, ↓mg23, ↓mg24, ↓mg25, ↓mg27, ↓mg28, ↓mg29, ↓mg30, ↓mg31, ↓mg32, ↓mg33, ↓mg34, ↓mg35, ↓mg36, ↓mg37, ↓mg38, ↓ml4, ↓ms4, ↓ml5, ↓ms5, ↓ml6, ↓ms6, ↓ml7, ↓ms7, ↓ml8, ↓ms8, ↓ml9, ↓ms9, ↓ml10, ↓ms10, ↓ml11, ↓ms11, ↓ml12, ↓ms12, ↓ml13, ↓ms13, ↓ml14, ↓ms14, ↓ml15, ↓ms15, ↓ml16, ↓ms16, ↓ml17, ↓ms17, ↓ml18, ↓ms18, ↓ml19, ↓ms19, ↓ml20, ↓ms20, ↓ml21, ↓ml22, ↓ms22, ↓ml23, ↓ms23, ↓ml24, ↓ms24, ↓ml25, ↓ms25, ↓ml27, ↓ms27, ↓ml28, ↓ms28, ↓ml29, ↓ms29, ↓ml30, ↓ms30, ↓ml31, ↓ms31, ↓ml32, ↓ms32, ↓ml33, ↓ms33, ↓ml34, ↓ms34, ↓ml35, ↓ms35, ↓ml36, ↓ms36, ↓ml37, ↓ms37, ↓ml38, ↓ms38, ↓m_xv, ↓xb, ↓xr, ml4, ms4, ml5, ms5, ml6, ms6, ml7, ms7, ml8, ms8, ml9, ms9, ml10, ms10, ml11, ms11, ml12, ms12, ml13, ms13, ml14, ms14, ml15, ms15, ml16, ms16, ml17, ms17, ml18, ms18, ml19, ms19, ml20, ms20, ml21, ml22, ms22, ml23, ms23, ml24, ms24, ml25, ms25, ml27, ms27, ml28, ms28, ml29, ms29, ml30, ms30, ml31, ms31, ml32, ms32, ml33, ms33, ml34, ms34, ml35, ms35, ml36, ms36, ml37, ms37, ml38, ms38, n3, n30, n10, n300, n401, n4p, np1, np2, nI_add, ↓reduceIte]
theorem s_ask231 {s hm : Nat} {pt : Int32} (hP : τ.1 0 = nI P) (hN : τ.1 1 = nI N) (hRn : τ.1 26 = nI R) (hP1 : 1 ≤ P) (hP3 : P ≤ 3) (hN1 : 1 ≤ N) (hN4 : N ≤ 4) (hR : R < 500) (hs : s < 8) (hhm : hm < N) (eh : τ.2.1 23 s = nI hm) (es : ∃ s, s < 8 ∧ τ.2.1 28 R = nI s) (hq : qok P (τ.2.1 33 R) (τ.2.1 34 R)) (hso : ∀ r, r < 8 → sok τ r) (hpt : 0 ≤ pt) :
    f_Mdl_ask_h231 1000 m (nI s) pt (nI R) 0 (em h m τ) = some (.inl (askF P N τ hm R pt).1, em h m (askF P N τ hm R pt).2) := by
  have c3 : ¬ nI N = 0 := nI_ne0 (by omega) (by omega)
  have key : ∀ d r n, r + d = N → d < n → f_Mdl_ask_h231 n m (nI s) pt (nI R) (nI r) (em h m τ) = f_Mdl_ask_b269 m (nI s) pt (nI R) (nI (fst (fun r => mayb P τ ((hm + r) % N) R) d r)) (em h m τ) := by
    intro d
    induction d with
    | zero =>
      intro r n hr hn
      obtain ⟨n, rfl, -⟩ := pos_of hn
      obtain rfl : r = N := by omega
      have c1 : nI r ≤ nI r := nI_le (by omega) (by omega)
      simp only [f_Mdl_ask_h231, f_Mdl_ask_b231, c1, hN, fst, ↓mg1, ↓reduceIte]
    | succ d ih =>
      intro r n hr hn
      obtain ⟨n, rfl, hn⟩ := pos_of hn
      have c1 : ¬ nI N ≤ nI r := nI_ge (by omega) (by omega)
      have i1 := ih (r + 1) n (by omega) (by omega)
      have hmod : (hm + r) % N < N := Nat.mod_lt _ (by omega)
      have my := s_may (h := h) (m := m) (σ := τ) (P := P) (r := (hm + r) % N) (k := R) hP hP1 hP3 (by omega) hR es
      simp only [fst]
      by_cases c2 : mayb P τ ((hm + r) % N) R = true
      rotate_left
      · rw [if_neg c2]
        rw [Bool.not_eq_true] at c2
        rw [c2, bI_f] at my
        simp (disch := omega) only [f_Mdl_ask_h231, f_Mdl_ask_b231, c1, hN, eh, rI, c3, pk_rem, my, ↓mg0, ↓mg1, ↓mg2, ↓mg3, ↓mg26, ↓mp0, ↓mp1, ↓mp2, ↓mp3, ↓mp26, ↓mg4, ↓mg5, ↓mg6, ↓mg7, ↓mg8, ↓mg9, ↓mg10, ↓mg11, ↓mg12, ↓mg13, ↓mg14, ↓mg15, ↓mg16, ↓mg17, ↓mg18, ↓mg19, ↓mg20, ↓mg21, ↓mg22, ↓mg23, ↓mg24, ↓mg25, ↓mg27, ↓mg28, ↓mg29, ↓mg30, ↓mg31, ↓mg32, ↓mg33, ↓mg34, ↓mg35, ↓mg36, ↓mg37, ↓mg38, ↓ml4, ↓ms4, ↓ml5, ↓ms5, ↓ml6, ↓ms6, ↓ml7, ↓ms7, ↓ml8, ↓ms8, ↓ml9, ↓ms9, ↓ml10, ↓ms10, ↓ml11, ↓ms11, ↓ml12, ↓ms12, ↓ml13, ↓ms13, ↓ml14, ↓ms14, ↓ml15, ↓ms15, ↓ml16, ↓ms16, ↓ml17, ↓ms17, ↓ml18, ↓ms18, ↓ml19, ↓ms19, ↓ml20, ↓ms20, ↓ml21, ↓ml22, ↓ms22, ↓ml23, ↓ms23, ↓ml24, ↓ms24, ↓ml25, ↓ms25, ↓ml27, ↓ms27, ↓ml28, ↓ms28, ↓ml29, ↓ms29, ↓ml30, ↓ms30, ↓ml31, ↓ms31, ↓ml32, ↓ms32, ↓ml33, ↓ms33, ↓ml34, ↓ms34, ↓ml35, ↓ms35, ↓ml36, ↓ms36, ↓ml37, ↓ms37, ↓ml38, ↓ms38, ↓m_xv, ↓xb, ↓xr, ml4, ms4, ml5, ms5, ml6, ms6, ml7, ms7, ml8, ms8, ml9, ms9, ml10, ms10, ml11, ms11, ml12, ms12, ml13, ms13, ml14, ms14, ml15, ms15, ml16, ms16, ml17, ms17, ml18, ms18, ml19, ms19, ml20, ms20, ml21, ml22, ms22, ml23, ms23, ml24, ms24, ml25, ms25, ml27, ms27, ml28, ms28, ml29, ms29, ml30, ms30, ml31, ms31, ml32, ms32, ml33, ms33, ml34, ms34, ml35, ms35, ml36, ms36, ml37, ms37, ml38, ms38, n3, n30, n10, n300, n401, n4p, np1, np2, nI_add, ↓reduceIte]
        exact i1
      · rw [if_pos c2]
        rw [c2, bI_t] at my
        simp (disch := omega) only [f_Mdl_ask_h231, f_Mdl_ask_b231, c1, hN, eh, rI, c3, pk_rem, my, ne10, ↓mg0, ↓mg1, ↓mg2, ↓mg3, ↓mg26, ↓mp0, ↓mp1, ↓mp2, ↓mp3, ↓mp26, ↓mg4, ↓mg5, ↓mg6, ↓mg7, ↓mg8, ↓mg9, ↓mg10, ↓mg11, ↓mg12, ↓mg13, ↓mg14, ↓mg15, ↓mg16, ↓mg17, ↓mg18, ↓mg19, ↓mg20, ↓mg21, ↓mg22, ↓mg23, ↓mg24, ↓mg25, ↓mg27, ↓mg28, ↓mg29, ↓mg30, ↓mg31, ↓mg32, ↓mg33, ↓mg34, ↓mg35, ↓mg36, ↓mg37, ↓mg38, ↓ml4, ↓ms4, ↓ml5, ↓ms5, ↓ml6, ↓ms6, ↓ml7, ↓ms7, ↓ml8, ↓ms8, ↓ml9, ↓ms9, ↓ml10, ↓ms10, ↓ml11, ↓ms11, ↓ml12, ↓ms12, ↓ml13, ↓ms13, ↓ml14, ↓ms14, ↓ml15, ↓ms15, ↓ml16, ↓ms16, ↓ml17, ↓ms17, ↓ml18, ↓ms18, ↓ml19, ↓ms19, ↓ml20, ↓ms20, ↓ml21, ↓ml22, ↓ms22, ↓ml23, ↓ms23, ↓ml24, ↓ms24, ↓ml25, ↓ms25, ↓ml27, ↓ms27, ↓ml28, ↓ms28, ↓ml29, ↓ms29, ↓ml30, ↓ms30, ↓ml31, ↓ms31, ↓ml32, ↓ms32, ↓ml33, ↓ms33, ↓ml34, ↓ms34, ↓ml35, ↓ms35, ↓ml36, ↓ms36, ↓ml37, ↓ms37, ↓ml38, ↓ms38, ↓m_xv, ↓xb, ↓xr, ml4, ms4, ml5, ms5, ml6, ms6, ml7, ms7, ml8, ms8, ml9, ms9, ml10, ms10, ml11, ms11, ml12, ms12, ml13, ms13, ml14, ms14, ml15, ms15, ml16, ms16, ml17, ms17, ml18, ms18, ml19, ms19, ml20, ms20, ml21, ml22, ms22, ml23, ms23, ml24, ms24, ml25, ms25, ml27, ms27, ml28, ms28, ml29, ms29, ml30, ms30, ml31, ms31, ml32, ms32, ml33, ms33, ml34, ms34, ml35, ms35, ml36, ms36, ml37, ms37, ml38, ms38, n3, n30, n10, n300, n401, n4p, np1, np2, nI_add, ↓reduceIte]
  have k0 := key N 0 1000 (by omega) (by omega)
  rw [nI_0] at k0
  rw [k0]
  unfold askF fndS
  have fl := fst_le (fun r => mayb P τ ((hm + r) % N) R) N 0
  generalize fst (fun r => mayb P τ ((hm + r) % N) R) N 0 = r at fl ⊢
  have hr : r ≤ N := by omega
  have b298 := s_ask298 (h := h) (m := m) (s := s) (pt := pt) hP hN hRn hP1 hP3 hN1 hN4 hR hs hhm eh es hq hso hr
  have wt := s_waiting (h := h) (m := m) (σ := τ) (R := R) hRn (by omega)
  by_cases c1 : r < N
  · have c1' : ¬ nI r = nI N := by rw [nI_eq (by omega) (by omega)]; omega
    rw [if_pos c1] at b298 ⊢
    simp only [f_Mdl_ask_b269, f_Mdl_ask_b297, hN, c1', b298, ↓mg1, ↓reduceIte]
  · obtain rfl : r = N := by omega
    rw [if_neg c1] at b298 ⊢
    by_cases c2 : pt = 0
    · rw [if_pos c2] at b298 ⊢
      have c2' : pt ≤ 0 := by rw [c2]; exact le00
      simp only [f_Mdl_ask_b269, f_Mdl_ask_b297, hN, c2', b298, ↓mg1, ↓reduceIte]
    · rw [if_neg c2] at b298 ⊢
      have c2' : ¬ pt ≤ 0 := fun q => c2 (Int32.le_antisymm q hpt)
      by_cases c4 : cnt τ 0 R = 40
      · rw [if_pos c4]
        rw [c4] at wt
        simp only [f_Mdl_ask_b269, f_Mdl_ask_b297, f_Mdl_ask_b298, hN, c2', wt, show nI 40 = 40 from rfl, uS_g, le30, ↓mg0, ↓mg1, ↓mg2, ↓mg3, ↓mg26, ↓mp0, ↓mp1, ↓mp2, ↓mp3, ↓mp26, ↓mg4, ↓mg5, ↓mg6, ↓mg7, ↓mg8, ↓mg9, ↓mg10, ↓mg11, ↓mg12, ↓mg13, ↓mg14, ↓mg15, ↓mg16, ↓mg17, ↓mg18, ↓mg19, ↓mg20, ↓mg21, ↓mg22, ↓mg23, ↓mg24, ↓mg25, ↓mg27, ↓mg28, ↓mg29, ↓mg30, ↓mg31, ↓mg32, ↓mg33, ↓mg34, ↓mg35, ↓mg36, ↓mg37, ↓mg38, ↓ml4, ↓ms4, ↓ml5, ↓ms5, ↓ml6, ↓ms6, ↓ml7, ↓ms7, ↓ml8, ↓ms8, ↓ml9, ↓ms9, ↓ml10, ↓ms10, ↓ml11, ↓ms11, ↓ml12, ↓ms12, ↓ml13, ↓ms13, ↓ml14, ↓ms14, ↓ml15, ↓ms15, ↓ml16, ↓ms16, ↓ml17, ↓ms17, ↓ml18, ↓ms18, ↓ml19, ↓ms19, ↓ml20, ↓ms20, ↓ml21, ↓ml22, ↓ms22, ↓ml23, ↓ms23, ↓ml24, ↓ms24, ↓ml25, ↓ms25, ↓ml27, ↓ms27, ↓ml28, ↓ms28, ↓ml29, ↓ms29, ↓ml30, ↓ms30, ↓ml31, ↓ms31, ↓ml32, ↓ms32, ↓ml33, ↓ms33, ↓ml34, ↓ms34, ↓ml35, ↓ms35, ↓ml36, ↓ms36, ↓ml37, ↓ms37, ↓ml38, ↓ms38, ↓m_xv, ↓xb, ↓xr, ml4, ms4, ml5, ms5, ml6, ms6, ml7, ms7, ml8, ms8, ml9, ms9, ml10, ms10, ml11, ms11, ml12, ms12, ml13, ms13, ml14, ms14, ml15, ms15, ml16, ms16, ml17, ms17, ml18, ms18, ml19, ms19, ml20, ms20, ml21, ml22, ms22, ml23, ms23, ml24, ms24, ml25, ms25, ml27, ms27, ml28, ms28, ml29, ms29, ml30, ms30, ml31, ms31, ml32, ms32, ml33, ms33, ml34, ms34, ml35, ms35, ml36, ms36, ml37, ms37, ml38, ms38, n3, n30, n10, n300, n401, n4p, np1, np2, nI_add, ↓reduceIte]
      · rw [if_neg c4]
        have hc := cnt_le τ 0 R
        have c4' : ¬ nI (cnt τ 0 R) = 40 := by rw [show (40 : Int32) = nI 40 from rfl, nI_eq (by omega) (by omega)]; exact c4
        simp only [f_Mdl_ask_b269, f_Mdl_ask_b297, hN, c2', wt, c4', b298, ↓mg1, ↓m_xv, ↓xb, ↓reduceIte]
theorem s_askT {s : Nat} {tok : Int64} {bd pt kd ab : Int32} (hR : R < 500) : f_Mdl_ask_h119 1000 m (nI s) tok bd pt kd ab (nI R) 0 (em h m (uI σ 28 R (nI s))) = f_Mdl_ask_h231 1000 m (nI s) pt (nI R) 0 (em h m (askT σ R s tok bd pt kd ab)) := by
  have key : ∀ d q n, q + d = 3 → d < n → f_Mdl_ask_h119 n m (nI s) tok bd pt kd ab (nI R) (nI q) (em h m (nqS (uI σ 28 R (nI s)) R tok q)) = f_Mdl_ask_h231 1000 m (nI s) pt (nI R) 0 (em h m (askT σ R s tok bd pt kd ab)) := by
    intro d
    induction d with
    | zero =>
      intro q n hq hn
      obtain ⟨n, rfl, -⟩ := pos_of hn
      obtain rfl : q = 3 := by omega
      have c1 : (3 : Int32) ≤ nI 3 := by decide
      unfold askT
      have e3 : ∀ v w, (uI (uI (nqS (uI σ 28 R (nI s)) R tok 3) 30 R v) 31 R w).1 3 = σ.1 3 := fun v w => by
        show (nqS (uI σ 28 R (nI s)) R tok 3).1 3 = _
        rw [(nq_same _ _ _ _).1]
        rfl
      simp (disch := omega) only [f_Mdl_ask_h119, f_Mdl_ask_b119, c1, e3, ↓mg0, ↓mg1, ↓mg2, ↓mg3, ↓mg26, ↓mp0, ↓mp1, ↓mp2, ↓mp3, ↓mp26, ↓mg4, ↓mg5, ↓mg6, ↓mg7, ↓mg8, ↓mg9, ↓mg10, ↓mg11, ↓mg12, ↓mg13, ↓mg14, ↓mg15, ↓mg16, ↓mg17, ↓mg18, ↓mg19, ↓mg20, ↓mg21, ↓mg22, ↓mg23, ↓mg24, ↓mg25, ↓mg27, ↓mg28, ↓mg29, ↓mg30, ↓mg31, ↓mg32, ↓mg33, ↓mg34, ↓mg35, ↓mg36, ↓mg37, ↓mg38, ↓ml4, ↓ms4, ↓ml5, ↓ms5, ↓ml6, ↓ms6, ↓ml7, ↓ms7, ↓ml8, ↓ms8, ↓ml9, ↓ms9, ↓ml10, ↓ms10, ↓ml11, ↓ms11, ↓ml12, ↓ms12, ↓ml13, ↓ms13, ↓ml14, ↓ms14, ↓ml15, ↓ms15, ↓ml16, ↓ms16, ↓ml17, ↓ms17, ↓ml18, ↓ms18, ↓ml19, ↓ms19, ↓ml20, ↓ms20, ↓ml21, ↓ml22, ↓ms22, ↓ml23, ↓ms23, ↓ml24, ↓ms24, ↓ml25, ↓ms25, ↓ml27, ↓ms27, ↓ml28, ↓ms28, ↓ml29, ↓ms29, ↓ml30, ↓ms30, ↓ml31, ↓ms31, ↓ml32, ↓ms32, ↓ml33, ↓ms33, ↓ml34, ↓ms34, ↓ml35, ↓ms35, ↓ml36, ↓ms36, ↓ml37, ↓ms37, ↓ml38, ↓ms38, ↓m_xv, ↓xb, ↓xr, ml4, ms4, ml5, ms5, ml6, ms6, ml7, ms7, ml8, ms8, ml9, ms9, ml10, ms10, ml11, ms11, ml12, ms12, ml13, ms13, ml14, ms14, ml15, ms15, ml16, ms16, ml17, ms17, ml18, ms18, ml19, ms19, ml20, ms20, ml21, ml22, ms22, ml23, ms23, ml24, ms24, ml25, ms25, ml27, ms27, ml28, ms28, ml29, ms29, ml30, ms30, ml31, ms31, ml32, ms32, ml33, ms33, ml34, ms34, ml35, ms35, ml36, ms36, ml37, ms37, ml38, ms38, n3, n30, n10, n300, n401, n4p, np1, np2, nI_add, ↓reduceIte]
    | succ d ih =>
      intro q n hq hn
      obtain ⟨n, rfl, hn⟩ := pos_of hn
      have c1 : ¬ (3 : Int32) ≤ nI q := nI_ge (b := 3) (by omega) (by omega)
      have i1 := ih (q + 1) n (by omega) (by omega)
      simp (disch := omega) only [f_Mdl_ask_h119, f_Mdl_ask_b119, c1, s_position, ↓mg0, ↓mg1, ↓mg2, ↓mg3, ↓mg26, ↓mp0, ↓mp1, ↓mp2, ↓mp3, ↓mp26, ↓mg4, ↓mg5, ↓mg6, ↓mg7, ↓mg8, ↓mg9, ↓mg10, ↓mg11, ↓mg12, ↓mg13, ↓mg14, ↓mg15, ↓mg16, ↓mg17, ↓mg18, ↓mg19, ↓mg20, ↓mg21, ↓mg22, ↓mg23, ↓mg24, ↓mg25, ↓mg27, ↓mg28, ↓mg29, ↓mg30, ↓mg31, ↓mg32, ↓mg33, ↓mg34, ↓mg35, ↓mg36, ↓mg37, ↓mg38, ↓ml4, ↓ms4, ↓ml5, ↓ms5, ↓ml6, ↓ms6, ↓ml7, ↓ms7, ↓ml8, ↓ms8, ↓ml9, ↓ms9, ↓ml10, ↓ms10, ↓ml11, ↓ms11, ↓ml12, ↓ms12, ↓ml13, ↓ms13, ↓ml14, ↓ms14, ↓ml15, ↓ms15, ↓ml16, ↓ms16, ↓ml17, ↓ms17, ↓ml18, ↓ms18, ↓ml19, ↓ms19, ↓ml20, ↓ms20, ↓ml21, ↓ml22, ↓ms22, ↓ml23, ↓ms23, ↓ml24, ↓ms24, ↓ml25, ↓ms25, ↓ml27, ↓ms27, ↓ml28, ↓ms28, ↓ml29, ↓ms29, ↓ml30, ↓ms30, ↓ml31, ↓ms31, ↓ml32, ↓ms32, ↓ml33, ↓ms33, ↓ml34, ↓ms34, ↓ml35, ↓ms35, ↓ml36, ↓ms36, ↓ml37, ↓ms37, ↓ml38, ↓ms38, ↓m_xv, ↓xb, ↓xr, ml4, ms4, ml5, ms5, ml6, ms6, ml7, ms7, ml8, ms8, ml9, ms9, ml10, ms10, ml11, ms11, ml12, ms12, ml13, ms13, ml14, ms14, ml15, ms15, ml16, ms16, ml17, ms17, ml18, ms18, ml19, ms19, ml20, ms20, ml21, ml22, ms22, ml23, ms23, ml24, ms24, ml25, ms25, ml27, ms27, ml28, ms28, ml29, ms29, ml30, ms30, ml31, ms31, ml32, ms32, ml33, ms33, ml34, ms34, ml35, ms35, ml36, ms36, ml37, ms37, ml38, ms38, n3, n30, n10, n300, n401, n4p, np1, np2, nI_add, ↓reduceIte]
      exact i1
  exact key 3 0 1000 (by omega) (by omega)
theorem s_ask1 (hP : σ.1 0 = nI P) (hP3 : P ≤ 3) {a bd pt kd ab : Int32} {tok : Int64} (h1 : (inb a.toInt64 0 7 && isQ P kd ab) = false) : f_Mdl_ask m a tok bd pt kd ab (em h m σ) = some (.inl 0, em h m (uS σ 2 1)) := by
  have fin : ∀ t0 : Int32, f_Mdl_ask_b41 m a tok bd pt kd ab t0 (em h m σ) = some (.inl 0, em h m (uS σ 2 1)) := by
    intro t0
    cases h2 : inb a.toInt64 0 7
    · simp only [f_Mdl_ask_b41, f_Mdl_ask_b62, f_Mdl_ask_b90, s_isSession, h2, bI_f, uS_g, le10, ↓mg0, ↓mg1, ↓mg2, ↓mg3, ↓mg26, ↓mp0, ↓mp1, ↓mp2, ↓mp3, ↓mp26, ↓mg4, ↓mg5, ↓mg6, ↓mg7, ↓mg8, ↓mg9, ↓mg10, ↓mg11, ↓mg12, ↓mg13, ↓mg14, ↓mg15, ↓mg16, ↓mg17, ↓mg18, ↓mg19, ↓mg20, ↓mg21, ↓mg22, ↓mg23, ↓mg24, ↓mg25, ↓mg27, ↓mg28, ↓mg29, ↓mg30, ↓mg31, ↓mg32, ↓mg33, ↓mg34, ↓mg35, ↓mg36, ↓mg37, ↓mg38, ↓ml4, ↓ms4, ↓ml5, ↓ms5, ↓ml6, ↓ms6, ↓ml7, ↓ms7, ↓ml8, ↓ms8, ↓ml9, ↓ms9, ↓ml10, ↓ms10, ↓ml11, ↓ms11, ↓ml12, ↓ms12, ↓ml13, ↓ms13, ↓ml14, ↓ms14, ↓ml15, ↓ms15, ↓ml16, ↓ms16, ↓ml17, ↓ms17, ↓ml18, ↓ms18, ↓ml19, ↓ms19, ↓ml20, ↓ms20, ↓ml21, ↓ml22, ↓ms22, ↓ml23, ↓ms23, ↓ml24, ↓ms24, ↓ml25, ↓ms25, ↓ml27, ↓ms27, ↓ml28, ↓ms28, ↓ml29, ↓ms29, ↓ml30, ↓ms30, ↓ml31, ↓ms31, ↓ml32, ↓ms32, ↓ml33, ↓ms33, ↓ml34, ↓ms34, ↓ml35, ↓ms35, ↓ml36, ↓ms36, ↓ml37, ↓ms37, ↓ml38, ↓ms38, ↓m_xv, ↓xb, ↓xr, ml4, ms4, ml5, ms5, ml6, ms6, ml7, ms7, ml8, ms8, ml9, ms9, ml10, ms10, ml11, ms11, ml12, ms12, ml13, ms13, ml14, ms14, ml15, ms15, ml16, ms16, ml17, ms17, ml18, ms18, ml19, ms19, ml20, ms20, ml21, ml22, ms22, ml23, ms23, ml24, ms24, ml25, ms25, ml27, ms27, ml28, ms28, ml29, ms29, ml30, ms30, ml31, ms31, ml32, ms32, ml33, ms33, ml34, ms34, ml35, ms35, ml36, ms36, ml37, ms37, ml38, ms38, n3, n30, n10, n300, n401, n4p, np1, np2, nI_add, ↓reduceIte]
    · rw [h2, Bool.true_and] at h1
      simp only [f_Mdl_ask_b41, f_Mdl_ask_b62, f_Mdl_ask_b90, s_isSession, s_isQuestion hP, h1, h2, bI_f, bI_t, ne10, uS_g, le10, ↓mg0, ↓mg1, ↓mg2, ↓mg3, ↓mg26, ↓mp0, ↓mp1, ↓mp2, ↓mp3, ↓mp26, ↓mg4, ↓mg5, ↓mg6, ↓mg7, ↓mg8, ↓mg9, ↓mg10, ↓mg11, ↓mg12, ↓mg13, ↓mg14, ↓mg15, ↓mg16, ↓mg17, ↓mg18, ↓mg19, ↓mg20, ↓mg21, ↓mg22, ↓mg23, ↓mg24, ↓mg25, ↓mg27, ↓mg28, ↓mg29, ↓mg30, ↓mg31, ↓mg32, ↓mg33, ↓mg34, ↓mg35, ↓mg36, ↓mg37, ↓mg38, ↓ml4, ↓ms4, ↓ml5, ↓ms5, ↓ml6, ↓ms6, ↓ml7, ↓ms7, ↓ml8, ↓ms8, ↓ml9, ↓ms9, ↓ml10, ↓ms10, ↓ml11, ↓ms11, ↓ml12, ↓ms12, ↓ml13, ↓ms13, ↓ml14, ↓ms14, ↓ml15, ↓ms15, ↓ml16, ↓ms16, ↓ml17, ↓ms17, ↓ml18, ↓ms18, ↓ml19, ↓ms19, ↓ml20, ↓ms20, ↓ml21, ↓ml22, ↓ms22, ↓ml23, ↓ms23, ↓ml24, ↓ms24, ↓ml25, ↓ms25, ↓ml27, ↓ms27, ↓ml28, ↓ms28, ↓ml29, ↓ms29, ↓ml30, ↓ms30, ↓ml31, ↓ms31, ↓ml32, ↓ms32, ↓ml33, ↓ms33, ↓ml34, ↓ms34, ↓ml35, ↓ms35, ↓ml36, ↓ms36, ↓ml37, ↓ms37, ↓ml38, ↓ms38, ↓m_xv, ↓xb, ↓xr, ml4, ms4, ml5, ms5, ml6, ms6, ml7, ms7, ml8, ms8, ml9, ms9, ml10, ms10, ml11, ms11, ml12, ms12, ml13, ms13, ml14, ms14, ml15, ms15, ml16, ms16, ml17, ms17, ml18, ms18, ml19, ms19, ml20, ms20, ml21, ml22, ms22, ml23, ms23, ml24, ms24, ml25, ms25, ml27, ms27, ml28, ms28, ml29, ms29, ml30, ms30, ml31, ms31, ml32, ms32, ml33, ms33, ml34, ms34, ml35, ms35, ml36, ms36, ml37, ms37, ml38, ms38, n3, n30, n10, n300, n401, n4p, np1, np2, nI_add, ↓reduceIte]
  cases c1 : isTok P σ tok
  · simp only [f_Mdl_ask, f_Mdl_ask_b40, s_isToken hP hP3, c1, bI_f, fin, ↓m_xv, ↓xb, ↓reduceIte]
  cases c2 : inb bd.toInt64 (-1) 400
  · simp only [f_Mdl_ask, f_Mdl_ask_b40, s_isToken hP hP3, s_in, c1, c2, bI_t, ne10, bI_f, fin, ↓m_xv, ↓xb, ↓reduceIte]
  cases c3 : inb pt.toInt64 0 1000
  · simp only [f_Mdl_ask, f_Mdl_ask_b40, s_isToken hP hP3, s_in, c1, c2, c3, bI_t, ne10, bI_f, fin, ↓m_xv, ↓xb, ↓reduceIte]
  · simp only [f_Mdl_ask, f_Mdl_ask_b40, s_isToken hP hP3, s_in, c1, c2, c3, bI_t, ne10, fin, ↓m_xv, ↓xb, ↓reduceIte]
theorem s_ask2 (hP : σ.1 0 = nI P) (hP3 : P ≤ 3) {a bd pt kd ab : Int32} {tok : Int64} (h1 : inb a.toInt64 0 7 = true) (h2 : isQ P kd ab = true) (h3 : (isTok P σ tok && (inb bd.toInt64 (-1) 400 && inb pt.toInt64 0 1000)) = false) : f_Mdl_ask m a tok bd pt kd ab (em h m σ) = some (.inl 0, em h m (uS σ 2 2)) := by
  have fin : f_Mdl_ask_b41 m a tok bd pt kd ab 0 (em h m σ) = some (.inl 0, em h m (uS σ 2 2)) := by
    simp only [f_Mdl_ask_b41, f_Mdl_ask_b62, f_Mdl_ask_b90, s_isSession, s_isQuestion hP, h1, h2, bI_t, ne10, uS_g, le20, ↓mg0, ↓mg1, ↓mg2, ↓mg3, ↓mg26, ↓mp0, ↓mp1, ↓mp2, ↓mp3, ↓mp26, ↓mg4, ↓mg5, ↓mg6, ↓mg7, ↓mg8, ↓mg9, ↓mg10, ↓mg11, ↓mg12, ↓mg13, ↓mg14, ↓mg15, ↓mg16, ↓mg17, ↓mg18, ↓mg19, ↓mg20, ↓mg21, ↓mg22, ↓mg23, ↓mg24, ↓mg25, ↓mg27, ↓mg28, ↓mg29, ↓mg30, ↓mg31, ↓mg32, ↓mg33, ↓mg34, ↓mg35, ↓mg36, ↓mg37, ↓mg38, ↓ml4, ↓ms4, ↓ml5, ↓ms5, ↓ml6, ↓ms6, ↓ml7, ↓ms7, ↓ml8, ↓ms8, ↓ml9, ↓ms9, ↓ml10, ↓ms10, ↓ml11, ↓ms11, ↓ml12, ↓ms12, ↓ml13, ↓ms13, ↓ml14, ↓ms14, ↓ml15, ↓ms15, ↓ml16, ↓ms16, ↓ml17, ↓ms17, ↓ml18, ↓ms18, ↓ml19, ↓ms19, ↓ml20, ↓ms20, ↓ml21, ↓ml22, ↓ms22, ↓ml23, ↓ms23, ↓ml24, ↓ms24, ↓ml25, ↓ms25, ↓ml27, ↓ms27, ↓ml28, ↓ms28, ↓ml29, ↓ms29, ↓ml30, ↓ms30, ↓ml31, ↓ms31, ↓ml32, ↓ms32, ↓ml33, ↓ms33, ↓ml34, ↓ms34, ↓ml35, ↓ms35, ↓ml36, ↓ms36, ↓ml37, ↓ms37, ↓ml38, ↓ms38, ↓m_xv, ↓xb, ↓xr, ml4, ms4, ml5, ms5, ml6, ms6, ml7, ms7, ml8, ms8, ml9, ms9, ml10, ms10, ml11, ms11, ml12, ms12, ml13, ms13, ml14, ms14, ml15, ms15, ml16, ms16, ml17, ms17, ml18, ms18, ml19, ms19, ml20, ms20, ml21, ml22, ms22, ml23, ms23, ml24, ms24, ml25, ms25, ml27, ms27, ml28, ms28, ml29, ms29, ml30, ms30, ml31, ms31, ml32, ms32, ml33, ms33, ml34, ms34, ml35, ms35, ml36, ms36, ml37, ms37, ml38, ms38, n3, n30, n10, n300, n401, n4p, np1, np2, nI_add, ↓reduceIte]
  cases c1 : isTok P σ tok
  · simp only [f_Mdl_ask, f_Mdl_ask_b40, s_isToken hP hP3, c1, bI_f, fin, ↓m_xv, ↓xb, ↓reduceIte]
  cases c2 : inb bd.toInt64 (-1) 400
  · simp only [f_Mdl_ask, f_Mdl_ask_b40, s_isToken hP hP3, s_in, c1, c2, bI_t, ne10, bI_f, fin, ↓m_xv, ↓xb, ↓reduceIte]
  · rw [c1, c2, Bool.true_and, Bool.true_and] at h3
    simp only [f_Mdl_ask, f_Mdl_ask_b40, s_isToken hP hP3, s_in, c1, c2, h3, bI_t, ne10, bI_f, fin, ↓m_xv, ↓xb, ↓reduceIte]
theorem s_ask3 (hP : σ.1 0 = nI P) (hP3 : P ≤ 3) {a bd pt kd ab : Int32} {tok : Int64} (h1 : inb a.toInt64 0 7 = true) (h2 : isQ P kd ab = true) (h3 : isTok P σ tok = true) (h4 : inb bd.toInt64 (-1) 400 = true) (h5 : inb pt.toInt64 0 1000 = true) (h6 : σ.1 26 = 500) : f_Mdl_ask m a tok bd pt kd ab (em h m σ) = some (.inl 0, em h m (uS σ 2 3)) := by
  have b90 : f_Mdl_ask_b90 m a tok bd pt kd ab 3 m (em h m σ) = some (.inl 0, em h m (uS σ 2 3)) := by
    unfold f_Mdl_ask_b90
    rw [mp2, mg2, uS_g, if_neg le30]
    rfl
  have fin : f_Mdl_ask_b41 m a tok bd pt kd ab 1 (em h m σ) = some (.inl 0, em h m (uS σ 2 3)) := by
    simp only [f_Mdl_ask_b41, s_isSession, s_isQuestion hP, h1, h2, h6, bI_t, ne10, b90, ↓mg26, ↓m_xv, ↓xb, ↓reduceIte]
  simp only [f_Mdl_ask, f_Mdl_ask_b40, s_isToken hP hP3, s_in, h3, h4, h5, bI_t, ne10, fin, ↓m_xv, ↓xb, ↓reduceIte]
theorem s_ask90 {s : Nat} {bd pt kd ab : Int32} {tok : Int64} (hRn : σ.1 26 = nI R) (hR : R < 500) : f_Mdl_ask_b90 m (nI s) tok bd pt kd ab 0 m (em h m σ) = f_Mdl_ask_h119 1000 m (nI s) tok bd pt kd ab (nI R) 0 (em h m (uI (uS σ 2 0) 28 R (nI s))) := by
  have e26' : (uS σ 2 0).1 26 = nI R := hRn
  unfold f_Mdl_ask_b90
  generalize f_Mdl_ask_h119 1000 = F
  rw [mp2, mg2, uS_g, if_pos le00, mg26, e26', mg28, ms28 hR]
theorem uJ_I (σ : xS) (k i : Nat) (v : Int64) : (uJ σ k i v).2.1 = σ.2.1 := rfl
theorem askT_28 (σ : xS) (R s : Nat) (tok : Int64) (bd pt kd ab : Int32) : (askT σ R s tok bd pt kd ab).2.1 28 R = nI s := by
  show (nqS (uI σ 28 R (nI s)) R tok 3).2.1 28 R = _
  rw [(nq_same _ _ _ _).2.1 28 (by decide), uI_g]
theorem askT_33 (σ : xS) (R s : Nat) (tok : Int64) (bd pt kd ab : Int32) : (askT σ R s tok bd pt kd ab).2.1 33 R = kd := by
  unfold askT
  rw [uI_o (by decide), uJ_I, uJ_I, uI_o (by decide), uI_o (by decide), uI_g]
theorem askT_34 (σ : xS) (R s : Nat) (tok : Int64) (bd pt kd ab : Int32) : (askT σ R s tok bd pt kd ab).2.1 34 R = ab := by
  unfold askT
  rw [uI_o (by decide), uJ_I, uJ_I, uI_o (by decide), uI_g]
theorem s_ask0 {s hm : Nat} {bd pt kd ab : Int32} {tok : Int64} (hP : σ.1 0 = nI P) (hN : σ.1 1 = nI N) (hRn : σ.1 26 = nI R) (hP1 : 1 ≤ P) (hP3 : P ≤ 3) (hN1 : 1 ≤ N) (hN4 : N ≤ 4) (hR : R < 500) (hs : s < 8) (hhm : hm < N) (eh : σ.2.1 23 s = nI hm) (hso : ∀ r, r < 8 → sok σ r) (h2 : isQ P kd ab = true) (hq : qok P kd ab) (h3 : isTok P σ tok = true) (h4 : inb bd.toInt64 (-1) 400 = true) (h5 : inb pt.toInt64 0 1000 = true) :
    f_Mdl_ask m (nI s) tok bd pt kd ab (em h m σ) = some (.inl (askF P N (askT (uS σ 2 0) R s tok bd pt kd ab) hm R pt).1, em h m (askF P N (askT (uS σ 2 0) R s tok bd pt kd ab) hm R pt).2) := by
  have h1 : inb (nI s).toInt64 0 7 = true := inb_nI hs (by omega) (by decide)
  have sm := askT_same (uS σ 2 0) R s tok bd pt kd ab
  have hpt : 0 ≤ pt := by
    have := ((inb_iff _ _ _).mp h5).1
    rw [Int32.le_iff_toInt_le]
    exact this
  have k1 := s_askT (h := h) (m := m) (σ := uS σ 2 0) (s := s) (tok := tok) (bd := bd) (pt := pt) (kd := kd) (ab := ab) hR
  have e28 := askT_28 (uS σ 2 0) R s tok bd pt kd ab
  have e33 := askT_33 (uS σ 2 0) R s tok bd pt kd ab
  have e34 := askT_34 (uS σ 2 0) R s tok bd pt kd ab
  have e26 : ¬ nI R = 500 := by rw [show (500 : Int32) = nI 500 from rfl, nI_eq (by omega) (by omega)]; omega
  have b90 := s_ask90 (h := h) (m := m) (σ := σ) (R := R) (s := s) (tok := tok) (bd := bd) (pt := pt) (kd := kd) (ab := ab) hRn hR
  rw [k1] at b90
  generalize askT (uS σ 2 0) R s tok bd pt kd ab = τ at b90 sm e28 e33 e34 ⊢
  have k2 := s_ask231 (h := h) (m := m) (τ := τ) (P := P) (N := N) (R := R) (s := s) (hm := hm) (pt := pt) (by rw [sm.1]; exact hP) (by rw [sm.1]; exact hN) (by rw [sm.1]; exact hRn) hP1 hP3 hN1 hN4 hR hs hhm (by rw [sm.2.1 23 (by decide)]; exact eh) ⟨s, hs, e28⟩ (by rw [e33, e34]; exact hq) (fun r hr => sok_c (sm.2.1 13 (by decide)) (hso r hr)) hpt
  rw [k2] at b90
  clear k2 k1
  generalize askF P N τ hm R pt = A at b90 ⊢
  have fin : f_Mdl_ask_b41 m (nI s) tok bd pt kd ab 1 (em h m σ) = some (.inl A.1, em h m A.2) := by
    unfold f_Mdl_ask_b41
    rw [xb_ok (s_isSession _), h1, bI_t, if_neg ne10, m_xv, xb_ok (s_isQuestion hP _ _), h2, bI_t, if_neg ne10, if_neg ne10, mg26, hRn, if_neg e26]
    exact b90
  simp only [f_Mdl_ask, s_isToken hP hP3, s_in, h3, h4, h5, bI_t, ne10, fin, ↓m_xv, ↓xb, ↓reduceIte]
end XNA
