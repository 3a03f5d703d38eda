/-! both in one heap, with the cell of answers o and the script b -/
def Bs (m o b L : Nat) (f : Nat → Int32) (x : xX) (h : xH) : Prop := (∀ q, m ≤ q → q < m + 35 → off x q) ∧ m + 35 ≤ h.1.1 ∧ (off x o ∧ o < h.1.1 ∧ (o < m ∨ m + 35 ≤ o)) ∧ (off x b ∧ b < h.1.1 ∧ (b < m ∨ m + 35 ≤ b)) ∧ b ≠ o ∧ (∃ g, h.2 o = some (.inl (1, 1, .inr (.inl g)))) ∧ h.2 b = some (.inl (9, L, .inl f))
def Jn (m o b L : Nat) (f : Nat → Int32) (n : Nat) (x : xX) (y : xY) (σ : xS) (h : xH) (T : Nat) (t : Nat → Nat) : Prop := Kn x y σ T t ∧ Fr x h ∧ Bs m o b L f x h ∧ em h m σ = h ∧ T + 100 * n ≤ 100000 ∧ 20 * n ≤ h.1.2.1 ∧ 100 * n ≤ h.1.2.2
section XEE
variable {α α' β : Type} {x x' : xX} {y y' : xY} {σ σ' σ1 : xS} {h h' : xH} {T T' : Nat} {t t' : Nat → Nat} {m o b L : Nat} {f : Nat → Int32} {n : Nat}
theorem Grow.off {k q : Nat} (hg : Grow x x' k) (ho : off x q) (hq : q < k) : off x' q := by
  intro t i j hv e
  rcases hg t i j hv with ⟨h1, h2⟩ | h1
  · exact ho t i j h1 (h2.symm.trans e)
  · omega
theorem Bs.ext {c k : Nat} (hb : Bs m o b L f x h) (he : Ext h h' c k) (hg : Grow x x' h.1.1) : Bs m o b L f x' h' := by
  obtain ⟨b1, b2, ⟨b3, b4, b5⟩, ⟨b6, b7, b8⟩, b9, ⟨g, b10⟩, b11⟩ := hb
  obtain ⟨e1, e2, -, -⟩ := he
  refine ⟨fun q h1 h2 => hg.off (b1 q h1 h2) (by omega), by omega, ⟨hg.off b3 b4, by omega, b5⟩, ⟨hg.off b6 b7, by omega, b8⟩, b9, ⟨g, ?_⟩, ?_⟩
  · rw [e2 o b4, b10]
  · rw [e2 b b7, b11]
theorem em_ext {c k : Nat} (hm : em h m σ = h) (he : Ext h h' c k) (hl : m + 35 ≤ h.1.1) : em h' m σ = h' := by
  refine Prod.ext rfl (funext fun q => ?_)
  by_cases hq : m ≤ q ∧ q < m + 35
  · have h1 : h.2 q = (em h m σ).2 q := by rw [hm]
    rw [he.2.1 q (by omega), h1]
    simp only [em, if_pos hq]
  · exact em_o (by omega)
theorem em_em : em (em h m σ') m σ = em h m σ := by
  refine Prod.ext rfl (funext fun q => ?_)
  by_cases hq : m ≤ q ∧ q < m + 35
  · simp only [em, if_pos hq]
  · rw [em_o (by omega), em_o (by omega), em_o (by omega)]
theorem er_em (ho : ∀ q, m ≤ q → q < m + 35 → off x q) : er x y σ (em h m σ') = em (er x y σ h) m σ' := by
  refine Prod.ext rfl (funext fun q => ?_)
  by_cases hq : m ≤ q ∧ q < m + 35
  · rw [er_off (ho q hq.1 hq.2)]
    simp only [em, if_pos hq]
  · rw [em_o (by omega)]
    have e : (em h m σ').2 q = h.2 q := em_o (by omega)
    show (if _ then _ else (em h m σ').2 q) = (if _ then _ else h.2 q)
    rw [e]
theorem mo_op {M : xM α} {v : α} (ho : ∀ q, m ≤ q → q < m + 35 → off x q) (hm : em h m σ1 = h) (e : ∀ g, M (em g m σ1) = some (.inl v, em g m σ')) : M (er x y σ h) = some (.inl v, er x y σ (em h m σ')) := by
  have e1 : em (er x y σ h) m σ1 = er x y σ h := by rw [← er_em ho, hm]
  have e2 := e (er x y σ h)
  rw [e1, ← er_em ho] at e2
  exact e2
theorem mo_xv {K : xM β} (ho : ∀ q, m ≤ q → q < m + 35 → off x q) (hm : em h m σ1 = h) : xv m 9 K (er x y σ h) = K (er x y σ h) := by
  have e1 : em (er x y σ h) m σ1 = er x y σ h := by rw [← er_em ho, hm]
  rw [← e1]
  exact m_xv
theorem Bs.em (hb : Bs m o b L f x h) : Bs m o b L f x (em h m σ') := by
  obtain ⟨b1, b2, b3, b4, b9, ⟨g, b10⟩, b11⟩ := hb
  refine ⟨b1, b2, b3, b4, b9, ⟨g, ?_⟩, ?_⟩
  · rw [em_o b3.2.2, b10]
  · rw [em_o b4.2.2, b11]
def owr (h : xH) (o : Nat) (g : Nat → Int64) : xH := (h.1, va_up h.2 o (some (.inl (1, 1, .inr (.inl g)))))
theorem owr_o (h : xH) (o : Nat) (g : Nat → Int64) {q : Nat} (hq : q ≠ o) : (owr h o g).2 q = h.2 q := by simp [owr, va_up, hq]
theorem owr_g (h : xH) (o : Nat) (g : Nat → Int64) : (owr h o g).2 o = some (.inl (1, 1, .inr (.inl g))) := by simp [owr, va_up]
theorem Bs.owr {g : Nat → Int64} (hb : Bs m o b L f x h) : Bs m o b L f x (owr h o g) := by
  obtain ⟨b1, b2, b3, b4, b9, b10, b11⟩ := hb
  refine ⟨b1, b2, b3, b4, b9, ⟨g, owr_g _ _ _⟩, ?_⟩
  rw [owr_o _ _ _ b9, b11]
theorem em_owr {g : Nat → Int64} (hm : em h m σ = h) (ho : o < m ∨ m + 35 ≤ o) : em (owr h o g) m σ = owr h o g := by
  refine Prod.ext rfl (funext fun q => ?_)
  by_cases hq : m ≤ q ∧ q < m + 35
  · have h1 : h.2 q = (em h m σ).2 q := by rw [hm]
    rw [owr_o _ _ _ (by omega), h1]
    simp only [em, if_pos hq]
  · exact em_o (by omega)
theorem b_sJ {v : Int64} {g : Nat → Int64} {kk : xM β} (ho : off x o) (hc : h.2 o = some (.inl (1, 1, .inr (.inl g)))) : sJ o 0 v kk (er x y σ h) = kk (er x y σ (owr h o (va_up g 0 v))) := by
  have e : sJ o (nI 0) v kk (er x y σ h) = kk (er x y σ (owr h o (va_up g 0 v))) := by
    unfold owr
    rw [← er_set ho]
    simp only [sJ, er_off ho, hc]
    rw [if_pos ⟨by decide, nI_in (by omega) (by omega)⟩, nI_clamp (by omega)]
    rfl
  rw [nI_0] at e
  exact e
theorem b_lJ {g : Nat → Int64} {kk : Int64 → xM β} (ho : off x o) (hc : h.2 o = some (.inl (1, 1, .inr (.inl g)))) : lJ o 0 kk (er x y σ h) = kk (g 0) (er x y σ h) := by
  have e : lJ o (nI 0) kk (er x y σ h) = kk (g 0) (er x y σ h) := by
    simp only [lJ, er_off ho, hc]
    rw [if_pos ⟨by decide, nI_in (by omega) (by omega)⟩, nI_clamp (by omega)]
  rw [nI_0] at e
  exact e
/-- a number of the script -/
theorem scr {l i : Nat} {c : Int32} {kk : Int32 → xM β} (hb : Bs m o b L f x h) (hc : c = nI i) (hi : l + i < L) (hL : L < 2 ^ 31) : lI b (nI l + c) kk (er x y σ h) = kk (f (l + i)) (er x y σ h) := by
  obtain ⟨-, -, -, b4, -, -, b11⟩ := hb
  rw [hc, nI_add]
  simp only [lI, er_off b4.1, b11]
  rw [if_pos ⟨by decide, nI_in hi hL⟩, nI_clamp (by omega)]
theorem scr0 {l : Nat} {kk : Int32 → xM β} (hb : Bs m o b L f x h) (hi : l < L) (hL : L < 2 ^ 31) : lI b (nI l) kk (er x y σ h) = kk (f l) (er x y σ h) := by
  obtain ⟨-, -, -, b4, -, -, b11⟩ := hb
  simp only [lI, er_off b4.1, b11]
  rw [if_pos ⟨by decide, nI_in hi hL⟩, nI_clamp (by omega)]
theorem xc_ok {F : xM α} {kk : α → xM β} {hk : Nat → Nat → xM β} {H H' : xH} {v : α} (e : F H = some (.inl v, H')) : xc F kk hk H = kk v H' := by
  unfold xc
  rw [e]
theorem xc_thr {F : xM α} {kk : α → xM β} {hk : Nat → Nat → xM β} {H H' : xH} {a ci : Nat} {fs : List Value} (e : F H = some (.inr (a, ci), H')) (ha : H'.2 a = some (.inr (ci, fs))) : xc F kk hk H = hk a ci H' := by
  unfold xc
  rw [e]
  show (match H'.2 a with
    | some (.inr (c, _)) => if c = ci then hk a ci H' else none
    | _ => none) = _
  rw [ha]
  exact if_pos rfl
def hA : Nat → Nat → xM Int32 := fun _ ci => if ci = 10 then xr 1 else xst
def hB : Nat → Nat → xM Int32 := fun _ ci => if ci = 10 then xr 1 else if ci = 11 then xr 2 else xst
def hC : Nat → Nat → xM Int32 := fun _ ci => if ci = 10 then xr 1 else if ci = 11 then xr 2 else if ci = 12 then xr 3 else xst
def hT : Nat → Nat → xM Int32 := fun _ ci => if ci = 11 then xr 1 else xst
def Hok (Ls : List (Nat × Int32)) (hk : Nat → Nat → xM Int32) : Prop := ∀ p, p ∈ Ls → p.2 ≠ 0 ∧ ∀ a H, hk a p.1 H = some (.inl p.2, H)
theorem hA_ok : Hok [(10, 1)] hA := by
  intro p hp
  simp at hp
  subst hp
  exact ⟨by decide, fun _ _ => rfl⟩
theorem hB_ok : Hok [(10, 1), (11, 2)] hB := by
  intro p hp
  simp at hp
  rcases hp with rfl | rfl
  · exact ⟨by decide, fun _ _ => rfl⟩
  · exact ⟨by decide, fun _ _ => rfl⟩
theorem hC_ok : Hok [(10, 1), (11, 2), (12, 3)] hC := by
  intro p hp
  simp at hp
  rcases hp with rfl | rfl | rfl
  · exact ⟨by decide, fun _ _ => rfl⟩
  · exact ⟨by decide, fun _ _ => rfl⟩
  · exact ⟨by decide, fun _ _ => rfl⟩
theorem hT_ok : Hok [(11, 1)] hT := by
  intro p hp
  simp at hp
  subst hp
  exact ⟨by decide, fun _ _ => rfl⟩
/-- the law's look at both answers -/
def tlK (K : xM Int32) (o : Nat) (w : Int64) (v7 v3 : Int32) : xM Int32 := if v7 = v3 then (if v3 = 0 then (lJ o 0 fun v8 => if (lg_cmp v8 w) = 0 then K else (if (0 : Int32) = 0 ∨ (0 : Int32) = 1 then xr 0 else xst)) else K) else (if (0 : Int32) = 0 ∨ (0 : Int32) = 1 then xr 0 else xst)
theorem tl_ok {K : xM Int32} {w : Int64} {c : Int32} (ho : off x o) (hc : c = 0 → ∃ g, h.2 o = some (.inl (1, 1, .inr (.inl g))) ∧ g 0 = w) : tlK K o w c c (er x y σ h) = K (er x y σ h) := by
  unfold tlK
  rw [if_pos rfl]
  by_cases h0 : c = 0
  · obtain ⟨g, g1, g2⟩ := hc h0
    rw [if_pos h0, b_lJ ho g1, if_pos ((lg_cmp_eq _ _).mpr g2)]
  · rw [if_neg h0]
theorem Jn.rmo (hJ : Jn m o b L f (n + 1) x y σ h T t) : rmo h := by
  obtain ⟨-, -, -, -, -, h1, h2⟩ := hJ
  unfold _root_.Jvm.Pilot.CReadSideLaw_law_r1185_50799c.rmo
  omega
/-- one operation of the law: the component's under its handlers, the model's, the look -/
def One (m o b L : Nat) (f : Nat → Int32) (n : Nat) (x : xX) (W : xM Int32) (M : xM α') (j' : α' → Int64) (H : xH) : Prop := ∃ c x' y' σ1 h1 σ' h' T' t', W H = some (.inl c, er x' y' σ1 h1) ∧ Bs m o b L f x' h1 ∧ (∀ K : xM Int32, (xv m 9 <| xb M fun v6 => xv m 9 <| xb (f_Mdl_thrown m) fun v7 => tlK K o (j' v6) v7 c) (er x' y' σ1 h1) = K (er x' y' σ' h')) ∧ en x' 0 0 0 = en x 0 0 0 ∧ Jn m o b L f n x' y' σ' h' T' t'
theorem wrap {Ls : List (Nat × Int32)} {F : xM α} {M : xM α'} {j : α → Int64} {j' : α' → Int64} {kk : α → xM Int32} {hk : Nat → Nat → xM Int32} (hJ : Jn m o b L f (n + 1) x y σ h T t) (hp : Pair Ls F M m j j' x y σ h T) (hL : Hok Ls hk) (hkk : ∀ v, kk v = sJ o 0 (j v) (xr 0)) : One m o b L f n x (xv (en x 0 0 0) 0 <| xc F kk hk) M j' (er x y σ h) := by
  obtain ⟨k1, k2, k3, k4, k5, k6, k7⟩ := hJ
  rcases hp with ⟨c, hc, d, σ', t', ⟨h2, a, p1, p2, p3⟩, p4, p5, p6, p7⟩ | ⟨v, v', x', y', σ', h', T', t', p1, p2, p3, p4, p5, p6, p7, p8, p9, p10⟩
  · have b2 := k3.ext p2 (Grow.refl _)
    have m2 := em_ext k4 p2 k3.2.1
    obtain ⟨q1, q2⟩ := hL c hc
    have e2 : M (er x y σ h2) = some (.inl d, er x y σ (em h2 m σ')) := mo_op b2.1 m2 p4
    have e3 : er x y σ (em h2 m σ') = er x y σ' (em h2 m σ') := (p6 _).symm
    have m3 : em (em h2 m σ') m σ' = em h2 m σ' := em_em
    have b3 : Bs m o b L f x (em h2 m σ') := b2.em
    have e4 : f_Mdl_thrown m (er x y σ' (em h2 m σ')) = some (.inl (σ'.1 2), er x y σ' (em (em h2 m σ') m σ')) := mo_op b3.1 m3 (fun g => s_thrown)
    rw [m3] at e4
    refine ⟨c.2, x, y, σ, h2, σ', em h2 m σ', T, t', ?_, b2, fun K => ?_, rfl, p7, (show Fr x h2 from k2.ext p2), b3, m3, by omega, ?_, ?_⟩
    · rw [rv0 k1.1, xc_thr p1 p3, q2]
    · rw [mo_xv b2.1 m2, xb_ok e2, e3, mo_xv b3.1 m3, xb_ok e4, p5]
      exact tl_ok b3.2.2.1.1 (fun q => absurd q q1)
    · show 20 * n ≤ h2.1.2.1
      have := p2.2.2.1
      omega
    · show 100 * n ≤ h2.1.2.2
      have := p2.2.2.2
      omega
  · have b2 := k3.ext p5 p6
    have m2 := em_ext k4 p5 k3.2.1
    obtain ⟨g, hg⟩ := b2.2.2.2.2.2.1
    have b2' : Bs m o b L f x' (owr h' o (va_up g 0 (j v))) := b2.owr
    have m2' : em (owr h' o (va_up g 0 (j v))) m σ = owr h' o (va_up g 0 (j v)) := em_owr m2 b2.2.2.1.2.2
    have e2 : M (er x' y' σ' (owr h' o (va_up g 0 (j v)))) = some (.inl v', er x' y' σ' (em (owr h' o (va_up g 0 (j v))) m σ')) := mo_op b2'.1 m2' p2
    have m3 : em (em (owr h' o (va_up g 0 (j v))) m σ') m σ' = em (owr h' o (va_up g 0 (j v))) m σ' := em_em
    have b3 : Bs m o b L f x' (em (owr h' o (va_up g 0 (j v))) m σ') := b2'.em
    have e4 : f_Mdl_thrown m (er x' y' σ' (em (owr h' o (va_up g 0 (j v))) m σ')) = some (.inl (σ'.1 2), er x' y' σ' (em (em (owr h' o (va_up g 0 (j v))) m σ') m σ')) := mo_op b3.1 m3 (fun g => s_thrown)
    rw [m3] at e4
    refine ⟨0, x', y', σ', owr h' o (va_up g 0 (j v)), σ', em (owr h' o (va_up g 0 (j v))) m σ', T', t', ?_, b2', fun K => ?_, p10, p8, p7, b3, m3, by omega, ?_, ?_⟩
    · rw [rv0 k1.1, xc_ok p1, hkk, b_sJ b2.2.2.1.1 hg]
      rfl
    · rw [mo_xv b2'.1 m2', xb_ok e2, mo_xv b3.1 m3, xb_ok e4, p4]
      refine tl_ok b3.2.2.1.1 (fun _ => ⟨va_up g 0 (j v), ?_, ?_⟩)
      · rw [em_o b3.2.2.1.2.2, owr_g]
      · rw [← p3]
        simp [va_up]
    · show 20 * n ≤ h'.1.2.1
      have := p5.2.2.1
      omega
    · show 100 * n ≤ h'.1.2.2
      have := p5.2.2.2
      omega
end XEE
