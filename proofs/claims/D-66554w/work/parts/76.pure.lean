/-! the component: command, its program -/
section XCT
variable {β : Type} {x x' : xX} {y y' : xY} {σ σ' : xS} {h : xH} {T : Nat} {t : Nat → Nat}
theorem rI_ok {a d : Nat} {kk : Int32 → xM β} {H : xH} (ha : a < 2 ^ 31) (h0 : 0 < d) (hd : d < 2 ^ 31) : rI (nI a) (nI d) kk H = kk (nI (a % d)) H := by
  unfold rI
  rw [if_neg (nI_ne0 h0 hd), pk_rem ha h0 hd]
theorem mx0 {a : Int32} (h : 0 ≤ a) : mx 0 a = a := by
  unfold mx
  rw [if_pos h]
/-- behind the log's entry: b151 -/
theorem c_cmd151 {s p : Nat} {kd it cu am : Int32} (hx : Wx x) (hf : Fr x h) (hr : 10 ≤ h.1.2.1 ∧ 50 ≤ h.1.2.2) (hs : s < 8) (hp : p < dP x) (hE : dE x p < 400) (e4 : σ.2.1 4 p = nI (dE x p)) :
    f_RS_command_b151 (en x 17 s 0) (nI p) (en x 5 p 0) h.1.1 (er x y σ (cH h [.int kd, .int it, .int cu, .int am, .ref (h.1.1 + 1)] (cl 3 (needN σ s)))) = some (.inl (cmdV σ s p (dE x p)), er (addC x p h.1.1) (yr y p (va_up (y.2.2 p) (dE x p) (some h.1.1))) (cmdS σ s p (dE x p) kd it cu am) (vH (cH h [.int kd, .int it, .int cu, .int am, .ref (h.1.1 + 1)] (cl 3 (needN σ s))) (va_up (cl 3 (needN σ s)) p (nI (dE x p + 1))))) := by
  have hP3 := hx.2.2.1
  have ho := hf.off (Nat.le_refl h.1.1)
  have ho1 : off x (h.1.1 + 1) := hf.off (by omega)
  have ho2 : off x (h.1.1 + 2) := hf.off (by omega)
  generalize hfs : [Value.int kd, Value.int it, Value.int cu, Value.int am, Value.ref (h.1.1 + 1)] = fs
  have hf2 : Fr x (cH h fs (cl 3 (needN σ s))) := hf.ext (Ext.cH h _ _)
  have ha : (cH h fs (cl 3 (needN σ s))).1.1 = h.1.1 + 3 := rfl
  unfold f_RS_command_b151
  rw [rg5_0 hx hp, rg5_1 hx hp, e4, np1, rp5_1 hx hp, rsA6 (fs := fs) hx hp hE (by rw [er_off ho, cH_a]), rg17_2 hx hs, rg18_0 hx hs, rg5_1 hx hp, uI_g, rs19 hx hs (by omega)]
  rw [c_nE hf2 (by
    show 1 ≤ h.1.2.1 - 3 ∧ 1 ≤ h.1.2.2 - 9
    omega), xb_ok (c_vinit hf2 (by
    show 2 ≤ h.1.2.1 - 3 ∧ 4 ≤ h.1.2.2 - 9
    omega)), ha]
  rw [b_gA (fs := fs) (v := h.1.1 + 1) ho (by rw [vH_o _ _ (by rw [ha]; omega), cH_a]) (by rw [← hfs]; rfl)]
  have qx : ∀ (K : xM Int64) (f : Nat → Int32) (σ0 : xS) (y0 : xY), xv (h.1.1 + 3) 8 K (er x y0 σ0 (vH (cH h fs (cl 3 (needN σ s))) f)) = K (er x y0 σ0 (vH (cH h fs (cl 3 (needN σ s))) f)) := fun K f σ0 y0 => v_xv hf2
  have qt : ∀ (f : Nat → Int32) (σ0 : xS) (y0 : xY), f_Vec_token (h.1.1 + 3) (er x y0 σ0 (vH (cH h fs (cl 3 (needN σ s))) f)) = some (.inl (tokS (f 0) (f 1) (f 2)), er x y0 σ0 (vH (cH h fs (cl 3 (needN σ s))) f)) := fun f σ0 y0 => c_token_v hf2
  rw [qx, xb_ok (c_vcopy_n hf)]
  have ecc : cl 3 (cl 3 (needN σ s)) = cl 3 (needN σ s) := cl_ext fun q hq => cl_at hq
  rw [ecc]
  have q1 : ∀ (kk : Nat → xM Int64) (σ0 : xS) (y0 : xY), gA (h.1.1 + 3) 8 0 kk (er x y0 σ0 (vH (cH h fs (cl 3 (needN σ s))) (cl 3 (needN σ s)))) = kk (h.1.1 + 3 + 1) (er x y0 σ0 (vH (cH h fs (cl 3 (needN σ s))) (cl 3 (needN σ s)))) := fun kk σ0 y0 => v_gA hf2
  rw [q1, rg5_1 hx hp, uI_o (show (4 : Nat) ≠ 24 by decide), uI_g]
  rw [show ∀ (v : Int32) (K : xM Int64), sI (h.1.1 + 3 + 1) (nI p) v K = sI ((cH h fs (cl 3 (needN σ s))).1.1 + 1) (nI p) v K from fun v K => rfl, v_sI hf2 (by omega), qx, xb_ok (qt _ _ _)]
  have hv : tokS (va_up (cl 3 (needN σ s)) p (nI (dE x p + 1)) 0) (va_up (cl 3 (needN σ s)) p (nI (dE x p + 1)) 1) (va_up (cl 3 (needN σ s)) p (nI (dE x p + 1)) 2) = cmdV σ s p (dE x p) := by
    unfold cmdV va_up cl
    have : p = 0 ∨ p = 1 ∨ p = 2 := by omega
    rcases this with rfl | rfl | rfl <;> rfl
  rw [hv, er_addC (H := vH (cH h fs (cl 3 (needN σ s))) (va_up (cl 3 (needN σ s)) p (nI (dE x p + 1)))) (kd := kd) (it := it) (cu := cu) (am := am) hx hp hE hs ho ho1 ho2 (by rw [vH_o _ _ (by rw [ha]; omega), cH_a, hfs]) (by rw [vH_o _ _ (by rw [ha]; omega), cH_b]) (by rw [vH_o _ _ (by rw [ha]; omega), cH_c])]
  rfl
theorem c_command0 {s it : Nat} {kd am : Int32} {cu : Nat} (hx : Wx x) (hi : Inv (dP x) (dN x) (dR x) T (dE x) t σ) (hf : Fr x h) (hr : 10 ≤ h.1.2.1 ∧ 50 ≤ h.1.2.2) (hs : s < 8) (hit : it < 30) (hcu : cu < 10) (h4 : inb kd.toInt64 0 4 = true) (h5 : inb am.toInt64 1 1000 = true) (hE : dE x (it % dP x) < 400) :
    f_RS_command (en x 0 0 0) (nI s) kd (nI it) (nI cu) am (er x y σ h) = some (.inl (cmdV σ s (it % dP x) (dE x (it % dP x))), er (addC x (it % dP x) h.1.1) (yr y (it % dP x) (va_up (y.2.2 (it % dP x)) (dE x (it % dP x)) (some h.1.1))) (cmdS σ s (it % dP x) (dE x (it % dP x)) kd (nI it) (nI cu) am) (vH (cH h [.int kd, .int (nI it), .int (nI cu), .int am, .ref (h.1.1 + 1)] (cl 3 (needN σ s))) (va_up (cl 3 (needN σ s)) (it % dP x) (nI (dE x (it % dP x) + 1))))) := by
  have hP1 := hi.1.1.1
  have hP3 := hi.1.1.2.1
  have hP : σ.1 0 = nI (dP x) := hi.1.1.2.2.2.2.2.2.1
  have hp : it % dP x < dP x := Nat.mod_lt _ (by omega)
  have e4 : σ.2.1 4 (it % dP x) = nI (dE x (it % dP x)) := (hi.1.2.1 _ hp).1
  have i30 : ∀ H, f_RS_index (nI it) 30 H = some (.inl (nI it), H) := fun H => c_index_ok (n := 30) hit (by omega)
  have i10 : ∀ H, f_RS_index (nI cu) 10 H = some (.inl (nI cu), H) := fun H => c_index_ok (n := 10) hcu (by omega)
  generalize hpp : it % dP x = p at *
  have k151 := c_cmd151 (h := h) (y := y) (σ := σ) (s := s) (p := p) (kd := kd) (it := nI it) (cu := nI cu) (am := am) hx hf hr hs hp hE e4
  have c400 : ¬ (400 : Int32) ≤ nI (dE x p) := nI_ge (b := 400) (by omega) (by omega)
  unfold f_RS_command
  rw [rv0 hx, xb_ok (c_sessionAt hx hs), xb_ok (i30 _), xb_ok (i10 _), xb_ok (c_in _ _ _), h4, bI_t, if_neg ne10, xb_ok (c_in _ _ _), h5, bI_t, if_neg ne10]
  unfold f_RS_command_b52
  rw [xb_ok c_want_ok, rg0_0 hx, hP]
  rw [rI_ok (by omega) (by omega) (by omega), hpp, rg0_1 hx, rl4 hx hp, rg5_1 hx hp, e4, if_neg c400]
  unfold f_RS_command_b88
  rw [xb_ok c_need_ok, c_nE hf (by omega), xb_ok (c_cinit hf (by omega)), rv17 hx hs, xb_ok (c_has hx hs)]
  have hs25 : ∀ q, q < 3 → 0 ≤ σ.2.1 25 (3 * s + q) := fun q hq => ((hi.1.2.2.2.2.1 s hs).2 q hq).2.1
  have gA4 : ∀ (f : Nat → Int32) (kk : Nat → xM Int64), gA h.1.1 1 4 kk (er x y σ (cH h [.int kd, .int (nI it), .int (nI cu), .int am, .ref (h.1.1 + 1)] f)) = kk (h.1.1 + 1) (er x y σ (cH h [.int kd, .int (nI it), .int (nI cu), .int am, .ref (h.1.1 + 1)] f)) := fun f kk => b_gA (hf.off (Nat.le_refl _)) (cH_a h _ f) rfl
  have fin : ∀ f : Nat → Int32, f = cl 3 (fun q => if σ.2.1 22 s &&& 4 = 0 then 0 else σ.2.1 25 (3 * s + q)) → f_RS_command_b128 (en x 17 s 0) (nI p) (en x 5 p 0) h.1.1 (er x y σ (cH h [.int kd, .int (nI it), .int (nI cu), .int am, .ref (h.1.1 + 1)] f)) = f_RS_command_b151 (en x 17 s 0) (nI p) (en x 5 p 0) h.1.1 (er x y σ (cH h [.int kd, .int (nI it), .int (nI cu), .int am, .ref (h.1.1 + 1)] (cl 3 (needN σ s)))) := by
    intro f hff
    unfold f_RS_command_b128
    rw [rv17 hx hs, xb_ok (c_has hx hs)]
    by_cases c8 : σ.2.1 22 s &&& 8 = 0
    · rw [decide_eq_true c8, Bool.not_true, bI_f, if_pos rfl]
      have : f = cl 3 (needN σ s) := by
        rw [hff]
        refine cl_ext fun q hq => ?_
        unfold needN
        rw [if_pos c8]
      rw [this]
    · rw [decide_eq_false c8, Bool.not_false, bI_t, if_neg ne10, gA4, rg17_2 hx hs, k_xv hf, xb_ok (c_rise_n (g := fun q => σ.2.1 24 (3 * s + q)) hf (fun c hc f' kk => by rw [rg18_0 hx hs, rl19 hx hs hc]))]
      have : rsF f (fun q => σ.2.1 24 (3 * s + q)) 3 = cl 3 (needN σ s) := by
        funext q
        unfold rsF
        rw [hff]
        by_cases hq : q < 3
        · rw [if_pos hq, cl_at hq, cl_at hq]
          unfold needN
          rw [if_neg c8]
        · rw [if_neg hq]
          simp [cl, hq]
      rw [this]
  by_cases c4 : σ.2.1 22 s &&& 4 = 0
  · rw [decide_eq_true c4, Bool.not_true, bI_f, if_pos rfl, fin _ (by
      funext q
      simp [cl, c4]), k151]
  · rw [decide_eq_false c4, Bool.not_false, bI_t, if_neg ne10, gA4, rg17_3 hx hs, k_xv hf, xb_ok (c_rise_n (g := fun q => σ.2.1 25 (3 * s + q)) hf (fun c hc f' kk => by rw [rg20_0 hx hs, rl21 hx hs hc])), fin _ (by
      funext q
      unfold rsF cl
      by_cases hq : q < 3
      · rw [if_pos hq, if_pos hq]
        show mx 0 (σ.2.1 25 (3 * s + q)) = if σ.2.1 22 s &&& 4 = 0 then 0 else σ.2.1 25 (3 * s + q)
        rw [if_neg c4, mx0 (hs25 q hq)]
      · rw [if_neg hq, if_neg hq]), k151]
end XCT
