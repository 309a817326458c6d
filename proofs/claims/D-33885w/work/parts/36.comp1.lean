/-! THE COMPONENT itself: shp, over the state's heap; its cells read and written -/
set_option maxRecDepth 100000
def csp (A B : Nat → Nat) (sn rc : Value) (nt : Nat) : List Value := [.ref (B 0), sn, rc, .ref nt, .ref (A 1), .ref (A 2), .ref (A 3)]
def shp (G : zE) (A B : Nat → Nat) (sn rc : Value) (nt : Nat) (t w o : Nat → Int32) (hh : zH) : zH := fun q => if q = A 0 then some (zO 0 (csp A B sn rc nt)) else if q = A 1 then some (zI G 15 t) else if q = A 2 then some (zI G 26 w) else if q = A 3 then some (zI G 15 o) else hh q
/-- all names hold: the component's A, the state's B, and no cell is of both -/
def zcb (A B I : Nat → Nat) (NL NS NC : Nat) : Prop := zinj A 4 ∧ zok2 B I NL NS NC ∧ ∀ j, j < 4 → B (I (A j)) ≠ A j
section
variable {G : zE} {A B I : Nat → Nat} {e nt : Nat} {sn rc : Value} {t w o : Nat → Int32} {σ : Nat → Int32} {lo v : Int32} {NL NS NC : Nat} {h0 hh : zH} {k i : Nat}
theorem zcb.f (h : zcb A B I NL NS NC) (hi : decide (i < 4 ∨ (7 ≤ i ∧ i < 10)) = true) : I (B i) = i := by
  have hi := of_decide_eq_true hi
  exact h.2.1.2 i (by omega) (by omega) (by omega) (by omega) (by omega) (by omega) (by omega)
theorem zcb.b (h : zcb A B I NL NS NC) : NL ≤ 20 ∧ NS ≤ 26 ∧ NC ≤ 15 := h.2.1.1
theorem zcb.l (h : zcb A B I NL NS NC) (hk : k < NL) : I (B (10 + k)) = 10 + k := by
  have hb := h.b
  exact h.2.1.2 _ (by omega) (by omega) (by omega) (by omega) (by omega) (by omega) (by omega)
theorem zcb.s (h : zcb A B I NL NS NC) (hk : k < NS) : I (B (30 + k)) = 30 + k := by
  have hb := h.b
  exact h.2.1.2 _ (by omega) (by omega) (by omega) (by omega) (by omega) (by omega) (by omega)
theorem zcb.c (h : zcb A B I NL NS NC) (hk : k < NC) : I (B (56 + k)) = 56 + k := by
  have hb := h.b
  exact h.2.1.2 _ (by omega) (by omega) (by omega) (by omega) (by omega) (by omega) (by omega)
theorem zcb.a4 (h : zcb A B I NL NS NC) (hk : 0 < NL) : I (B 4) = 4 := h.2.1.2 4 (by omega) (by omega) (by omega) (by omega) (by omega) (by omega) (by omega)
theorem zcb.a5 (h : zcb A B I NL NS NC) (hk : 0 < NS) : I (B 5) = 5 := h.2.1.2 5 (by omega) (by omega) (by omega) (by omega) (by omega) (by omega) (by omega)
theorem zcb.a6 (h : zcb A B I NL NS NC) (hk : 0 < NC) : I (B 6) = 6 := h.2.1.2 6 (by omega) (by omega) (by omega) (by omega) (by omega) (by omega) (by omega)
theorem zcb.ne (h : zcb A B I NL NS NC) (hi : I (B i) = i) {j : Nat} (hj : j < 4) : B i ≠ A j := fun q => h.2.2 j hj (by rw [← q, hi])
theorem shp_0 : shp G A B sn rc nt t w o hh (A 0) = some (zO 0 (csp A B sn rc nt)) := if_pos rfl
theorem shp_1 (h : zcb A B I NL NS NC) : shp G A B sn rc nt t w o hh (A 1) = some (zI G 15 t) := by
  unfold shp
  rw [if_neg (h.1.ne 1 0 rfl rfl rfl), if_pos rfl]
theorem shp_2 (h : zcb A B I NL NS NC) : shp G A B sn rc nt t w o hh (A 2) = some (zI G 26 w) := by
  unfold shp
  rw [if_neg (h.1.ne 2 0 rfl rfl rfl), if_neg (h.1.ne 2 1 rfl rfl rfl), if_pos rfl]
theorem shp_3 (h : zcb A B I NL NS NC) : shp G A B sn rc nt t w o hh (A 3) = some (zI G 15 o) := by
  unfold shp
  rw [if_neg (h.1.ne 3 0 rfl rfl rfl), if_neg (h.1.ne 3 1 rfl rfl rfl), if_neg (h.1.ne 3 2 rfl rfl rfl), if_pos rfl]
/-- a state's cell, seen from above -/
theorem shp_in (h : zcb A B I NL NS NC) (hi : I (B i) = i) : shp G A B sn rc nt t w o hh (B i) = hh (B i) := by
  unfold shp
  rw [if_neg (h.ne hi (j := 0) (by decide)), if_neg (h.ne hi (j := 1) (by decide)), if_neg (h.ne hi (j := 2) (by decide)), if_neg (h.ne hi (j := 3) (by decide))]
theorem shp_up (h : zcb A B I NL NS NC) (hi : I (B i) = i) {c : va_E} : zup (shp G A B sn rc nt t w o hh) (B i) c = shp G A B sn rc nt t w o (zup hh (B i) c) := by
  funext q
  simp only [zup, shp]
  by_cases g : q = B i
  · subst g
    rw [if_pos rfl, if_neg (h.ne hi (j := 0) (by decide)), if_neg (h.ne hi (j := 1) (by decide)), if_neg (h.ne hi (j := 2) (by decide)), if_neg (h.ne hi (j := 3) (by decide)), if_pos rfl]
  · rw [if_neg g, if_neg g]
theorem shp_w1 (h : zcb A B I NL NS NC) {t' : Nat → Int32} : zup (shp G A B sn rc nt t w o hh) (A 1) (zI G 15 t') = shp G A B sn rc nt t' w o hh := by
  funext q
  simp only [zup, shp]
  by_cases g : q = A 1
  · subst g; rw [if_pos rfl, if_neg (h.1.ne 1 0 rfl rfl rfl), if_pos rfl]
  · rw [if_neg g, if_neg g, if_neg g]
theorem shp_w2 (h : zcb A B I NL NS NC) {t' : Nat → Int32} : zup (shp G A B sn rc nt t w o hh) (A 2) (zI G 26 t') = shp G A B sn rc nt t t' o hh := by
  funext q
  simp only [zup, shp]
  by_cases g : q = A 2
  · subst g; rw [if_pos rfl, if_neg (h.1.ne 2 0 rfl rfl rfl), if_neg (h.1.ne 2 1 rfl rfl rfl), if_pos rfl]
  · rw [if_neg g, if_neg g, if_neg g]
theorem shp_w3 (h : zcb A B I NL NS NC) {t' : Nat → Int32} : zup (shp G A B sn rc nt t w o hh) (A 3) (zI G 15 t') = shp G A B sn rc nt t w t' hh := by
  funext q
  simp only [zup, shp]
  by_cases g : q = A 3
  · subst g; rw [if_pos rfl, if_neg (h.1.ne 3 0 rfl rfl rfl), if_neg (h.1.ne 3 1 rfl rfl rfl), if_neg (h.1.ne 3 2 rfl rfl rfl), if_pos rfl]
  · rw [if_neg g, if_neg g, if_neg g]
variable (G A B I e sn rc nt t w o σ lo NL NS NC h0) in
/-- the component with its state σ -/
abbrev cpt : zH := shp G A B sn rc nt t w o (hst G B I e σ lo NL NS NC h0)
theorem cpt_at (h : zcb A B I NL NS NC) (hi : I (B i) = i) {c : va_E} (hc : stc G B e σ lo NL NS NC i = some c) : cpt G A B I e nt sn rc t w o σ lo NL NS NC h0 (B i) = some c := (shp_in h hi).trans (hst_at hi hc)
theorem cpt_sta (h : zcb A B I NL NS NC) : cpt G A B I e nt sn rc t w o σ lo NL NS NC h0 (B 0) = some (zO 1 (csta B σ lo)) := cpt_at h (h.f rfl) stc_0
theorem cpt_ll (h : zcb A B I NL NS NC) : cpt G A B I e nt sn rc t w o σ lo NL NS NC h0 (B 1) = some (zO 8 (clst B e NL 4)) := cpt_at h (h.f rfl) stc_1
theorem cpt_ls (h : zcb A B I NL NS NC) : cpt G A B I e nt sn rc t w o σ lo NL NS NC h0 (B 2) = some (zO 8 (clst B e NS 5)) := cpt_at h (h.f rfl) stc_2
theorem cpt_lc (h : zcb A B I NL NS NC) : cpt G A B I e nt sn rc t w o σ lo NL NS NC h0 (B 3) = some (zO 8 (clst B e NC 6)) := cpt_at h (h.f rfl) stc_3
theorem cpt_al (h : zcb A B I NL NS NC) (hk : 0 < NL) : cpt G A B I e nt sn rc t w o σ lo NL NS NC h0 (B 4) = some (zR G (cap NL) (carr B NL 10)) := cpt_at h (h.a4 hk) (stc_4 hk)
theorem cpt_as (h : zcb A B I NL NS NC) (hk : 0 < NS) : cpt G A B I e nt sn rc t w o σ lo NL NS NC h0 (B 5) = some (zR G (cap NS) (carr B NS 30)) := cpt_at h (h.a5 hk) (stc_5 hk)
theorem cpt_ac (h : zcb A B I NL NS NC) (hk : 0 < NC) : cpt G A B I e nt sn rc t w o σ lo NL NS NC h0 (B 6) = some (zR G (cap NC) (carr B NC 56)) := cpt_at h (h.a6 hk) (stc_6 hk)
theorem cpt_7 (h : zcb A B I NL NS NC) : cpt G A B I e nt sn rc t w o σ lo NL NS NC h0 (B 7) = some (zI G 8 (c8 σ 7)) := cpt_at h (h.f rfl) stc_7
theorem cpt_8 (h : zcb A B I NL NS NC) : cpt G A B I e nt sn rc t w o σ lo NL NS NC h0 (B 8) = some (zI G 8 (c8 σ 15)) := cpt_at h (h.f rfl) stc_8
theorem cpt_9 (h : zcb A B I NL NS NC) : cpt G A B I e nt sn rc t w o σ lo NL NS NC h0 (B 9) = some (zI G 8 (c8 σ 23)) := cpt_at h (h.f rfl) stc_9
theorem cpt_l (h : zcb A B I NL NS NC) (hk : k < NL) : cpt G A B I e nt sn rc t w o σ lo NL NS NC h0 (B (10 + k)) = some (zO 3 (clim σ k)) := cpt_at h (h.l hk) (stc_l hk h.b.1)
theorem cpt_s (h : zcb A B I NL NS NC) (hk : k < NS) : cpt G A B I e nt sn rc t w o σ lo NL NS NC h0 (B (30 + k)) = some (zO 4 (cshl σ k)) := cpt_at h (h.s hk) (stc_s hk h.b.2.1)
theorem cpt_c (h : zcb A B I NL NS NC) (hk : k < NC) : cpt G A B I e nt sn rc t w o σ lo NL NS NC h0 (B (56 + k)) = some (zO 5 (ccrb σ k)) := cpt_at h (h.c hk) (stc_c hk)
/-- one number of the row written -/
theorem cpt_wr (h : zcb A B I NL NS NC) {p : Nat} {c c' : va_E} (hi : I (B (own p)) = own p) (hp : p < 287) (h31 : p ≠ 31) (h132 : p ≠ 132) (h211 : p ≠ 211) (hc : stc G B e σ lo NL NS NC (own p) = some c) (hc' : stc G B e (upd σ p v) lo NL NS NC (own p) = some c') : zup (cpt G A B I e nt sn rc t w o σ lo NL NS NC h0) (B (own p)) c' = cpt G A B I e nt sn rc t w o (upd σ p v) lo NL NS NC h0 := by
  refine (shp_up h hi).trans ?_
  unfold cpt
  rw [hst_wr hi hc hc' (fun j hj => stc_upd hp h31 h132 h211 hj)]
theorem cpt_wlo (h : zcb A B I NL NS NC) : zup (cpt G A B I e nt sn rc t w o σ lo NL NS NC h0) (B 0) (zO 1 (csta B σ v)) = cpt G A B I e nt sn rc t w o σ v NL NS NC h0 := by
  refine (shp_up h (h.f rfl)).trans ?_
  unfold cpt
  rw [hst_wr (h.f rfl) stc_0 stc_0 (fun j hj => ?_)]
  unfold stc
  rw [if_neg hj, if_neg hj]
end
