/-! THE COMPONENT: its cells written -/
set_option maxRecDepth 100000
section
variable {G : zE} {A B I : Nat → Nat} {e nt : Nat} {sn rc : Value} {t w o : Nat → Int32} {σ : Nat → Int32} {lo v : Int32} {NL NS NC : Nat} {h0 : zH} {k : Nat}
theorem cpt_wl1 (h : zcb A B I NL NS NC) (hk : k < NL) : zup (cpt G A B I e nt sn rc t w o σ lo NL NS NC h0) (B (10 + k)) (.inr (3, (clim σ k).set 1 (.int v))) = cpt G A B I e nt sn rc t w o (upd σ (32 + 5 * k + 1) v) lo NL NS NC h0 := by
  have hb := h.b
  have ho : own (32 + 5 * k + 1) = 10 + k := by
    unfold own
    rw [if_neg (by omega), if_neg (by omega), if_neg (by omega), if_neg (by omega), if_pos (by omega)]
    omega
  have hl : clim (upd σ (32 + 5 * k + 1) v) k = (clim σ k).set 1 (.int v) := by
    unfold clim
    rw [upd_n (by omega), upd_s, upd_n (by omega), upd_n (by omega), upd_n (by omega)]
    rfl
  have e := cpt_wr (G := G) (e := e) (nt := nt) (sn := sn) (rc := rc) (t := t) (w := w) (o := o) (σ := σ) (lo := lo) (v := v) (h0 := h0) h (p := 32 + 5 * k + 1) (c := .inr (3, clim σ k)) (c' := .inr (3, (clim σ k).set 1 (.int v))) (by rw [ho]; exact h.l hk) (by omega) (by omega) (by omega) (by omega) (by rw [ho]; exact stc_l hk hb.1) (by rw [ho, ← hl]; exact stc_l hk hb.1)
  rw [ho] at e
  exact e
theorem cpt_wl2 (h : zcb A B I NL NS NC) (hk : k < NL) : zup (cpt G A B I e nt sn rc t w o σ lo NL NS NC h0) (B (10 + k)) (.inr (3, (clim σ k).set 2 (.int v))) = cpt G A B I e nt sn rc t w o (upd σ (32 + 5 * k + 2) v) lo NL NS NC h0 := by
  have hb := h.b
  have ho : own (32 + 5 * k + 2) = 10 + k := by
    unfold own
    rw [if_neg (by omega), if_neg (by omega), if_neg (by omega), if_neg (by omega), if_pos (by omega)]
    omega
  have hl : clim (upd σ (32 + 5 * k + 2) v) k = (clim σ k).set 2 (.int v) := by
    unfold clim
    rw [upd_n (by omega), upd_n (by omega), upd_s, upd_n (by omega), upd_n (by omega)]
    rfl
  have e := cpt_wr (G := G) (e := e) (nt := nt) (sn := sn) (rc := rc) (t := t) (w := w) (o := o) (σ := σ) (lo := lo) (v := v) (h0 := h0) h (p := 32 + 5 * k + 2) (c := .inr (3, clim σ k)) (c' := .inr (3, (clim σ k).set 2 (.int v))) (by rw [ho]; exact h.l hk) (by omega) (by omega) (by omega) (by omega) (by rw [ho]; exact stc_l hk hb.1) (by rw [ho, ← hl]; exact stc_l hk hb.1)
  rw [ho] at e
  exact e
theorem cpt_wl3 (h : zcb A B I NL NS NC) (hk : k < NL) : zup (cpt G A B I e nt sn rc t w o σ lo NL NS NC h0) (B (10 + k)) (.inr (3, (clim σ k).set 3 (.int v))) = cpt G A B I e nt sn rc t w o (upd σ (32 + 5 * k + 3) v) lo NL NS NC h0 := by
  have hb := h.b
  have ho : own (32 + 5 * k + 3) = 10 + k := by
    unfold own
    rw [if_neg (by omega), if_neg (by omega), if_neg (by omega), if_neg (by omega), if_pos (by omega)]
    omega
  have hl : clim (upd σ (32 + 5 * k + 3) v) k = (clim σ k).set 3 (.int v) := by
    unfold clim
    rw [upd_n (by omega), upd_n (by omega), upd_n (by omega), upd_s, upd_n (by omega)]
    rfl
  have e := cpt_wr (G := G) (e := e) (nt := nt) (sn := sn) (rc := rc) (t := t) (w := w) (o := o) (σ := σ) (lo := lo) (v := v) (h0 := h0) h (p := 32 + 5 * k + 3) (c := .inr (3, clim σ k)) (c' := .inr (3, (clim σ k).set 3 (.int v))) (by rw [ho]; exact h.l hk) (by omega) (by omega) (by omega) (by omega) (by rw [ho]; exact stc_l hk hb.1) (by rw [ho, ← hl]; exact stc_l hk hb.1)
  rw [ho] at e
  exact e
theorem cpt_wl4 (h : zcb A B I NL NS NC) (hk : k < NL) : zup (cpt G A B I e nt sn rc t w o σ lo NL NS NC h0) (B (10 + k)) (.inr (3, (clim σ k).set 4 (.int v))) = cpt G A B I e nt sn rc t w o (upd σ (32 + 5 * k + 4) v) lo NL NS NC h0 := by
  have hb := h.b
  have ho : own (32 + 5 * k + 4) = 10 + k := by
    unfold own
    rw [if_neg (by omega), if_neg (by omega), if_neg (by omega), if_neg (by omega), if_pos (by omega)]
    omega
  have hl : clim (upd σ (32 + 5 * k + 4) v) k = (clim σ k).set 4 (.int v) := by
    unfold clim
    rw [upd_n (by omega), upd_n (by omega), upd_n (by omega), upd_n (by omega), upd_s]
    rfl
  have e := cpt_wr (G := G) (e := e) (nt := nt) (sn := sn) (rc := rc) (t := t) (w := w) (o := o) (σ := σ) (lo := lo) (v := v) (h0 := h0) h (p := 32 + 5 * k + 4) (c := .inr (3, clim σ k)) (c' := .inr (3, (clim σ k).set 4 (.int v))) (by rw [ho]; exact h.l hk) (by omega) (by omega) (by omega) (by omega) (by rw [ho]; exact stc_l hk hb.1) (by rw [ho, ← hl]; exact stc_l hk hb.1)
  rw [ho] at e
  exact e
theorem cpt_ws1 (h : zcb A B I NL NS NC) (hk : k < NS) : zup (cpt G A B I e nt sn rc t w o σ lo NL NS NC h0) (B (30 + k)) (.inr (4, (cshl σ k).set 1 (.int v))) = cpt G A B I e nt sn rc t w o (upd σ (133 + 3 * k + 1) v) lo NL NS NC h0 := by
  have hb := h.b
  have ho : own (133 + 3 * k + 1) = 30 + k := by
    unfold own
    rw [if_neg (by omega), if_neg (by omega), if_neg (by omega), if_neg (by omega), if_neg (by omega), if_pos (by omega)]
    omega
  have hl : cshl (upd σ (133 + 3 * k + 1) v) k = (cshl σ k).set 1 (.int v) := by
    unfold cshl
    rw [upd_n (by omega), upd_s, upd_n (by omega)]
    rfl
  have e := cpt_wr (G := G) (e := e) (nt := nt) (sn := sn) (rc := rc) (t := t) (w := w) (o := o) (σ := σ) (lo := lo) (v := v) (h0 := h0) h (p := 133 + 3 * k + 1) (c := .inr (4, cshl σ k)) (c' := .inr (4, (cshl σ k).set 1 (.int v))) (by rw [ho]; exact h.s hk) (by omega) (by omega) (by omega) (by omega) (by rw [ho]; exact stc_s hk hb.2.1) (by rw [ho, ← hl]; exact stc_s hk hb.2.1)
  rw [ho] at e
  exact e
theorem cpt_ws2 (h : zcb A B I NL NS NC) (hk : k < NS) : zup (cpt G A B I e nt sn rc t w o σ lo NL NS NC h0) (B (30 + k)) (.inr (4, (cshl σ k).set 2 (.int v))) = cpt G A B I e nt sn rc t w o (upd σ (133 + 3 * k + 2) v) lo NL NS NC h0 := by
  have hb := h.b
  have ho : own (133 + 3 * k + 2) = 30 + k := by
    unfold own
    rw [if_neg (by omega), if_neg (by omega), if_neg (by omega), if_neg (by omega), if_neg (by omega), if_pos (by omega)]
    omega
  have hl : cshl (upd σ (133 + 3 * k + 2) v) k = (cshl σ k).set 2 (.int v) := by
    unfold cshl
    rw [upd_n (by omega), upd_n (by omega), upd_s]
    rfl
  have e := cpt_wr (G := G) (e := e) (nt := nt) (sn := sn) (rc := rc) (t := t) (w := w) (o := o) (σ := σ) (lo := lo) (v := v) (h0 := h0) h (p := 133 + 3 * k + 2) (c := .inr (4, cshl σ k)) (c' := .inr (4, (cshl σ k).set 2 (.int v))) (by rw [ho]; exact h.s hk) (by omega) (by omega) (by omega) (by omega) (by rw [ho]; exact stc_s hk hb.2.1) (by rw [ho, ← hl]; exact stc_s hk hb.2.1)
  rw [ho] at e
  exact e
theorem cpt_wc0 (h : zcb A B I NL NS NC) (hk : k < NC) : zup (cpt G A B I e nt sn rc t w o σ lo NL NS NC h0) (B (56 + k)) (.inr (5, (ccrb σ k).set 0 (.int v))) = cpt G A B I e nt sn rc t w o (upd σ (212 + 5 * k + 1) v) lo NL NS NC h0 := by
  have hb := h.b
  have ho : own (212 + 5 * k + 1) = 56 + k := by
    unfold own
    rw [if_neg (by omega), if_neg (by omega), if_neg (by omega), if_neg (by omega), if_neg (by omega), if_neg (by omega)]
    omega
  have hl : ccrb (upd σ (212 + 5 * k + 1) v) k = (ccrb σ k).set 0 (.int v) := by
    unfold ccrb
    rw [upd_s, upd_n (by omega), upd_n (by omega), upd_n (by omega), upd_n (by omega)]
    rfl
  have e := cpt_wr (G := G) (e := e) (nt := nt) (sn := sn) (rc := rc) (t := t) (w := w) (o := o) (σ := σ) (lo := lo) (v := v) (h0 := h0) h (p := 212 + 5 * k + 1) (c := .inr (5, ccrb σ k)) (c' := .inr (5, (ccrb σ k).set 0 (.int v))) (by rw [ho]; exact h.c hk) (by omega) (by omega) (by omega) (by omega) (by rw [ho]; exact stc_c hk) (by rw [ho, ← hl]; exact stc_c hk)
  rw [ho] at e
  exact e
theorem cpt_wc1 (h : zcb A B I NL NS NC) (hk : k < NC) : zup (cpt G A B I e nt sn rc t w o σ lo NL NS NC h0) (B (56 + k)) (.inr (5, (ccrb σ k).set 1 (.int v))) = cpt G A B I e nt sn rc t w o (upd σ (212 + 5 * k) v) lo NL NS NC h0 := by
  have hb := h.b
  have ho : own (212 + 5 * k) = 56 + k := by
    unfold own
    rw [if_neg (by omega), if_neg (by omega), if_neg (by omega), if_neg (by omega), if_neg (by omega), if_neg (by omega)]
    omega
  have hl : ccrb (upd σ (212 + 5 * k) v) k = (ccrb σ k).set 1 (.int v) := by
    unfold ccrb
    rw [upd_n (by omega), upd_s, upd_n (by omega), upd_n (by omega), upd_n (by omega)]
    rfl
  have e := cpt_wr (G := G) (e := e) (nt := nt) (sn := sn) (rc := rc) (t := t) (w := w) (o := o) (σ := σ) (lo := lo) (v := v) (h0 := h0) h (p := 212 + 5 * k) (c := .inr (5, ccrb σ k)) (c' := .inr (5, (ccrb σ k).set 1 (.int v))) (by rw [ho]; exact h.c hk) (by omega) (by omega) (by omega) (by omega) (by rw [ho]; exact stc_c hk) (by rw [ho, ← hl]; exact stc_c hk)
  rw [ho] at e
  exact e
theorem cpt_wc2 (h : zcb A B I NL NS NC) (hk : k < NC) : zup (cpt G A B I e nt sn rc t w o σ lo NL NS NC h0) (B (56 + k)) (.inr (5, (ccrb σ k).set 2 (.int v))) = cpt G A B I e nt sn rc t w o (upd σ (212 + 5 * k + 2) v) lo NL NS NC h0 := by
  have hb := h.b
  have ho : own (212 + 5 * k + 2) = 56 + k := by
    unfold own
    rw [if_neg (by omega), if_neg (by omega), if_neg (by omega), if_neg (by omega), if_neg (by omega), if_neg (by omega)]
    omega
  have hl : ccrb (upd σ (212 + 5 * k + 2) v) k = (ccrb σ k).set 2 (.int v) := by
    unfold ccrb
    rw [upd_n (by omega), upd_n (by omega), upd_s, upd_n (by omega), upd_n (by omega)]
    rfl
  have e := cpt_wr (G := G) (e := e) (nt := nt) (sn := sn) (rc := rc) (t := t) (w := w) (o := o) (σ := σ) (lo := lo) (v := v) (h0 := h0) h (p := 212 + 5 * k + 2) (c := .inr (5, ccrb σ k)) (c' := .inr (5, (ccrb σ k).set 2 (.int v))) (by rw [ho]; exact h.c hk) (by omega) (by omega) (by omega) (by omega) (by rw [ho]; exact stc_c hk) (by rw [ho, ← hl]; exact stc_c hk)
  rw [ho] at e
  exact e
theorem cpt_wc3 (h : zcb A B I NL NS NC) (hk : k < NC) : zup (cpt G A B I e nt sn rc t w o σ lo NL NS NC h0) (B (56 + k)) (.inr (5, (ccrb σ k).set 3 (.int v))) = cpt G A B I e nt sn rc t w o (upd σ (212 + 5 * k + 4) v) lo NL NS NC h0 := by
  have hb := h.b
  have ho : own (212 + 5 * k + 4) = 56 + k := by
    unfold own
    rw [if_neg (by omega), if_neg (by omega), if_neg (by omega), if_neg (by omega), if_neg (by omega), if_neg (by omega)]
    omega
  have hl : ccrb (upd σ (212 + 5 * k + 4) v) k = (ccrb σ k).set 3 (.int v) := by
    unfold ccrb
    rw [upd_n (by omega), upd_n (by omega), upd_n (by omega), upd_s, upd_n (by omega)]
    rfl
  have e := cpt_wr (G := G) (e := e) (nt := nt) (sn := sn) (rc := rc) (t := t) (w := w) (o := o) (σ := σ) (lo := lo) (v := v) (h0 := h0) h (p := 212 + 5 * k + 4) (c := .inr (5, ccrb σ k)) (c' := .inr (5, (ccrb σ k).set 3 (.int v))) (by rw [ho]; exact h.c hk) (by omega) (by omega) (by omega) (by omega) (by rw [ho]; exact stc_c hk) (by rw [ho, ← hl]; exact stc_c hk)
  rw [ho] at e
  exact e
theorem cpt_wc4 (h : zcb A B I NL NS NC) (hk : k < NC) : zup (cpt G A B I e nt sn rc t w o σ lo NL NS NC h0) (B (56 + k)) (.inr (5, (ccrb σ k).set 4 (.int v))) = cpt G A B I e nt sn rc t w o (upd σ (212 + 5 * k + 3) v) lo NL NS NC h0 := by
  have hb := h.b
  have ho : own (212 + 5 * k + 3) = 56 + k := by
    unfold own
    rw [if_neg (by omega), if_neg (by omega), if_neg (by omega), if_neg (by omega), if_neg (by omega), if_neg (by omega)]
    omega
  have hl : ccrb (upd σ (212 + 5 * k + 3) v) k = (ccrb σ k).set 4 (.int v) := by
    unfold ccrb
    rw [upd_n (by omega), upd_n (by omega), upd_n (by omega), upd_n (by omega), upd_s]
    rfl
  have e := cpt_wr (G := G) (e := e) (nt := nt) (sn := sn) (rc := rc) (t := t) (w := w) (o := o) (σ := σ) (lo := lo) (v := v) (h0 := h0) h (p := 212 + 5 * k + 3) (c := .inr (5, ccrb σ k)) (c' := .inr (5, (ccrb σ k).set 4 (.int v))) (by rw [ho]; exact h.c hk) (by omega) (by omega) (by omega) (by omega) (by rw [ho]; exact stc_c hk) (by rw [ho, ← hl]; exact stc_c hk)
  rw [ho] at e
  exact e
theorem cpt_wq0 (h : zcb A B I NL NS NC) : zup (cpt G A B I e nt sn rc t w o σ lo NL NS NC h0) (B 0) (.inr (1, (csta B σ lo).set 6 (.int v))) = cpt G A B I e nt sn rc t w o (upd σ 0 v) lo NL NS NC h0 := by
  have hl : csta B (upd σ 0 v) lo = (csta B σ lo).set 6 (.int v) := by
    unfold csta
    rw [upd_s, upd_n (by decide), upd_n (by decide), upd_n (by decide), upd_n (by decide), upd_n (by decide), upd_n (by decide)]
    rfl
  exact cpt_wr (G := G) (e := e) (nt := nt) (sn := sn) (rc := rc) (t := t) (w := w) (o := o) (σ := σ) (lo := lo) (v := v) (h0 := h0) h (p := 0) (c := .inr (1, csta B σ lo)) (c' := .inr (1, (csta B σ lo).set 6 (.int v))) (h.f (i := 0) rfl) (by decide) (by decide) (by decide) (by decide) stc_0 (by rw [← hl]; exact stc_0)
theorem cpt_wq1 (h : zcb A B I NL NS NC) : zup (cpt G A B I e nt sn rc t w o σ lo NL NS NC h0) (B 0) (.inr (1, (csta B σ lo).set 7 (.int v))) = cpt G A B I e nt sn rc t w o (upd σ 1 v) lo NL NS NC h0 := by
  have hl : csta B (upd σ 1 v) lo = (csta B σ lo).set 7 (.int v) := by
    unfold csta
    rw [upd_n (by decide), upd_s, upd_n (by decide), upd_n (by decide), upd_n (by decide), upd_n (by decide), upd_n (by decide)]
    rfl
  exact cpt_wr (G := G) (e := e) (nt := nt) (sn := sn) (rc := rc) (t := t) (w := w) (o := o) (σ := σ) (lo := lo) (v := v) (h0 := h0) h (p := 1) (c := .inr (1, csta B σ lo)) (c' := .inr (1, (csta B σ lo).set 7 (.int v))) (h.f (i := 0) rfl) (by decide) (by decide) (by decide) (by decide) stc_0 (by rw [← hl]; exact stc_0)
theorem cpt_wq2 (h : zcb A B I NL NS NC) : zup (cpt G A B I e nt sn rc t w o σ lo NL NS NC h0) (B 0) (.inr (1, (csta B σ lo).set 8 (.int v))) = cpt G A B I e nt sn rc t w o (upd σ 2 v) lo NL NS NC h0 := by
  have hl : csta B (upd σ 2 v) lo = (csta B σ lo).set 8 (.int v) := by
    unfold csta
    rw [upd_n (by decide), upd_n (by decide), upd_s, upd_n (by decide), upd_n (by decide), upd_n (by decide), upd_n (by decide)]
    rfl
  exact cpt_wr (G := G) (e := e) (nt := nt) (sn := sn) (rc := rc) (t := t) (w := w) (o := o) (σ := σ) (lo := lo) (v := v) (h0 := h0) h (p := 2) (c := .inr (1, csta B σ lo)) (c' := .inr (1, (csta B σ lo).set 8 (.int v))) (h.f (i := 0) rfl) (by decide) (by decide) (by decide) (by decide) stc_0 (by rw [← hl]; exact stc_0)
theorem cpt_wq3 (h : zcb A B I NL NS NC) : zup (cpt G A B I e nt sn rc t w o σ lo NL NS NC h0) (B 0) (.inr (1, (csta B σ lo).set 9 (.int v))) = cpt G A B I e nt sn rc t w o (upd σ 3 v) lo NL NS NC h0 := by
  have hl : csta B (upd σ 3 v) lo = (csta B σ lo).set 9 (.int v) := by
    unfold csta
    rw [upd_n (by decide), upd_n (by decide), upd_n (by decide), upd_s, upd_n (by decide), upd_n (by decide), upd_n (by decide)]
    rfl
  exact cpt_wr (G := G) (e := e) (nt := nt) (sn := sn) (rc := rc) (t := t) (w := w) (o := o) (σ := σ) (lo := lo) (v := v) (h0 := h0) h (p := 3) (c := .inr (1, csta B σ lo)) (c' := .inr (1, (csta B σ lo).set 9 (.int v))) (h.f (i := 0) rfl) (by decide) (by decide) (by decide) (by decide) stc_0 (by rw [← hl]; exact stc_0)
theorem cpt_wq4 (h : zcb A B I NL NS NC) : zup (cpt G A B I e nt sn rc t w o σ lo NL NS NC h0) (B 0) (.inr (1, (csta B σ lo).set 10 (.int v))) = cpt G A B I e nt sn rc t w o (upd σ 4 v) lo NL NS NC h0 := by
  have hl : csta B (upd σ 4 v) lo = (csta B σ lo).set 10 (.int v) := by
    unfold csta
    rw [upd_n (by decide), upd_n (by decide), upd_n (by decide), upd_n (by decide), upd_s, upd_n (by decide), upd_n (by decide)]
    rfl
  exact cpt_wr (G := G) (e := e) (nt := nt) (sn := sn) (rc := rc) (t := t) (w := w) (o := o) (σ := σ) (lo := lo) (v := v) (h0 := h0) h (p := 4) (c := .inr (1, csta B σ lo)) (c' := .inr (1, (csta B σ lo).set 10 (.int v))) (h.f (i := 0) rfl) (by decide) (by decide) (by decide) (by decide) stc_0 (by rw [← hl]; exact stc_0)
theorem cpt_wq5 (h : zcb A B I NL NS NC) : zup (cpt G A B I e nt sn rc t w o σ lo NL NS NC h0) (B 0) (.inr (1, (csta B σ lo).set 11 (.int v))) = cpt G A B I e nt sn rc t w o (upd σ 5 v) lo NL NS NC h0 := by
  have hl : csta B (upd σ 5 v) lo = (csta B σ lo).set 11 (.int v) := by
    unfold csta
    rw [upd_n (by decide), upd_n (by decide), upd_n (by decide), upd_n (by decide), upd_n (by decide), upd_s, upd_n (by decide)]
    rfl
  exact cpt_wr (G := G) (e := e) (nt := nt) (sn := sn) (rc := rc) (t := t) (w := w) (o := o) (σ := σ) (lo := lo) (v := v) (h0 := h0) h (p := 5) (c := .inr (1, csta B σ lo)) (c' := .inr (1, (csta B σ lo).set 11 (.int v))) (h.f (i := 0) rfl) (by decide) (by decide) (by decide) (by decide) stc_0 (by rw [← hl]; exact stc_0)
theorem cpt_wq6 (h : zcb A B I NL NS NC) : zup (cpt G A B I e nt sn rc t w o σ lo NL NS NC h0) (B 0) (.inr (1, (csta B σ lo).set 12 (.int v))) = cpt G A B I e nt sn rc t w o (upd σ 6 v) lo NL NS NC h0 := by
  have hl : csta B (upd σ 6 v) lo = (csta B σ lo).set 12 (.int v) := by
    unfold csta
    rw [upd_n (by decide), upd_n (by decide), upd_n (by decide), upd_n (by decide), upd_n (by decide), upd_n (by decide), upd_s]
    rfl
  exact cpt_wr (G := G) (e := e) (nt := nt) (sn := sn) (rc := rc) (t := t) (w := w) (o := o) (σ := σ) (lo := lo) (v := v) (h0 := h0) h (p := 6) (c := .inr (1, csta B σ lo)) (c' := .inr (1, (csta B σ lo).set 12 (.int v))) (h.f (i := 0) rfl) (by decide) (by decide) (by decide) (by decide) stc_0 (by rw [← hl]; exact stc_0)
theorem cpt_wq13 (h : zcb A B I NL NS NC) : zup (cpt G A B I e nt sn rc t w o σ lo NL NS NC h0) (B 0) (.inr (1, (csta B σ lo).set 13 (.int v))) = cpt G A B I e nt sn rc t w o σ v NL NS NC h0 := cpt_wlo h
theorem cpt_w7 (h : zcb A B I NL NS NC) (hk : k < 8) : zup (cpt G A B I e nt sn rc t w o σ lo NL NS NC h0) (B 7) (zI G 8 (upd (c8 σ 7) k v)) = cpt G A B I e nt sn rc t w o (upd σ (7 + k) v) lo NL NS NC h0 := by
  have ho : own (7 + k) = 7 := by
    unfold own
    rw [if_neg (by omega), if_pos (by omega)]
  rw [c8_in hk]
  have e := cpt_wr (G := G) (e := e) (nt := nt) (sn := sn) (rc := rc) (t := t) (w := w) (o := o) (σ := σ) (lo := lo) (v := v) (h0 := h0) h (p := 7 + k) (c := zI G 8 (c8 σ 7)) (c' := zI G 8 (c8 (upd σ (7 + k) v) 7)) (by rw [ho]; exact h.f rfl) (by omega) (by omega) (by omega) (by omega) (by rw [ho]; exact stc_7) (by rw [ho]; exact stc_7)
  rw [ho] at e
  exact e
theorem cpt_w8 (h : zcb A B I NL NS NC) (hk : k < 8) : zup (cpt G A B I e nt sn rc t w o σ lo NL NS NC h0) (B 8) (zI G 8 (upd (c8 σ 15) k v)) = cpt G A B I e nt sn rc t w o (upd σ (15 + k) v) lo NL NS NC h0 := by
  have ho : own (15 + k) = 8 := by
    unfold own
    rw [if_neg (by omega), if_neg (by omega), if_pos (by omega)]
  rw [c8_in hk]
  have e := cpt_wr (G := G) (e := e) (nt := nt) (sn := sn) (rc := rc) (t := t) (w := w) (o := o) (σ := σ) (lo := lo) (v := v) (h0 := h0) h (p := 15 + k) (c := zI G 8 (c8 σ 15)) (c' := zI G 8 (c8 (upd σ (15 + k) v) 15)) (by rw [ho]; exact h.f rfl) (by omega) (by omega) (by omega) (by omega) (by rw [ho]; exact stc_8) (by rw [ho]; exact stc_8)
  rw [ho] at e
  exact e
theorem cpt_w9 (h : zcb A B I NL NS NC) (hk : k < 8) : zup (cpt G A B I e nt sn rc t w o σ lo NL NS NC h0) (B 9) (zI G 8 (upd (c8 σ 23) k v)) = cpt G A B I e nt sn rc t w o (upd σ (23 + k) v) lo NL NS NC h0 := by
  have ho : own (23 + k) = 9 := by
    unfold own
    rw [if_neg (by omega), if_neg (by omega), if_neg (by omega), if_pos (by omega)]
  rw [c8_in hk]
  have e := cpt_wr (G := G) (e := e) (nt := nt) (sn := sn) (rc := rc) (t := t) (w := w) (o := o) (σ := σ) (lo := lo) (v := v) (h0 := h0) h (p := 23 + k) (c := zI G 8 (c8 σ 23)) (c' := zI G 8 (c8 (upd σ (23 + k) v) 23)) (by rw [ho]; exact h.f rfl) (by omega) (by omega) (by omega) (by omega) (by rw [ho]; exact stc_9) (by rw [ho]; exact stc_9)
  rw [ho] at e
  exact e
end
