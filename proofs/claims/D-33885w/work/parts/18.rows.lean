/-! ROWS: what keeps the places of a row in range -/
set_option maxRecDepth 100000
section Zok
variable {σ : Nat → Int32} {NL NS NC : Nat}
theorem upd_s {f : Nat → Int32} {j : Nat} {v : Int32} : upd f j v j = v := if_pos rfl
theorem upd_n {f : Nat → Int32} {j i : Nat} {v : Int32} (h : i ≠ j) : upd f j v i = f i := if_neg h
theorem zok.up (h : zok σ NL NS NC) {j : Nat} {v : Int32} (h4 : j = 4 → zix v 13 ∧ ¬ v = 0) (h5 : j = 5 → zix v 8) (h31 : j ≠ 31) (h132 : j ≠ 132) (h211 : j ≠ 211) (hl : ∀ k, k < NL → j = 32 + 5 * k → zix v 8) (hc1 : ∀ k, k < NC → j = 212 + 5 * k + 1 → zix v 8) (hc2 : ∀ k, k < NC → j = 212 + 5 * k + 2 → ¬ v = -1 → zix v NS) : zok (upd σ j v) NL NS NC := by
  refine ⟨h.1, ⟨by rw [upd_n (Ne.symm h31)]; exact h.nl, by rw [upd_n (Ne.symm h132)]; exact h.ns, by rw [upd_n (Ne.symm h211)]; exact h.nc⟩, fun k hk => ?_, fun k hk => ?_, fun k hk => ?_, ?_, ?_, ?_⟩
  · by_cases e : 32 + 5 * k = j
    · rw [e, upd_s]; exact hl k hk e.symm
    · rw [upd_n e]; exact h.lp hk
  · by_cases e : 212 + 5 * k + 1 = j
    · rw [e, upd_s]; exact hc1 k hk e.symm
    · rw [upd_n e]; exact h.cp hk
  · by_cases e : 212 + 5 * k + 2 = j
    · rw [e, upd_s]; exact hc2 k hk e.symm
    · rw [upd_n e]; exact h.cw hk
  · by_cases e : 5 = j
    · rw [e, upd_s]; exact h5 e.symm
    · rw [upd_n e]; exact h.hp
  · by_cases e : 4 = j
    · rw [e, upd_s]; exact (h4 e.symm).1
    · rw [upd_n e]; exact h.pz
  · by_cases e : 4 = j
    · rw [e, upd_s]; exact (h4 e.symm).2
    · rw [upd_n e]; exact h.p0
/-- a place that bears no index of the row -/
def zfree (j : Nat) : Bool := decide (j < 4) || decide (j = 6) || (decide (7 ≤ j) && decide (j < 31)) || (decide (32 ≤ j) && decide (j < 132) && !decide ((j - 32) % 5 = 0)) || (decide (133 ≤ j) && decide (j < 211)) || (decide (212 ≤ j) && !decide ((j - 212) % 5 = 1) && !decide ((j - 212) % 5 = 2))
theorem zok.fr (h : zok σ NL NS NC) {j : Nat} {v : Int32} (hj : zfree j = true) : zok (upd σ j v) NL NS NC := by
  have hb := h.b
  simp only [zfree, Bool.or_eq_true, Bool.and_eq_true, decide_eq_true_eq, Bool.not_eq_true', decide_eq_false_iff_not] at hj
  refine h.up ?_ ?_ ?_ ?_ ?_ ?_ ?_ ?_
  · intro e; omega
  · intro e; omega
  · omega
  · omega
  · omega
  · intro k hk e; omega
  · intro k hk e; omega
  · intro k hk e; omega
theorem zok.frP (h : zok σ NL NS NC) {j : Nat} {v : Int32} (hj : j < 4 ∨ j = 6 ∨ (7 ≤ j ∧ j < 31) ∨ (32 ≤ j ∧ j < 132 ∧ ¬ (j - 32) % 5 = 0) ∨ (133 ≤ j ∧ j < 211) ∨ (212 ≤ j ∧ ¬ (j - 212) % 5 = 1 ∧ ¬ (j - 212) % 5 = 2)) : zok (upd σ j v) NL NS NC := by
  have hb := h.b
  refine h.up ?_ ?_ ?_ ?_ ?_ ?_ ?_ ?_
  · intro e; omega
  · intro e; omega
  · omega
  · omega
  · omega
  · intro k hk e; omega
  · intro k hk e; omega
  · intro k hk e; omega
theorem zok.lw (h : zok σ NL NS NC) {k i : Nat} {v : Int32} (hk : k < NL) (hi : 1 ≤ i ∧ i ≤ 4) : zok (upd σ (32 + 5 * k + i) v) NL NS NC := h.frP (by have := h.b; omega)
theorem zok.shw (h : zok σ NL NS NC) {k i : Nat} {v : Int32} (hk : k < NS) (hi : i ≤ 2) : zok (upd σ (133 + 3 * k + i) v) NL NS NC := h.frP (by have := h.b; omega)
theorem zok.cfw (h : zok σ NL NS NC) {k i : Nat} {v : Int32} (hk : k < NC) (hi : i = 0 ∨ i = 3 ∨ i = 4) : zok (upd σ (212 + 5 * k + i) v) NL NS NC := h.frP (by have := h.b; omega)
theorem zok.cpw (h : zok σ NL NS NC) {k : Nat} {v : Int32} (hk : k < NC) (hv : zix v 8) : zok (upd σ (212 + 5 * k + 1) v) NL NS NC := by
  have hb := h.b
  refine h.up ?_ ?_ ?_ ?_ ?_ ?_ (fun _ _ _ => hv) ?_
  · intro e; omega
  · intro e; omega
  · omega
  · omega
  · omega
  · intro k hk e; omega
  · intro k hk e; omega
theorem zok.cww (h : zok σ NL NS NC) {k : Nat} {v : Int32} (hk : k < NC) (hv : ¬ v = -1 → zix v NS) : zok (upd σ (212 + 5 * k + 2) v) NL NS NC := by
  have hb := h.b
  refine h.up ?_ ?_ ?_ ?_ ?_ ?_ ?_ (fun _ _ _ => hv)
  · intro e; omega
  · intro e; omega
  · omega
  · omega
  · omega
  · intro k hk e; omega
  · intro k hk e; omega
theorem zok.hpw (h : zok σ NL NS NC) {v : Int32} (hv : zix v 8) : zok (upd σ 5 v) NL NS NC := by
  have hb := h.b
  refine h.up ?_ (fun _ => hv) ?_ ?_ ?_ ?_ ?_ ?_
  · intro e; omega
  · omega
  · omega
  · omega
  · intro k hk e; omega
  · intro k hk e; omega
  · intro k hk e; omega
theorem zok.pzw (h : zok σ NL NS NC) {v : Int32} (hv : zix v 13 ∧ ¬ v = 0) : zok (upd σ 4 v) NL NS NC := by
  have hb := h.b
  refine h.up (fun _ => hv) ?_ ?_ ?_ ?_ ?_ ?_ ?_
  · intro e; omega
  · omega
  · omega
  · omega
  · intro k hk e; omega
  · intro k hk e; omega
  · intro k hk e; omega
theorem zix_nI {j n : Nat} (h : j < n) (hn : n < 2 ^ 31) : zix (nI j) n := ⟨by rw [nI_clamp (by omega)], by rw [nI_clamp (by omega)]; exact h⟩
theorem zok_ite {c : Prop} [Decidable c] {a b : Nat → Int32} (ha : c → zok a NL NS NC) (hb : ¬ c → zok b NL NS NC) : zok (if c then a else b) NL NS NC := by
  by_cases h : c
  · rw [if_pos h]; exact ha h
  · rw [if_neg h]; exact hb h
end Zok
