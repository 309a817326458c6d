/-! THE COMPONENT's cells, as the same row σ: a state's cells named by B (0 the state, 1-3 its lists, 4-6 their arrays, 7-9 its numbers, 10.. limpets, 30.. shells, 56.. crabs), I from an address to its name -/
set_option maxRecDepth 100000
/-- how long a list's array is -/
def cap (n : Nat) : Nat := if n ≤ 10 then 10 else if n ≤ 15 then 15 else if n ≤ 22 then 22 else 33
def clst (B : Nat → Nat) (e n m : Nat) : List Value := [.int (nI n), .ref (if n = 0 then e else B m), .int (nI n)]
def carr (B : Nat → Nat) (n o : Nat) : Nat → Option Nat := fun i => if i < n then some (B (o + i)) else none
def c8 (σ : Nat → Int32) (o : Nat) : Nat → Int32 := fun j => if j < 8 then σ (o + j) else 0
def csta (B : Nat → Nat) (σ : Nat → Int32) (lo : Int32) : List Value := [.ref (B 1), .ref (B 2), .ref (B 3), .ref (B 7), .ref (B 8), .ref (B 9), .int (σ 0), .int (σ 1), .int (σ 2), .int (σ 3), .int (σ 4), .int (σ 5), .int (σ 6), .int lo]
def clim (σ : Nat → Int32) (k : Nat) : List Value := [.int (σ (32 + 5 * k)), .int (σ (32 + 5 * k + 1)), .int (σ (32 + 5 * k + 2)), .int (σ (32 + 5 * k + 3)), .int (σ (32 + 5 * k + 4))]
def cshl (σ : Nat → Int32) (k : Nat) : List Value := [.int (σ (133 + 3 * k)), .int (σ (133 + 3 * k + 1)), .int (σ (133 + 3 * k + 2))]
def ccrb (σ : Nat → Int32) (k : Nat) : List Value := [.int (σ (212 + 5 * k + 1)), .int (σ (212 + 5 * k)), .int (σ (212 + 5 * k + 2)), .int (σ (212 + 5 * k + 4)), .int (σ (212 + 5 * k + 3))]
/-- a state's cells -/
def stc (G : zE) (B : Nat → Nat) (e : Nat) (σ : Nat → Int32) (lo : Int32) (NL NS NC i : Nat) : Option va_E :=
  if i < 10 then (
    if i = 0 then some (zO 1 (csta B σ lo)) else if i = 1 then some (zO 8 (clst B e NL 4)) else if i = 2 then some (zO 8 (clst B e NS 5)) else if i = 3 then some (zO 8 (clst B e NC 6))
    else if i = 4 then (if NL = 0 then none else some (zR G (cap NL) (carr B NL 10))) else if i = 5 then (if NS = 0 then none else some (zR G (cap NS) (carr B NS 30))) else if i = 6 then (if NC = 0 then none else some (zR G (cap NC) (carr B NC 56)))
    else if i = 7 then some (zI G 8 (c8 σ 7)) else if i = 8 then some (zI G 8 (c8 σ 15)) else some (zI G 8 (c8 σ 23)))
  else if i < 30 then (if i < 10 + NL then some (zO 3 (clim σ (i - 10))) else none)
  else if i < 56 then (if i < 30 + NS then some (zO 4 (cshl σ (i - 30))) else none)
  else if i < 56 + NC then some (zO 5 (ccrb σ (i - 56))) else none
/-- a state in the heap -/
def hst (G : zE) (B I : Nat → Nat) (e : Nat) (σ : Nat → Int32) (lo : Int32) (NL NS NC : Nat) (h0 : zH) : zH := fun q => if B (I q) = q then (stc G B e σ lo NL NS NC (I q)).or (h0 q) else h0 q
/-- the names hold -/
def zok2 (B I : Nat → Nat) (NL NS NC : Nat) : Prop := (NL ≤ 20 ∧ NS ≤ 26 ∧ NC ≤ 15) ∧ ∀ i, i < 71 → (i = 4 → 0 < NL) → (i = 5 → 0 < NS) → (i = 6 → 0 < NC) → (10 ≤ i → i < 30 → i < 10 + NL) → (30 ≤ i → i < 56 → i < 30 + NS) → (56 ≤ i → i < 56 + NC) → I (B i) = i
section
variable {G : zE} {B I : Nat → Nat} {e : Nat} {σ : Nat → Int32} {lo : Int32} {NL NS NC : Nat} {h0 : zH} {k : Nat}
theorem hst_at {i : Nat} {c : va_E} (hi : I (B i) = i) (hc : stc G B e σ lo NL NS NC i = some c) : hst G B I e σ lo NL NS NC h0 (B i) = some c := by
  unfold hst
  rw [hi, if_pos rfl, hc]
  rfl
/-- a cell written: one row's number -/
theorem hst_wr {i : Nat} {c c' : va_E} {σ' : Nat → Int32} {lo' : Int32} (hi : I (B i) = i) (hc : stc G B e σ lo NL NS NC i = some c) (hc' : stc G B e σ' lo' NL NS NC i = some c') (ho : ∀ j, j ≠ i → stc G B e σ' lo' NL NS NC j = stc G B e σ lo NL NS NC j) : zup (hst G B I e σ lo NL NS NC h0) (B i) c' = hst G B I e σ' lo' NL NS NC h0 := by
  funext q
  unfold zup hst
  by_cases h : q = B i
  · subst h
    rw [if_pos rfl, hi, if_pos rfl, hc']
    rfl
  · rw [if_neg h]
    by_cases h2 : B (I q) = q
    · rw [if_pos h2, if_pos h2, ho (I q) (fun g => h (by rw [← h2, g]))]
    · rw [if_neg h2, if_neg h2]
/-- whose number it is -/
def own (p : Nat) : Nat := if p < 7 then 0 else if p < 15 then 7 else if p < 23 then 8 else if p < 31 then 9 else if p < 132 then 10 + (p - 32) / 5 else if p < 211 then 30 + (p - 133) / 3 else 56 + (p - 212) / 5
theorem c8_upd {o p : Nat} {v : Int32} (h : p < o ∨ o + 8 ≤ p) : c8 (upd σ p v) o = c8 σ o := by
  funext j
  unfold c8
  by_cases hj : j < 8
  · rw [if_pos hj, if_pos hj, upd_n (by omega)]
  · rw [if_neg hj, if_neg hj]
theorem c8_in {o i : Nat} {v : Int32} (h : i < 8) : upd (c8 σ o) i v = c8 (upd σ (o + i) v) o := by
  funext j
  simp only [upd, c8]
  by_cases hj : j = i
  · subst hj; rw [if_pos rfl, if_pos h, if_pos rfl]
  · rw [if_neg hj]
    by_cases h8 : j < 8
    · rw [if_pos h8, if_pos h8, if_neg (by omega)]
    · rw [if_neg h8, if_neg h8]
theorem stc_upd {p : Nat} {v : Int32} {j : Nat} (hp : p < 287) (h31 : p ≠ 31) (h132 : p ≠ 132) (h211 : p ≠ 211) (h : j ≠ own p) : stc G B e (upd σ p v) lo NL NS NC j = stc G B e σ lo NL NS NC j := by
  unfold own at h
  have hsta : 7 ≤ p → csta B (upd σ p v) lo = csta B σ lo := fun h7 => by
    unfold csta
    rw [upd_n (by omega), upd_n (by omega), upd_n (by omega), upd_n (by omega), upd_n (by omega), upd_n (by omega), upd_n (by omega)]
  have hlim : ∀ k, ¬ (32 + 5 * k ≤ p ∧ p < 32 + 5 * k + 5) → clim (upd σ p v) k = clim σ k := fun k hk => by
    unfold clim
    rw [upd_n (by omega), upd_n (by omega), upd_n (by omega), upd_n (by omega), upd_n (by omega)]
  have hshl : ∀ k, ¬ (133 + 3 * k ≤ p ∧ p < 133 + 3 * k + 3) → cshl (upd σ p v) k = cshl σ k := fun k hk => by
    unfold cshl
    rw [upd_n (by omega), upd_n (by omega), upd_n (by omega)]
  have hcrb : ∀ k, ¬ (212 + 5 * k ≤ p ∧ p < 212 + 5 * k + 5) → ccrb (upd σ p v) k = ccrb σ k := fun k hk => by
    unfold ccrb
    rw [upd_n (by omega), upd_n (by omega), upd_n (by omega), upd_n (by omega), upd_n (by omega)]
  unfold stc
  by_cases a1 : j < 10
  · rw [if_pos a1, if_pos a1]
    by_cases b0 : j = 0
    · rw [if_pos b0, if_pos b0, hsta (by
        rcases Nat.lt_or_ge p 7 with g | g
        · rw [if_pos g] at h; omega
        · exact g)]
    rw [if_neg b0, if_neg b0]
    by_cases b1 : j = 1
    · rw [if_pos b1, if_pos b1]
    rw [if_neg b1, if_neg b1]
    by_cases b2 : j = 2
    · rw [if_pos b2, if_pos b2]
    rw [if_neg b2, if_neg b2]
    by_cases b3 : j = 3
    · rw [if_pos b3, if_pos b3]
    rw [if_neg b3, if_neg b3]
    by_cases b4 : j = 4
    · rw [if_pos b4, if_pos b4]
    rw [if_neg b4, if_neg b4]
    by_cases b5 : j = 5
    · rw [if_pos b5, if_pos b5]
    rw [if_neg b5, if_neg b5]
    by_cases b6 : j = 6
    · rw [if_pos b6, if_pos b6]
    rw [if_neg b6, if_neg b6]
    by_cases b7 : j = 7
    · rw [if_pos b7, if_pos b7, c8_upd (by
        rcases Nat.lt_or_ge p 7 with g | g
        · omega
        · rw [if_neg (by omega)] at h
          rcases Nat.lt_or_ge p 15 with g2 | g2
          · rw [if_pos g2] at h; omega
          · omega)]
    rw [if_neg b7, if_neg b7]
    by_cases b8 : j = 8
    · rw [if_pos b8, if_pos b8, c8_upd (by
        rcases Nat.lt_or_ge p 15 with g | g
        · omega
        · rw [if_neg (by omega), if_neg (by omega)] at h
          rcases Nat.lt_or_ge p 23 with g2 | g2
          · rw [if_pos g2] at h; omega
          · omega)]
    rw [if_neg b8, if_neg b8, c8_upd (by
        rcases Nat.lt_or_ge p 23 with g | g
        · omega
        · rw [if_neg (by omega), if_neg (by omega), if_neg (by omega)] at h
          rcases Nat.lt_or_ge p 31 with g2 | g2
          · rw [if_pos g2] at h; omega
          · omega)]
  rw [if_neg a1, if_neg a1]
  by_cases a2 : j < 30
  · rw [if_pos a2, if_pos a2, hlim _ (fun g => by
      rw [if_neg (by omega), if_neg (by omega), if_neg (by omega), if_neg (by omega), if_pos (by omega)] at h; omega)]
  rw [if_neg a2, if_neg a2]
  by_cases a3 : j < 56
  · rw [if_pos a3, if_pos a3, hshl _ (fun g => by
      rw [if_neg (by omega), if_neg (by omega), if_neg (by omega), if_neg (by omega), if_neg (by omega), if_pos (by omega)] at h; omega)]
  rw [if_neg a3, if_neg a3, hcrb _ (fun g => by
      rw [if_neg (by omega), if_neg (by omega), if_neg (by omega), if_neg (by omega), if_neg (by omega), if_neg (by omega)] at h; omega)]
theorem stc_0 : stc G B e σ lo NL NS NC 0 = some (zO 1 (csta B σ lo)) := rfl
theorem stc_1 : stc G B e σ lo NL NS NC 1 = some (zO 8 (clst B e NL 4)) := rfl
theorem stc_2 : stc G B e σ lo NL NS NC 2 = some (zO 8 (clst B e NS 5)) := rfl
theorem stc_3 : stc G B e σ lo NL NS NC 3 = some (zO 8 (clst B e NC 6)) := rfl
theorem stc_4 (h : 0 < NL) : stc G B e σ lo NL NS NC 4 = some (zR G (cap NL) (carr B NL 10)) := (show (if NL = 0 then none else some (zR G (cap NL) (carr B NL 10))) = some (zR G (cap NL) (carr B NL 10)) from if_neg (by omega))
theorem stc_5 (h : 0 < NS) : stc G B e σ lo NL NS NC 5 = some (zR G (cap NS) (carr B NS 30)) := (show (if NS = 0 then none else some (zR G (cap NS) (carr B NS 30))) = some (zR G (cap NS) (carr B NS 30)) from if_neg (by omega))
theorem stc_6 (h : 0 < NC) : stc G B e σ lo NL NS NC 6 = some (zR G (cap NC) (carr B NC 56)) := (show (if NC = 0 then none else some (zR G (cap NC) (carr B NC 56))) = some (zR G (cap NC) (carr B NC 56)) from if_neg (by omega))
theorem stc_7 : stc G B e σ lo NL NS NC 7 = some (zI G 8 (c8 σ 7)) := rfl
theorem stc_8 : stc G B e σ lo NL NS NC 8 = some (zI G 8 (c8 σ 15)) := rfl
theorem stc_9 : stc G B e σ lo NL NS NC 9 = some (zI G 8 (c8 σ 23)) := rfl
theorem stc_l (h : k < NL) (hb : NL ≤ 20) : stc G B e σ lo NL NS NC (10 + k) = some (zO 3 (clim σ k)) := by
  unfold stc
  rw [if_neg (by omega), if_pos (by omega), if_pos (by omega), Nat.add_sub_cancel_left]
theorem stc_s (h : k < NS) (hb : NS ≤ 26) : stc G B e σ lo NL NS NC (30 + k) = some (zO 4 (cshl σ k)) := by
  unfold stc
  rw [if_neg (by omega), if_neg (by omega), if_pos (by omega), if_pos (by omega), Nat.add_sub_cancel_left]
theorem stc_c (h : k < NC) : stc G B e σ lo NL NS NC (56 + k) = some (zO 5 (ccrb σ k)) := by
  unfold stc
  rw [if_neg (by omega), if_neg (by omega), if_neg (by omega), if_pos (by omega), Nat.add_sub_cancel_left]
end
