/-! copying rows in the reference's arrays -/
set_option maxRecDepth 100000
/-- the first n places from D on hold g -/
def cp (D : Nat) (g : Nat → Int32) (n : Nat) (d : Nat → Int32) : Nat → Int32 := fun q => if D ≤ q ∧ q < D + n then g (q - D) else d q
theorem cp_0 {D : Nat} {g d : Nat → Int32} : cp D g 0 d = d := by
  funext q
  unfold cp
  rw [if_neg (by omega)]
theorem cp_up {D K j : Nat} {g d : Nat → Int32} {v : Int32} (hj : j = D + K) (hv : v = g K) : upd (cp D g K d) j v = cp D g (K + 1) d := by
  subst hj
  funext q
  simp only [upd, cp]
  by_cases h1 : q = D + K
  · subst h1
    rw [if_pos rfl, if_pos ⟨by omega, by omega⟩, Nat.add_sub_cancel_left, hv]
  · rw [if_neg h1]
    by_cases h2 : D ≤ q ∧ q < D + K
    · rw [if_pos h2, if_pos ⟨h2.1, by omega⟩]
    · rw [if_neg h2, if_neg (by omega)]
theorem cp_out {D n q : Nat} {g d : Nat → Int32} (h : q < D ∨ D + n ≤ q) : cp D g n d q = d q := if_neg (by omega)
theorem cp_in {D n j : Nat} {g d : Nat → Int32} (h : j < n) : cp D g n d (D + j) = g j := by
  unfold cp
  rw [if_pos ⟨by omega, by omega⟩, Nat.add_sub_cancel_left]
theorem cp_zput {P : Nat} {σ s : Nat → Int32} : cp P σ 287 s = zput P σ s := rfl
theorem z_boolf {C : Prop} [Decidable C] : fits .boolean (.int (if C then (1 : Int32) else 0)) = true := by
  by_cases h : C
  · rw [if_pos h]; rfl
  · rw [if_neg h]; rfl
theorem zn_nle {a b : Nat} (h : ¬ nI b ≤ nI a) (ha : a < 2 ^ 31) (hb : b < 2 ^ 31) : a < b := by
  rcases Nat.lt_or_ge a b with q | q
  · exact q
  · exact absurd (nI_le q ha) h
theorem zn_nlt {a b : Nat} (h : ¬ nI a < nI b) (ha : a < 2 ^ 31) (hb : b < 2 ^ 31) : b ≤ a := by
  rcases Nat.lt_or_ge a b with q | q
  · exact absurd (nI_lt q hb) h
  · exact q
theorem zn_ne {a b : Nat} (h : ¬ nI a = nI b) : a ≠ b := fun e => h (by rw [e])
theorem cp_z0 {D : Nat} {σ s d : Nat → Int32} : cp D (zput 0 σ s) 287 d = cp D σ 287 d := by
  funext q
  unfold cp
  by_cases h : D ≤ q ∧ q < D + 287
  · rw [if_pos h, if_pos h]
    have := zput_at (P := 0) (σ := σ) (s := s) (j := q - D) (by omega)
    rw [Nat.zero_add] at this
    exact this
  · rw [if_neg h, if_neg h]
theorem upd_uu {f : Nat → Int32} {k : Nat} {a b : Int32} : upd (upd f k a) k b = upd f k b := by
  funext q
  simp only [upd]
  by_cases h : q = k
  · rw [if_pos h, if_pos h]
  · rw [if_neg h, if_neg h, if_neg h]
theorem upd_comm {f : Nat → Int32} {k j : Nat} {a b : Int32} (hkj : k ≠ j) : upd (upd f k a) j b = upd (upd f j b) k a := by
  funext q
  simp only [upd]
  by_cases h : q = j
  · rw [if_pos h, if_neg (by omega), if_pos h]
  · rw [if_neg h]
    by_cases h2 : q = k
    · rw [if_pos h2, if_pos h2]
    · rw [if_neg h2, if_neg h2, if_neg h]
theorem zput_zput {P : Nat} {σ τ s : Nat → Int32} : zput P σ (zput P τ s) = zput P σ s := by
  funext q
  simp only [zput]
  by_cases h : P ≤ q ∧ q < P + 287
  · rw [if_pos h, if_pos h]
  · rw [if_neg h, if_neg h, if_neg h]
theorem zput_comm {P R : Nat} {σ τ s : Nat → Int32} (h : P + 287 ≤ R) : zput P σ (zput R τ s) = zput R τ (zput P σ s) := by
  funext q
  simp only [zput]
  by_cases h1 : P ≤ q ∧ q < P + 287
  · rw [if_pos h1, if_neg (by omega), if_pos h1]
  · rw [if_neg h1, if_neg h1]
theorem zput_ext {P : Nat} {σ τ s : Nat → Int32} (h : ∀ j, j < 287 → σ j = τ j) : zput P σ s = zput P τ s := by
  funext q
  simp only [zput]
  by_cases h1 : P ≤ q ∧ q < P + 287
  · rw [if_pos h1, if_pos h1, h _ (by omega)]
  · rw [if_neg h1, if_neg h1]
/-- the rows recorded, behind one more -/
def zpa (σ : Nat → Int32) (Kn : Nat) (pa : Nat → Int32) : Nat → Int32 := if Kn = 4 then cp 861 σ 287 (cp 0 (fun j => pa (287 + j)) 861 pa) else cp (287 * Kn) σ 287 pa
def zkn (Kn : Nat) : Nat := if Kn = 4 then 4 else Kn + 1
