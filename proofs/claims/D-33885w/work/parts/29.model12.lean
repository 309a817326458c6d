/-! THE REFERENCE, part 12: orders read -/
set_option maxRecDepth 100000
theorem znarrow {r : Int32} (h : r = 0 ∨ r = 1) : narrow .boolean (.int r) = .int r := by
  rcases h with h | h
  · rw [h]; rfl
  · rw [h]; rfl
theorem zif1 {c : Prop} [Decidable c] : (if c then 1 else 0 : Nat) ≤ 1 := by
  by_cases h : c
  · rw [if_pos h]; omega
  · rw [if_neg h]; omega
section
variable {no : Nat → Int32} {ln a : Nat} {o x y l m c : Int32}
theorem zf_isDigit_lt (h : zf_isDigit no ln a) (hl : ln ≤ 60) (la : a ≤ 100) : a < ln := zn_nle h.1 (by omega) (by omega)
theorem zf_isSign_lt (h : zf_isSign no ln a c) (hl : ln ≤ 60) (la : a ≤ 100) : a < ln := zn_nle h.1 (by omega) (by omega)
theorem zf_isPlace_lt (h : zf_isPlace no ln a) (hl : ln ≤ 60) (la : a ≤ 100) : a < ln := zn_nle h.1 (by omega) (by omega)
theorem zf_isSign_b (hl : ln ≤ 60) (la : a ≤ ln) : a ≤ zna_isSign no ln a c ∧ zna_isSign no ln a c ≤ ln := by
  unfold zna_isSign
  by_cases h : zf_isSign no ln a c
  · rw [if_pos h]; have := zf_isSign_lt h hl (by omega); omega
  · rw [if_neg h]; omega
theorem zf_isPlace_b (hl : ln ≤ 60) (la : a ≤ ln) : a ≤ zna_isPlace no ln a ∧ zna_isPlace no ln a ≤ ln := by
  unfold zna_isPlace
  by_cases h : zf_isPlace no ln a
  · rw [if_pos h]; have := zf_isPlace_lt h hl (by omega); omega
  · rw [if_neg h]; omega
/-- a number that is read: where it ends, and that its answer is a boolean -/
theorem zf_isNumber_b (hl : ln ≤ 60) (la : a ≤ ln) : (a ≤ (zf_isNumber no ln a o x y l m).2.1 ∧ (zf_isNumber no ln a o x y l m).2.1 ≤ ln) ∧ ((zf_isNumber no ln a o x y l m).1 = 0 ∨ (zf_isNumber no ln a o x y l m).1 = 1) ∧ (zf_isNumber no ln a o x y l m).2.2.2.1 = x ∧ (zf_isNumber no ln a o x y l m).2.2.1 = o := by
  unfold zf_isNumber
  by_cases hd : zf_isDigit no ln a
  · have hlt := zf_isDigit_lt hd hl (by omega)
    rw [if_pos hd]
    have hz : a ≤ (if ((no a) - 48) ≤ 0 then (a + 1) else (if zf_isDigit no ln (a + 1) then (if zf_in (((10 * ((no a) - 48)) + (no (a + 1))) - 48) l m then (a + 1 + 1) else (a + 1)) else (a + 1))) ∧ (if ((no a) - 48) ≤ 0 then (a + 1) else (if zf_isDigit no ln (a + 1) then (if zf_in (((10 * ((no a) - 48)) + (no (a + 1))) - 48) l m then (a + 1 + 1) else (a + 1)) else (a + 1))) ≤ ln := by
      by_cases h1 : ((no a) - 48) ≤ 0
      · rw [if_pos h1]; omega
      · rw [if_neg h1]
        by_cases h2 : zf_isDigit no ln (a + 1)
        · have := zf_isDigit_lt h2 hl (by omega)
          rw [if_pos h2]
          by_cases h3 : zf_in (((10 * ((no a) - 48)) + (no (a + 1))) - 48) l m
          · rw [if_pos h3]; omega
          · rw [if_neg h3]; omega
        · rw [if_neg h2]; omega
    generalize (if ((no a) - 48) ≤ 0 then (a + 1) else (if zf_isDigit no ln (a + 1) then (if zf_in (((10 * ((no a) - 48)) + (no (a + 1))) - 48) l m then (a + 1 + 1) else (a + 1)) else (a + 1))) = z at hz ⊢
    generalize (if ((no a) - 48) ≤ 0 then ((no a) - 48) else (if zf_isDigit no ln (a + 1) then (if zf_in (((10 * ((no a) - 48)) + (no (a + 1))) - 48) l m then (((10 * ((no a) - 48)) + (no (a + 1))) - 48) else ((no a) - 48)) else ((no a) - 48))) = v
    have hb : (if ¬ (v < l) then (1 : Int32) else 0) = 0 ∨ (if ¬ (v < l) then (1 : Int32) else 0) = 1 := by
      by_cases h : ¬ (v < l)
      · rw [if_pos h]; exact Or.inr rfl
      · rw [if_neg h]; exact Or.inl rfl
    generalize (if ¬ (v < l) then (1 : Int32) else 0) = w at hb ⊢
    have ha : (a ≤ a ∧ a ≤ ln) ∧ ((0 : Int32) = 0 ∨ (0 : Int32) = 1) ∧ x = x ∧ o = o := ⟨⟨Nat.le_refl a, la⟩, Or.inl rfl, rfl, rfl⟩
    have hc : (a ≤ z ∧ z ≤ ln) ∧ (w = 0 ∨ w = 1) ∧ x = x ∧ o = o := ⟨hz, hb, rfl, rfl⟩
    repeat' split
    all_goals first | exact ha | exact hc
  · rw [if_neg hd]; exact ⟨⟨Nat.le_refl a, la⟩, Or.inl rfl, rfl, rfl⟩
end
theorem zord_lt {ln a : Nat} {v c : Int32} (h : (if nI ln ≤ nI a then (0 : Int32) else v) = c) (hc : ¬ (0 : Int32) = c) (la : a ≤ ln) (hl : ln ≤ 60) : a < ln := by
  by_cases g : nI ln ≤ nI a
  · rw [if_pos g] at h; exact absurd h hc
  · exact zn_nle g (by omega) (by omega)
def zf_isOrder (no : Nat → Int32) (ln a : Nat) (o x y : Int32) : Int32 × Nat × Int32 × Int32 × Int32 := if (if (nI ln) ≤ (nI a) then (0 : Int32) else (no a)) = 99 then (if zf_isPlace no ln (a + 1) then (if zf_isSign no ln (zna_isPlace no ln (a + 1)) 64 then (if ((zf_isNumber no ln (zna_isSign no ln (zna_isPlace no ln (a + 1)) 64) (if (nI ln) ≤ (nI a) then (0 : Int32) else (no a)) (znx_isPlace no ln (a + 1)) y 1 20).1) = 0 then ((0 : Int32), ((zf_isNumber no ln (zna_isSign no ln (zna_isPlace no ln (a + 1)) 64) (if (nI ln) ≤ (nI a) then (0 : Int32) else (no a)) (znx_isPlace no ln (a + 1)) y 1 20).2.1), ((zf_isNumber no ln (zna_isSign no ln (zna_isPlace no ln (a + 1)) 64) (if (nI ln) ≤ (nI a) then (0 : Int32) else (no a)) (znx_isPlace no ln (a + 1)) y 1 20).2.2.1), ((zf_isNumber no ln (zna_isSign no ln (zna_isPlace no ln (a + 1)) 64) (if (nI ln) ≤ (nI a) then (0 : Int32) else (no a)) (znx_isPlace no ln (a + 1)) y 1 20).2.2.2.1), ((zf_isNumber no ln (zna_isSign no ln (zna_isPlace no ln (a + 1)) 64) (if (nI ln) ≤ (nI a) then (0 : Int32) else (no a)) (znx_isPlace no ln (a + 1)) y 1 20).2.2.2.2)) else ((1 : Int32), ((zf_isNumber no ln (zna_isSign no ln (zna_isPlace no ln (a + 1)) 64) (if (nI ln) ≤ (nI a) then (0 : Int32) else (no a)) (znx_isPlace no ln (a + 1)) y 1 20).2.1), ((zf_isNumber no ln (zna_isSign no ln (zna_isPlace no ln (a + 1)) 64) (if (nI ln) ≤ (nI a) then (0 : Int32) else (no a)) (znx_isPlace no ln (a + 1)) y 1 20).2.2.1), ((zf_isNumber no ln (zna_isSign no ln (zna_isPlace no ln (a + 1)) 64) (if (nI ln) ≤ (nI a) then (0 : Int32) else (no a)) (znx_isPlace no ln (a + 1)) y 1 20).2.2.2.1), ((zf_isNumber no ln (zna_isSign no ln (zna_isPlace no ln (a + 1)) 64) (if (nI ln) ≤ (nI a) then (0 : Int32) else (no a)) (znx_isPlace no ln (a + 1)) y 1 20).2.2.2.2))) else ((0 : Int32), (zna_isSign no ln (zna_isPlace no ln (a + 1)) 64), (if (nI ln) ≤ (nI a) then (0 : Int32) else (no a)), (znx_isPlace no ln (a + 1)), y)) else ((0 : Int32), (zna_isPlace no ln (a + 1)), (if (nI ln) ≤ (nI a) then (0 : Int32) else (no a)), (znx_isPlace no ln (a + 1)), y)) else (if (if (nI ln) ≤ (nI a) then (0 : Int32) else (no a)) = 104 then (if zf_isPlace no ln (a + 1) then (if zf_isSign no ln (zna_isPlace no ln (a + 1)) 64 then (if ((zf_isNumber no ln (zna_isSign no ln (zna_isPlace no ln (a + 1)) 64) (if (nI ln) ≤ (nI a) then (0 : Int32) else (no a)) (znx_isPlace no ln (a + 1)) y 0 60).1) = 0 then ((0 : Int32), ((zf_isNumber no ln (zna_isSign no ln (zna_isPlace no ln (a + 1)) 64) (if (nI ln) ≤ (nI a) then (0 : Int32) else (no a)) (znx_isPlace no ln (a + 1)) y 0 60).2.1), ((zf_isNumber no ln (zna_isSign no ln (zna_isPlace no ln (a + 1)) 64) (if (nI ln) ≤ (nI a) then (0 : Int32) else (no a)) (znx_isPlace no ln (a + 1)) y 0 60).2.2.1), ((zf_isNumber no ln (zna_isSign no ln (zna_isPlace no ln (a + 1)) 64) (if (nI ln) ≤ (nI a) then (0 : Int32) else (no a)) (znx_isPlace no ln (a + 1)) y 0 60).2.2.2.1), ((zf_isNumber no ln (zna_isSign no ln (zna_isPlace no ln (a + 1)) 64) (if (nI ln) ≤ (nI a) then (0 : Int32) else (no a)) (znx_isPlace no ln (a + 1)) y 0 60).2.2.2.2)) else ((1 : Int32), ((zf_isNumber no ln (zna_isSign no ln (zna_isPlace no ln (a + 1)) 64) (if (nI ln) ≤ (nI a) then (0 : Int32) else (no a)) (znx_isPlace no ln (a + 1)) y 0 60).2.1), ((zf_isNumber no ln (zna_isSign no ln (zna_isPlace no ln (a + 1)) 64) (if (nI ln) ≤ (nI a) then (0 : Int32) else (no a)) (znx_isPlace no ln (a + 1)) y 0 60).2.2.1), ((zf_isNumber no ln (zna_isSign no ln (zna_isPlace no ln (a + 1)) 64) (if (nI ln) ≤ (nI a) then (0 : Int32) else (no a)) (znx_isPlace no ln (a + 1)) y 0 60).2.2.2.1), ((zf_isNumber no ln (zna_isSign no ln (zna_isPlace no ln (a + 1)) 64) (if (nI ln) ≤ (nI a) then (0 : Int32) else (no a)) (znx_isPlace no ln (a + 1)) y 0 60).2.2.2.2))) else ((0 : Int32), (zna_isSign no ln (zna_isPlace no ln (a + 1)) 64), (if (nI ln) ≤ (nI a) then (0 : Int32) else (no a)), (znx_isPlace no ln (a + 1)), y)) else ((0 : Int32), (zna_isPlace no ln (a + 1)), (if (nI ln) ≤ (nI a) then (0 : Int32) else (no a)), (znx_isPlace no ln (a + 1)), y)) else (if (if (nI ln) ≤ (nI a) then (0 : Int32) else (no a)) = 108 then ((if zf_isPlace no ln (a + 1) then (1 : Int32) else 0), (zna_isPlace no ln (a + 1)), (if (nI ln) ≤ (nI a) then (0 : Int32) else (no a)), (znx_isPlace no ln (a + 1)), y) else (if (if (nI ln) ≤ (nI a) then (0 : Int32) else (no a)) = 115 then (if zf_isPlace no ln (a + 1) then (if zf_isSign no ln (zna_isPlace no ln (a + 1)) 64 then (if ((zf_isNumber no ln (zna_isSign no ln (zna_isPlace no ln (a + 1)) 64) (if (nI ln) ≤ (nI a) then (0 : Int32) else (no a)) (znx_isPlace no ln (a + 1)) y 1 20).1) = 0 then ((0 : Int32), ((zf_isNumber no ln (zna_isSign no ln (zna_isPlace no ln (a + 1)) 64) (if (nI ln) ≤ (nI a) then (0 : Int32) else (no a)) (znx_isPlace no ln (a + 1)) y 1 20).2.1), ((zf_isNumber no ln (zna_isSign no ln (zna_isPlace no ln (a + 1)) 64) (if (nI ln) ≤ (nI a) then (0 : Int32) else (no a)) (znx_isPlace no ln (a + 1)) y 1 20).2.2.1), ((zf_isNumber no ln (zna_isSign no ln (zna_isPlace no ln (a + 1)) 64) (if (nI ln) ≤ (nI a) then (0 : Int32) else (no a)) (znx_isPlace no ln (a + 1)) y 1 20).2.2.2.1), ((zf_isNumber no ln (zna_isSign no ln (zna_isPlace no ln (a + 1)) 64) (if (nI ln) ≤ (nI a) then (0 : Int32) else (no a)) (znx_isPlace no ln (a + 1)) y 1 20).2.2.2.2)) else ((1 : Int32), ((zf_isNumber no ln (zna_isSign no ln (zna_isPlace no ln (a + 1)) 64) (if (nI ln) ≤ (nI a) then (0 : Int32) else (no a)) (znx_isPlace no ln (a + 1)) y 1 20).2.1), ((zf_isNumber no ln (zna_isSign no ln (zna_isPlace no ln (a + 1)) 64) (if (nI ln) ≤ (nI a) then (0 : Int32) else (no a)) (znx_isPlace no ln (a + 1)) y 1 20).2.2.1), ((zf_isNumber no ln (zna_isSign no ln (zna_isPlace no ln (a + 1)) 64) (if (nI ln) ≤ (nI a) then (0 : Int32) else (no a)) (znx_isPlace no ln (a + 1)) y 1 20).2.2.2.1), ((zf_isNumber no ln (zna_isSign no ln (zna_isPlace no ln (a + 1)) 64) (if (nI ln) ≤ (nI a) then (0 : Int32) else (no a)) (znx_isPlace no ln (a + 1)) y 1 20).2.2.2.2))) else ((0 : Int32), (zna_isSign no ln (zna_isPlace no ln (a + 1)) 64), (if (nI ln) ≤ (nI a) then (0 : Int32) else (no a)), (znx_isPlace no ln (a + 1)), y)) else ((0 : Int32), (zna_isPlace no ln (a + 1)), (if (nI ln) ≤ (nI a) then (0 : Int32) else (no a)), (znx_isPlace no ln (a + 1)), y)) else (if (if (nI ln) ≤ (nI a) then (0 : Int32) else (no a)) = 116 then (if ((zf_isNumber no ln (a + 1) (if (nI ln) ≤ (nI a) then (0 : Int32) else (no a)) x y 0 30).1) = 0 then ((0 : Int32), ((zf_isNumber no ln (a + 1) (if (nI ln) ≤ (nI a) then (0 : Int32) else (no a)) x y 0 30).2.1), ((zf_isNumber no ln (a + 1) (if (nI ln) ≤ (nI a) then (0 : Int32) else (no a)) x y 0 30).2.2.1), ((zf_isNumber no ln (a + 1) (if (nI ln) ≤ (nI a) then (0 : Int32) else (no a)) x y 0 30).2.2.2.2), ((zf_isNumber no ln (a + 1) (if (nI ln) ≤ (nI a) then (0 : Int32) else (no a)) x y 0 30).2.2.2.2)) else (if zf_isSign no ln ((zf_isNumber no ln (a + 1) (if (nI ln) ≤ (nI a) then (0 : Int32) else (no a)) x y 0 30).2.1) 45 then (if ((zf_isNumber no ln (zna_isSign no ln ((zf_isNumber no ln (a + 1) (if (nI ln) ≤ (nI a) then (0 : Int32) else (no a)) x y 0 30).2.1) 45) ((zf_isNumber no ln (a + 1) (if (nI ln) ≤ (nI a) then (0 : Int32) else (no a)) x y 0 30).2.2.1) ((zf_isNumber no ln (a + 1) (if (nI ln) ≤ (nI a) then (0 : Int32) else (no a)) x y 0 30).2.2.2.2) ((zf_isNumber no ln (a + 1) (if (nI ln) ≤ (nI a) then (0 : Int32) else (no a)) x y 0 30).2.2.2.2) 31 60).1) = 0 then ((0 : Int32), ((zf_isNumber no ln (zna_isSign no ln ((zf_isNumber no ln (a + 1) (if (nI ln) ≤ (nI a) then (0 : Int32) else (no a)) x y 0 30).2.1) 45) ((zf_isNumber no ln (a + 1) (if (nI ln) ≤ (nI a) then (0 : Int32) else (no a)) x y 0 30).2.2.1) ((zf_isNumber no ln (a + 1) (if (nI ln) ≤ (nI a) then (0 : Int32) else (no a)) x y 0 30).2.2.2.2) ((zf_isNumber no ln (a + 1) (if (nI ln) ≤ (nI a) then (0 : Int32) else (no a)) x y 0 30).2.2.2.2) 31 60).2.1), ((zf_isNumber no ln (zna_isSign no ln ((zf_isNumber no ln (a + 1) (if (nI ln) ≤ (nI a) then (0 : Int32) else (no a)) x y 0 30).2.1) 45) ((zf_isNumber no ln (a + 1) (if (nI ln) ≤ (nI a) then (0 : Int32) else (no a)) x y 0 30).2.2.1) ((zf_isNumber no ln (a + 1) (if (nI ln) ≤ (nI a) then (0 : Int32) else (no a)) x y 0 30).2.2.2.2) ((zf_isNumber no ln (a + 1) (if (nI ln) ≤ (nI a) then (0 : Int32) else (no a)) x y 0 30).2.2.2.2) 31 60).2.2.1), ((zf_isNumber no ln (zna_isSign no ln ((zf_isNumber no ln (a + 1) (if (nI ln) ≤ (nI a) then (0 : Int32) else (no a)) x y 0 30).2.1) 45) ((zf_isNumber no ln (a + 1) (if (nI ln) ≤ (nI a) then (0 : Int32) else (no a)) x y 0 30).2.2.1) ((zf_isNumber no ln (a + 1) (if (nI ln) ≤ (nI a) then (0 : Int32) else (no a)) x y 0 30).2.2.2.2) ((zf_isNumber no ln (a + 1) (if (nI ln) ≤ (nI a) then (0 : Int32) else (no a)) x y 0 30).2.2.2.2) 31 60).2.2.2.1), ((zf_isNumber no ln (zna_isSign no ln ((zf_isNumber no ln (a + 1) (if (nI ln) ≤ (nI a) then (0 : Int32) else (no a)) x y 0 30).2.1) 45) ((zf_isNumber no ln (a + 1) (if (nI ln) ≤ (nI a) then (0 : Int32) else (no a)) x y 0 30).2.2.1) ((zf_isNumber no ln (a + 1) (if (nI ln) ≤ (nI a) then (0 : Int32) else (no a)) x y 0 30).2.2.2.2) ((zf_isNumber no ln (a + 1) (if (nI ln) ≤ (nI a) then (0 : Int32) else (no a)) x y 0 30).2.2.2.2) 31 60).2.2.2.2)) else ((1 : Int32), ((zf_isNumber no ln (zna_isSign no ln ((zf_isNumber no ln (a + 1) (if (nI ln) ≤ (nI a) then (0 : Int32) else (no a)) x y 0 30).2.1) 45) ((zf_isNumber no ln (a + 1) (if (nI ln) ≤ (nI a) then (0 : Int32) else (no a)) x y 0 30).2.2.1) ((zf_isNumber no ln (a + 1) (if (nI ln) ≤ (nI a) then (0 : Int32) else (no a)) x y 0 30).2.2.2.2) ((zf_isNumber no ln (a + 1) (if (nI ln) ≤ (nI a) then (0 : Int32) else (no a)) x y 0 30).2.2.2.2) 31 60).2.1), ((zf_isNumber no ln (zna_isSign no ln ((zf_isNumber no ln (a + 1) (if (nI ln) ≤ (nI a) then (0 : Int32) else (no a)) x y 0 30).2.1) 45) ((zf_isNumber no ln (a + 1) (if (nI ln) ≤ (nI a) then (0 : Int32) else (no a)) x y 0 30).2.2.1) ((zf_isNumber no ln (a + 1) (if (nI ln) ≤ (nI a) then (0 : Int32) else (no a)) x y 0 30).2.2.2.2) ((zf_isNumber no ln (a + 1) (if (nI ln) ≤ (nI a) then (0 : Int32) else (no a)) x y 0 30).2.2.2.2) 31 60).2.2.1), ((zf_isNumber no ln (zna_isSign no ln ((zf_isNumber no ln (a + 1) (if (nI ln) ≤ (nI a) then (0 : Int32) else (no a)) x y 0 30).2.1) 45) ((zf_isNumber no ln (a + 1) (if (nI ln) ≤ (nI a) then (0 : Int32) else (no a)) x y 0 30).2.2.1) ((zf_isNumber no ln (a + 1) (if (nI ln) ≤ (nI a) then (0 : Int32) else (no a)) x y 0 30).2.2.2.2) ((zf_isNumber no ln (a + 1) (if (nI ln) ≤ (nI a) then (0 : Int32) else (no a)) x y 0 30).2.2.2.2) 31 60).2.2.2.1), ((zf_isNumber no ln (zna_isSign no ln ((zf_isNumber no ln (a + 1) (if (nI ln) ≤ (nI a) then (0 : Int32) else (no a)) x y 0 30).2.1) 45) ((zf_isNumber no ln (a + 1) (if (nI ln) ≤ (nI a) then (0 : Int32) else (no a)) x y 0 30).2.2.1) ((zf_isNumber no ln (a + 1) (if (nI ln) ≤ (nI a) then (0 : Int32) else (no a)) x y 0 30).2.2.2.2) ((zf_isNumber no ln (a + 1) (if (nI ln) ≤ (nI a) then (0 : Int32) else (no a)) x y 0 30).2.2.2.2) 31 60).2.2.2.2))) else ((0 : Int32), (zna_isSign no ln ((zf_isNumber no ln (a + 1) (if (nI ln) ≤ (nI a) then (0 : Int32) else (no a)) x y 0 30).2.1) 45), ((zf_isNumber no ln (a + 1) (if (nI ln) ≤ (nI a) then (0 : Int32) else (no a)) x y 0 30).2.2.1), ((zf_isNumber no ln (a + 1) (if (nI ln) ≤ (nI a) then (0 : Int32) else (no a)) x y 0 30).2.2.2.2), ((zf_isNumber no ln (a + 1) (if (nI ln) ≤ (nI a) then (0 : Int32) else (no a)) x y 0 30).2.2.2.2)))) else (if (if (nI ln) ≤ (nI a) then (0 : Int32) else (no a)) = 119 then (((zf_isNumber no ln (a + 1) (if (nI ln) ≤ (nI a) then (0 : Int32) else (no a)) x y 1 99).1), ((zf_isNumber no ln (a + 1) (if (nI ln) ≤ (nI a) then (0 : Int32) else (no a)) x y 1 99).2.1), ((zf_isNumber no ln (a + 1) (if (nI ln) ≤ (nI a) then (0 : Int32) else (no a)) x y 1 99).2.2.1), ((zf_isNumber no ln (a + 1) (if (nI ln) ≤ (nI a) then (0 : Int32) else (no a)) x y 1 99).2.2.2.1), ((zf_isNumber no ln (a + 1) (if (nI ln) ≤ (nI a) then (0 : Int32) else (no a)) x y 1 99).2.2.2.2)) else ((0 : Int32), a, (if (nI ln) ≤ (nI a) then (0 : Int32) else (no a)), x, y))))))
set_option maxHeartbeats 4000000 in
theorem k_isOrder {G : zE} {A : Nat → Nat} (hA : zinj A 5) {s pa ke no f : Nat → Int32} {h0 : zH} {ln : Nat} (h6 : f 6 = nI ln) (hl : ln ≤ 60) {a : Nat} (la : a ≤ ln) {o x y : Int32} {d : Nat} (hd : 4 ≤ d) : zCon G fX3_isOrder d 0 0 [.ref (A 0)] (mdl G A s pa ke no (zrd f a o x y) h0) (zA (.int (zf_isOrder no ln a o x y).1) (mdl G A s pa ke no (zrd f (zf_isOrder no ln a o x y).2.1 (zf_isOrder no ln a o x y).2.2.1 (zf_isOrder no ln a o x y).2.2.2.1 (zf_isOrder no ln a o x y).2.2.2.2) h0)) nX := by
  refine zCon.of9 (L := [some (.ref (A 0)), none]) (by simp [Value.category]) (Nat.le_of_ble_eq_true rfl) pX3 rfl rfl ?_
  refine z_aload_n dX3_isOrder_0 rfl ?_
  refine z_aload_n dX3_isOrder_1 rfl ?_
  refine zm_get 8 (v := .int (nI a)) dX3_isOrder_2 q1750 rfl rfl ?_
  refine z_aload_n dX3_isOrder_5 rfl ?_
  refine zm_get 6 (v := .int (nI ln)) dX3_isOrder_6 q1748 rfl (congrArg (fun z => some (Value.int z)) h6) ?_
  refine z_join 25 (.int (if (nI ln) ≤ (nI a) then (0 : Int32) else (no a))) 2 ?_ (fun hJ => ?_)
  rotate_left
  ·
    refine z_icmp_ge (tgt := 24) dX3_isOrder_9 (by decide) (fun c_1 => ?_) (fun c_1 => ?_)
    ·
      refine z_iconst dX3_isOrder_24 (v := 0) rfl ?_
      exact z_jv (by simp only [if_pos c_1] <;> rfl) hJ
    ·
      refine z_aload_n dX3_isOrder_12 rfl ?_
      refine zm_get 5 dX3_isOrder_13 q1747 rfl rfl ?_
      refine z_aload_n dX3_isOrder_16 rfl ?_
      refine zm_get 8 (v := .int (nI a)) dX3_isOrder_17 q1750 rfl rfl ?_
      have lb_2 := zn_nle c_1 (by omega) (by omega)
      refine z_iald dX3_isOrder_20 (mdl_4 hA) (zn_to (rfl) rfl) (by omega) (by omega) ?_
      refine z_goto (tgt := 25) dX3_isOrder_21 (by decide) ?_
      exact z_jv (by simp only [if_neg c_1] <;> rfl) hJ
  refine zm_putR 9 dX3_isOrder_25 q1751 rfl rfl rfl rfl rfl zrd_9 ?_
  refine z_aload_n dX3_isOrder_28 rfl ?_
  refine z_dup dX3_isOrder_29 rfl ?_
  refine zm_get 8 (v := .int (nI a)) dX3_isOrder_30 q1750 rfl rfl ?_
  refine z_iconst dX3_isOrder_33 (v := 1) rfl ?_
  refine z_iadd dX3_isOrder_34 ?_
  refine zm_putR 8 dX3_isOrder_35 q1750 rfl rfl rfl rfl rfl ((congrArg (fun z => upd _ 8 z) (show (nI a) + 1 = nI (a + 1) from zn_add rfl (zk 1))).trans zrd_8) ?_
  refine z_aload_n dX3_isOrder_38 rfl ?_
  refine zm_get 9 (v := .int (if (nI ln) ≤ (nI a) then (0 : Int32) else (no a))) dX3_isOrder_39 q1751 rfl rfl ?_
  by_cases c_3 : (if (nI ln) ≤ (nI a) then (0 : Int32) else (no a)) = (99 : Int32)
  · refine z_lookup (off := 63) (tgt := 105) dX3_isOrder_42 (by decide) (by rw [c_3]; rfl) (by decide) ?_
    have lb_4 := zord_lt c_3 (by decide) la hl
    refine z_aload_n dX3_isOrder_105 rfl ?_
    have lb_5 := zf_isPlace_b (no := no) hl (a := a + 1) (by omega)
    refine z_cV zc7 mX3_isPlace (k_isPlace (d := d - 1) hA h6 hl (a := a + 1) (by omega) (by omega)) dX3_isOrder_106 q1981 (by omega) rfl (Nat.le_of_ble_eq_true rfl) rfl mdl_0 rfl ?_
    refine z_ifB_eq (tgt := 135) dX3_isOrder_109 (by decide) (fun c_6 => ?_) (fun c_6 => ?_)
    ·
      refine z_iconst dX3_isOrder_135 (v := 0) rfl ?_
      refine z_ret dX3_isOrder_136 rfl rfl ⟨by simp only [zf_isOrder, if_pos c_3, if_neg c_6], by simp only [zf_isOrder, if_pos c_3, if_neg c_6]⟩
    ·
      refine z_aload_n dX3_isOrder_112 rfl ?_
      refine z_bipush dX3_isOrder_113 (v := 64) rfl ?_
      have lb_7 := zf_isSign_b (no := no) (c := 64) hl (a := zna_isPlace no ln (a + 1)) (by omega)
      refine z_cV zc7 mX3_isSign (k_isSign (d := d - 1) hA h6 hl (a := zna_isPlace no ln (a + 1)) (by omega) (by omega)) dX3_isOrder_115 q1985 (by omega) rfl (Nat.le_of_ble_eq_true rfl) rfl mdl_0 rfl ?_
      refine z_ifB_eq (tgt := 135) dX3_isOrder_118 (by decide) (fun c_8 => ?_) (fun c_8 => ?_)
      ·
        refine z_iconst dX3_isOrder_135 (v := 0) rfl ?_
        refine z_ret dX3_isOrder_136 rfl rfl ⟨by simp only [zf_isOrder, if_pos c_3, if_pos c_6, if_neg c_8], by simp only [zf_isOrder, if_pos c_3, if_pos c_6, if_neg c_8]⟩
      ·
        refine z_aload_n dX3_isOrder_121 rfl ?_
        refine z_iconst dX3_isOrder_122 (v := 1) rfl ?_
        refine z_bipush dX3_isOrder_123 (v := 20) rfl ?_
        have lb_9 := zf_isNumber_b (no := no) (o := if (nI ln) ≤ (nI a) then (0 : Int32) else (no a)) (x := znx_isPlace no ln (a + 1)) (y := y) (l := 1) (m := 20) hl (a := zna_isSign no ln (zna_isPlace no ln (a + 1)) 64) (by omega)
        refine z_cV zc7 mX3_isNumber (k_isNumber (d := d - 1) hA h6 hl (a := zna_isSign no ln (zna_isPlace no ln (a + 1)) 64) (by omega) (by omega)) dX3_isOrder_125 q1989 (by omega) rfl (Nat.le_of_ble_eq_true rfl) rfl mdl_0 rfl ?_
        refine z_if_eq (tgt := 135) dX3_isOrder_128 (by decide) (fun c_10 => ?_) (fun c_10 => ?_)
        ·
          refine z_iconst dX3_isOrder_135 (v := 0) rfl ?_
          refine z_ret dX3_isOrder_136 rfl rfl ⟨by simp only [zf_isOrder, if_pos c_3, if_pos c_6, if_pos c_8, if_pos c_10], by simp only [zf_isOrder, if_pos c_3, if_pos c_6, if_pos c_8, if_pos c_10]⟩
        ·
          refine z_iconst dX3_isOrder_131 (v := 1) rfl ?_
          refine z_goto (tgt := 136) dX3_isOrder_132 (by decide) ?_
          refine z_ret dX3_isOrder_136 rfl rfl ⟨by simp only [zf_isOrder, if_pos c_3, if_pos c_6, if_pos c_8, if_neg c_10], by simp only [zf_isOrder, if_pos c_3, if_pos c_6, if_pos c_8, if_neg c_10]⟩
  ·
    by_cases c_11 : (if (nI ln) ≤ (nI a) then (0 : Int32) else (no a)) = (104 : Int32)
    · refine z_lookup (off := 95) (tgt := 137) dX3_isOrder_42 (by decide) (by rw [c_11]; rfl) (by decide) ?_
      have lb_12 := zord_lt c_11 (by decide) la hl
      refine z_aload_n dX3_isOrder_137 rfl ?_
      have lb_13 := zf_isPlace_b (no := no) hl (a := a + 1) (by omega)
      refine z_cV zc7 mX3_isPlace (k_isPlace (d := d - 1) hA h6 hl (a := a + 1) (by omega) (by omega)) dX3_isOrder_138 q1981 (by omega) rfl (Nat.le_of_ble_eq_true rfl) rfl mdl_0 rfl ?_
      refine z_ifB_eq (tgt := 167) dX3_isOrder_141 (by decide) (fun c_14 => ?_) (fun c_14 => ?_)
      ·
        refine z_iconst dX3_isOrder_167 (v := 0) rfl ?_
        refine z_ret dX3_isOrder_168 rfl rfl ⟨by simp only [zf_isOrder, if_neg c_3, if_pos c_11, if_neg c_14], by simp only [zf_isOrder, if_neg c_3, if_pos c_11, if_neg c_14]⟩
      ·
        refine z_aload_n dX3_isOrder_144 rfl ?_
        refine z_bipush dX3_isOrder_145 (v := 64) rfl ?_
        have lb_15 := zf_isSign_b (no := no) (c := 64) hl (a := zna_isPlace no ln (a + 1)) (by omega)
        refine z_cV zc7 mX3_isSign (k_isSign (d := d - 1) hA h6 hl (a := zna_isPlace no ln (a + 1)) (by omega) (by omega)) dX3_isOrder_147 q1985 (by omega) rfl (Nat.le_of_ble_eq_true rfl) rfl mdl_0 rfl ?_
        refine z_ifB_eq (tgt := 167) dX3_isOrder_150 (by decide) (fun c_16 => ?_) (fun c_16 => ?_)
        ·
          refine z_iconst dX3_isOrder_167 (v := 0) rfl ?_
          refine z_ret dX3_isOrder_168 rfl rfl ⟨by simp only [zf_isOrder, if_neg c_3, if_pos c_11, if_pos c_14, if_neg c_16], by simp only [zf_isOrder, if_neg c_3, if_pos c_11, if_pos c_14, if_neg c_16]⟩
        ·
          refine z_aload_n dX3_isOrder_153 rfl ?_
          refine z_iconst dX3_isOrder_154 (v := 0) rfl ?_
          refine z_bipush dX3_isOrder_155 (v := 60) rfl ?_
          have lb_17 := zf_isNumber_b (no := no) (o := if (nI ln) ≤ (nI a) then (0 : Int32) else (no a)) (x := znx_isPlace no ln (a + 1)) (y := y) (l := 0) (m := 60) hl (a := zna_isSign no ln (zna_isPlace no ln (a + 1)) 64) (by omega)
          refine z_cV zc7 mX3_isNumber (k_isNumber (d := d - 1) hA h6 hl (a := zna_isSign no ln (zna_isPlace no ln (a + 1)) 64) (by omega) (by omega)) dX3_isOrder_157 q1989 (by omega) rfl (Nat.le_of_ble_eq_true rfl) rfl mdl_0 rfl ?_
          refine z_if_eq (tgt := 167) dX3_isOrder_160 (by decide) (fun c_18 => ?_) (fun c_18 => ?_)
          ·
            refine z_iconst dX3_isOrder_167 (v := 0) rfl ?_
            refine z_ret dX3_isOrder_168 rfl rfl ⟨by simp only [zf_isOrder, if_neg c_3, if_pos c_11, if_pos c_14, if_pos c_16, if_pos c_18], by simp only [zf_isOrder, if_neg c_3, if_pos c_11, if_pos c_14, if_pos c_16, if_pos c_18]⟩
          ·
            refine z_iconst dX3_isOrder_163 (v := 1) rfl ?_
            refine z_goto (tgt := 168) dX3_isOrder_164 (by decide) ?_
            refine z_ret dX3_isOrder_168 rfl rfl ⟨by simp only [zf_isOrder, if_neg c_3, if_pos c_11, if_pos c_14, if_pos c_16, if_neg c_18], by simp only [zf_isOrder, if_neg c_3, if_pos c_11, if_pos c_14, if_pos c_16, if_neg c_18]⟩
    ·
      by_cases c_19 : (if (nI ln) ≤ (nI a) then (0 : Int32) else (no a)) = (108 : Int32)
      · refine z_lookup (off := 58) (tgt := 100) dX3_isOrder_42 (by decide) (by rw [c_19]; rfl) (by decide) ?_
        have lb_20 := zord_lt c_19 (by decide) la hl
        refine z_aload_n dX3_isOrder_100 rfl ?_
        have lb_21 := zf_isPlace_b (no := no) hl (a := a + 1) (by omega)
        refine z_cV zc7 mX3_isPlace (k_isPlace (d := d - 1) hA h6 hl (a := a + 1) (by omega) (by omega)) dX3_isOrder_101 q1981 (by omega) rfl (Nat.le_of_ble_eq_true rfl) rfl mdl_0 rfl ?_
        refine z_ret dX3_isOrder_104 rfl z_bool ⟨by simp only [zf_isOrder, if_neg c_3, if_neg c_11, if_pos c_19], by simp only [zf_isOrder, if_neg c_3, if_neg c_11, if_pos c_19]⟩
      ·
        by_cases c_22 : (if (nI ln) ≤ (nI a) then (0 : Int32) else (no a)) = (115 : Int32)
        · refine z_lookup (off := 63) (tgt := 105) dX3_isOrder_42 (by decide) (by rw [c_22]; rfl) (by decide) ?_
          have lb_23 := zord_lt c_22 (by decide) la hl
          refine z_aload_n dX3_isOrder_105 rfl ?_
          have lb_24 := zf_isPlace_b (no := no) hl (a := a + 1) (by omega)
          refine z_cV zc7 mX3_isPlace (k_isPlace (d := d - 1) hA h6 hl (a := a + 1) (by omega) (by omega)) dX3_isOrder_106 q1981 (by omega) rfl (Nat.le_of_ble_eq_true rfl) rfl mdl_0 rfl ?_
          refine z_ifB_eq (tgt := 135) dX3_isOrder_109 (by decide) (fun c_25 => ?_) (fun c_25 => ?_)
          ·
            refine z_iconst dX3_isOrder_135 (v := 0) rfl ?_
            refine z_ret dX3_isOrder_136 rfl rfl ⟨by simp only [zf_isOrder, if_neg c_3, if_neg c_11, if_neg c_19, if_pos c_22, if_neg c_25], by simp only [zf_isOrder, if_neg c_3, if_neg c_11, if_neg c_19, if_pos c_22, if_neg c_25]⟩
          ·
            refine z_aload_n dX3_isOrder_112 rfl ?_
            refine z_bipush dX3_isOrder_113 (v := 64) rfl ?_
            have lb_26 := zf_isSign_b (no := no) (c := 64) hl (a := zna_isPlace no ln (a + 1)) (by omega)
            refine z_cV zc7 mX3_isSign (k_isSign (d := d - 1) hA h6 hl (a := zna_isPlace no ln (a + 1)) (by omega) (by omega)) dX3_isOrder_115 q1985 (by omega) rfl (Nat.le_of_ble_eq_true rfl) rfl mdl_0 rfl ?_
            refine z_ifB_eq (tgt := 135) dX3_isOrder_118 (by decide) (fun c_27 => ?_) (fun c_27 => ?_)
            ·
              refine z_iconst dX3_isOrder_135 (v := 0) rfl ?_
              refine z_ret dX3_isOrder_136 rfl rfl ⟨by simp only [zf_isOrder, if_neg c_3, if_neg c_11, if_neg c_19, if_pos c_22, if_pos c_25, if_neg c_27], by simp only [zf_isOrder, if_neg c_3, if_neg c_11, if_neg c_19, if_pos c_22, if_pos c_25, if_neg c_27]⟩
            ·
              refine z_aload_n dX3_isOrder_121 rfl ?_
              refine z_iconst dX3_isOrder_122 (v := 1) rfl ?_
              refine z_bipush dX3_isOrder_123 (v := 20) rfl ?_
              have lb_28 := zf_isNumber_b (no := no) (o := if (nI ln) ≤ (nI a) then (0 : Int32) else (no a)) (x := znx_isPlace no ln (a + 1)) (y := y) (l := 1) (m := 20) hl (a := zna_isSign no ln (zna_isPlace no ln (a + 1)) 64) (by omega)
              refine z_cV zc7 mX3_isNumber (k_isNumber (d := d - 1) hA h6 hl (a := zna_isSign no ln (zna_isPlace no ln (a + 1)) 64) (by omega) (by omega)) dX3_isOrder_125 q1989 (by omega) rfl (Nat.le_of_ble_eq_true rfl) rfl mdl_0 rfl ?_
              refine z_if_eq (tgt := 135) dX3_isOrder_128 (by decide) (fun c_29 => ?_) (fun c_29 => ?_)
              ·
                refine z_iconst dX3_isOrder_135 (v := 0) rfl ?_
                refine z_ret dX3_isOrder_136 rfl rfl ⟨by simp only [zf_isOrder, if_neg c_3, if_neg c_11, if_neg c_19, if_pos c_22, if_pos c_25, if_pos c_27, if_pos c_29], by simp only [zf_isOrder, if_neg c_3, if_neg c_11, if_neg c_19, if_pos c_22, if_pos c_25, if_pos c_27, if_pos c_29]⟩
              ·
                refine z_iconst dX3_isOrder_131 (v := 1) rfl ?_
                refine z_goto (tgt := 136) dX3_isOrder_132 (by decide) ?_
                refine z_ret dX3_isOrder_136 rfl rfl ⟨by simp only [zf_isOrder, if_neg c_3, if_neg c_11, if_neg c_19, if_pos c_22, if_pos c_25, if_pos c_27, if_neg c_29], by simp only [zf_isOrder, if_neg c_3, if_neg c_11, if_neg c_19, if_pos c_22, if_pos c_25, if_pos c_27, if_neg c_29]⟩
        ·
          by_cases c_30 : (if (nI ln) ≤ (nI a) then (0 : Int32) else (no a)) = (116 : Int32)
          · refine z_lookup (off := 127) (tgt := 169) dX3_isOrder_42 (by decide) (by rw [c_30]; rfl) (by decide) ?_
            have lb_31 := zord_lt c_30 (by decide) la hl
            refine z_aload_n dX3_isOrder_169 rfl ?_
            refine z_iconst dX3_isOrder_170 (v := 0) rfl ?_
            refine z_bipush dX3_isOrder_171 (v := 30) rfl ?_
            have lb_32 := zf_isNumber_b (no := no) (o := if (nI ln) ≤ (nI a) then (0 : Int32) else (no a)) (x := x) (y := y) (l := 0) (m := 30) hl (a := a + 1) (by omega)
            refine z_cV zc7 mX3_isNumber (k_isNumber (d := d - 1) hA h6 hl (a := a + 1) (by omega) (by omega)) dX3_isOrder_173 q1989 (by omega) rfl (Nat.le_of_ble_eq_true rfl) rfl mdl_0 rfl ?_
            refine z_istore_n dX3_isOrder_176 (by decide) ?_
            refine z_aload_n dX3_isOrder_177 rfl ?_
            refine z_aload_n dX3_isOrder_178 rfl ?_
            refine zm_get 11 (v := .int ((zf_isNumber no ln (a + 1) (if (nI ln) ≤ (nI a) then (0 : Int32) else (no a)) x y 0 30).2.2.2.2)) dX3_isOrder_179 q1753 rfl rfl ?_
            refine zm_putR 10 dX3_isOrder_182 q1752 rfl rfl rfl rfl rfl zrd_10 ?_
            refine z_iload_n dX3_isOrder_185 rfl ?_
            refine z_if_eq (tgt := 213) dX3_isOrder_186 (by decide) (fun c_33 => ?_) (fun c_33 => ?_)
            ·
              refine z_iconst dX3_isOrder_213 (v := 0) rfl ?_
              refine z_ret dX3_isOrder_214 rfl rfl ⟨by simp only [zf_isOrder, if_neg c_3, if_neg c_11, if_neg c_19, if_neg c_22, if_pos c_30, if_pos c_33], by simp only [zf_isOrder, if_neg c_3, if_neg c_11, if_neg c_19, if_neg c_22, if_pos c_30, if_pos c_33]⟩
            ·
              refine z_aload_n dX3_isOrder_189 rfl ?_
              refine z_bipush dX3_isOrder_190 (v := 45) rfl ?_
              have lb_34 := zf_isSign_b (no := no) (c := 45) hl (a := (zf_isNumber no ln (a + 1) (if (nI ln) ≤ (nI a) then (0 : Int32) else (no a)) x y 0 30).2.1) (by omega)
              refine z_cV zc7 mX3_isSign (k_isSign (d := d - 1) hA h6 hl (a := (zf_isNumber no ln (a + 1) (if (nI ln) ≤ (nI a) then (0 : Int32) else (no a)) x y 0 30).2.1) (by omega) (by omega)) dX3_isOrder_192 q1985 (by omega) rfl (Nat.le_of_ble_eq_true rfl) rfl mdl_0 rfl ?_
              refine z_ifB_eq (tgt := 213) dX3_isOrder_195 (by decide) (fun c_35 => ?_) (fun c_35 => ?_)
              ·
                refine z_iconst dX3_isOrder_213 (v := 0) rfl ?_
                refine z_ret dX3_isOrder_214 rfl rfl ⟨by simp only [zf_isOrder, if_neg c_3, if_neg c_11, if_neg c_19, if_neg c_22, if_pos c_30, if_neg c_33, if_neg c_35], by simp only [zf_isOrder, if_neg c_3, if_neg c_11, if_neg c_19, if_neg c_22, if_pos c_30, if_neg c_33, if_neg c_35]⟩
              ·
                refine z_aload_n dX3_isOrder_198 rfl ?_
                refine z_bipush dX3_isOrder_199 (v := 31) rfl ?_
                refine z_bipush dX3_isOrder_201 (v := 60) rfl ?_
                have lb_36 := zf_isNumber_b (no := no) (o := (zf_isNumber no ln (a + 1) (if (nI ln) ≤ (nI a) then (0 : Int32) else (no a)) x y 0 30).2.2.1) (x := (zf_isNumber no ln (a + 1) (if (nI ln) ≤ (nI a) then (0 : Int32) else (no a)) x y 0 30).2.2.2.2) (y := (zf_isNumber no ln (a + 1) (if (nI ln) ≤ (nI a) then (0 : Int32) else (no a)) x y 0 30).2.2.2.2) (l := 31) (m := 60) hl (a := zna_isSign no ln ((zf_isNumber no ln (a + 1) (if (nI ln) ≤ (nI a) then (0 : Int32) else (no a)) x y 0 30).2.1) 45) (by omega)
                refine z_cV zc7 mX3_isNumber (k_isNumber (d := d - 1) hA h6 hl (a := zna_isSign no ln ((zf_isNumber no ln (a + 1) (if (nI ln) ≤ (nI a) then (0 : Int32) else (no a)) x y 0 30).2.1) 45) (by omega) (by omega)) dX3_isOrder_203 q1989 (by omega) rfl (Nat.le_of_ble_eq_true rfl) rfl mdl_0 rfl ?_
                refine z_if_eq (tgt := 213) dX3_isOrder_206 (by decide) (fun c_37 => ?_) (fun c_37 => ?_)
                ·
                  refine z_iconst dX3_isOrder_213 (v := 0) rfl ?_
                  refine z_ret dX3_isOrder_214 rfl rfl ⟨by simp only [zf_isOrder, if_neg c_3, if_neg c_11, if_neg c_19, if_neg c_22, if_pos c_30, if_neg c_33, if_pos c_35, if_pos c_37], by simp only [zf_isOrder, if_neg c_3, if_neg c_11, if_neg c_19, if_neg c_22, if_pos c_30, if_neg c_33, if_pos c_35, if_pos c_37]⟩
                ·
                  refine z_iconst dX3_isOrder_209 (v := 1) rfl ?_
                  refine z_goto (tgt := 214) dX3_isOrder_210 (by decide) ?_
                  refine z_ret dX3_isOrder_214 rfl rfl ⟨by simp only [zf_isOrder, if_neg c_3, if_neg c_11, if_neg c_19, if_neg c_22, if_pos c_30, if_neg c_33, if_pos c_35, if_neg c_37], by simp only [zf_isOrder, if_neg c_3, if_neg c_11, if_neg c_19, if_neg c_22, if_pos c_30, if_neg c_33, if_pos c_35, if_neg c_37]⟩
          ·
            by_cases c_38 : (if (nI ln) ≤ (nI a) then (0 : Int32) else (no a)) = (119 : Int32)
            · refine z_lookup (off := 173) (tgt := 215) dX3_isOrder_42 (by decide) (by rw [c_38]; rfl) (by decide) ?_
              have lb_39 := zord_lt c_38 (by decide) la hl
              refine z_aload_n dX3_isOrder_215 rfl ?_
              refine z_iconst dX3_isOrder_216 (v := 1) rfl ?_
              refine z_bipush dX3_isOrder_217 (v := 99) rfl ?_
              have lb_40 := zf_isNumber_b (no := no) (o := if (nI ln) ≤ (nI a) then (0 : Int32) else (no a)) (x := x) (y := y) (l := 1) (m := 99) hl (a := a + 1) (by omega)
              refine z_cV zc7 mX3_isNumber (k_isNumber (d := d - 1) hA h6 hl (a := a + 1) (by omega) (by omega)) dX3_isOrder_219 q1989 (by omega) rfl (Nat.le_of_ble_eq_true rfl) rfl mdl_0 rfl ?_
              refine z_ret dX3_isOrder_222 rfl (znarrow lb_40.2.1) ⟨by simp only [zf_isOrder, if_neg c_3, if_neg c_11, if_neg c_19, if_neg c_22, if_neg c_30, if_pos c_38], by simp only [zf_isOrder, if_neg c_3, if_neg c_11, if_neg c_19, if_neg c_22, if_neg c_30, if_pos c_38]⟩
            ·
              refine z_lookup (off := 181) (tgt := 223) dX3_isOrder_42 (by decide) (zlk_cons (lit := (99 : Int32)) rfl c_3 (zlk_cons (lit := (104 : Int32)) rfl c_11 (zlk_cons (lit := (108 : Int32)) rfl c_19 (zlk_cons (lit := (115 : Int32)) rfl c_22 (zlk_cons (lit := (116 : Int32)) rfl c_30 (zlk_cons (lit := (119 : Int32)) rfl c_38 rfl)))))) (by decide) ?_
              refine z_aload_n dX3_isOrder_223 rfl ?_
              refine z_dup dX3_isOrder_224 rfl ?_
              refine zm_get 8 (v := .int (nI (a + 1))) dX3_isOrder_225 q1750 rfl rfl ?_
              refine z_iconst dX3_isOrder_228 (v := 1) rfl ?_
              refine z_isub dX3_isOrder_229 ?_
              refine zm_putR 8 dX3_isOrder_230 q1750 rfl rfl rfl rfl rfl ((congrArg (fun z => upd _ 8 z) (show (nI (a + 1)) - 1 = nI a from zn_dec)).trans zrd_8) ?_
              refine z_iconst dX3_isOrder_233 (v := 0) rfl ?_
              refine z_ret dX3_isOrder_234 rfl rfl ⟨by simp only [zf_isOrder, if_neg c_3, if_neg c_11, if_neg c_19, if_neg c_22, if_neg c_30, if_neg c_38], by simp only [zf_isOrder, if_neg c_3, if_neg c_11, if_neg c_19, if_neg c_22, if_neg c_30, if_neg c_38]⟩
