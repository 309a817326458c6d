/-! THE REFERENCE, part 13: what is read; the place of an error -/
set_option maxRecDepth 100000
/-- a number from l to m -/
def znn (y : Int32) (l m : Nat) : Prop := ∃ n, y = nI n ∧ l ≤ n ∧ n ≤ m
theorem zin_nI {v lo hi : Int32} {l m : Nat} (hlo : lo = nI l) (hhi : hi = nI m) (hl : l < 2 ^ 30) (hm : m < 2 ^ 30) (h : zf_in v lo hi) : znn v l m := by
  obtain ⟨h1, h2⟩ := h
  subst hlo hhi
  have h3 : ¬ v < 0 := fun q => h1 (Int32.lt_of_lt_of_le q (show nI 0 ≤ nI l from nI_le (by omega) (by omega)))
  obtain ⟨j, hj, rfl⟩ := nI_of h3
  exact ⟨j, rfl, zn_nlt h1 (by omega) (by omega), zn_nlt h2 (by omega) (by omega)⟩
section
variable {no : Nat → Int32} {ln a : Nat} {o x y l m c : Int32}
theorem zf_isDigit_d (h : zf_isDigit no ln a) : ∃ v, no a - 48 = nI v ∧ v ≤ 9 := by
  obtain ⟨k, e, h1, h2⟩ := zin_nI (l := 48) (m := 57) rfl rfl (by decide) (by decide) h.2
  exact ⟨k - 48, by rw [e]; exact zn_sub (a := k) (b := 48) rfl rfl h1, by omega⟩
theorem zf_isPlace_d (h : zf_isPlace no ln a) : zix (znx_isPlace no ln a) 8 := by
  unfold znx_isPlace
  rw [if_pos h]
  obtain ⟨k, e, h1, h2⟩ := zin_nI (l := 48) (m := 55) rfl rfl (by decide) (by decide) h.2
  rw [e, show nI k - 48 = nI (k - 48) from zn_sub (a := k) (b := 48) rfl rfl h1]
  exact zix_nI (by omega) (by omega)
/-- the number that was read lies within -/
theorem zf_isNumber_v {L Mx : Nat} (hL : l = nI L) (hM : m = nI Mx) (lM : Mx < 100) (lL : L ≤ Mx) (h : ¬ (zf_isNumber no ln a o x y l m).1 = 0) : znn (zf_isNumber no ln a o x y l m).2.2.2.2 L Mx := by
  unfold zf_isNumber at h ⊢
  by_cases hd : zf_isDigit no ln a
  · obtain ⟨d, e, ld⟩ := zf_isDigit_d hd
    rw [if_pos hd] at h ⊢
    have hv : (if ((no a) - 48) ≤ 0 then ((no a) - 48) else (if zf_isDigit no ln (a + 1) then (if zf_in (((10 * ((no a) - 48)) + (no (a + 1))) - 48) l m then (((10 * ((no a) - 48)) + (no (a + 1))) - 48) else ((no a) - 48)) else ((no a) - 48))) = nI d ∨ znn (if ((no a) - 48) ≤ 0 then ((no a) - 48) else (if zf_isDigit no ln (a + 1) then (if zf_in (((10 * ((no a) - 48)) + (no (a + 1))) - 48) l m then (((10 * ((no a) - 48)) + (no (a + 1))) - 48) else ((no a) - 48)) else ((no a) - 48))) L Mx := by
      by_cases h1 : ((no a) - 48) ≤ 0
      · rw [if_pos h1]; exact Or.inl e
      · rw [if_neg h1]
        by_cases h2 : zf_isDigit no ln (a + 1)
        · rw [if_pos h2]
          by_cases h3 : zf_in (((10 * ((no a) - 48)) + (no (a + 1))) - 48) l m
          · rw [if_pos h3]; exact Or.inr (zin_nI hL hM (by omega) (by omega) h3)
          · rw [if_neg h3]; exact Or.inl e
        · rw [if_neg h2]; exact Or.inl e
    generalize (if ((no a) - 48) ≤ 0 then (a + 1) else (if zf_isDigit no ln (a + 1) then (if zf_in (((10 * ((no a) - 48)) + (no (a + 1))) - 48) l m then (a + 1 + 1) else (a + 1)) else (a + 1))) = z at h ⊢
    generalize (if ((no a) - 48) ≤ 0 then ((no a) - 48) else (if zf_isDigit no ln (a + 1) then (if zf_in (((10 * ((no a) - 48)) + (no (a + 1))) - 48) l m then (((10 * ((no a) - 48)) + (no (a + 1))) - 48) else ((no a) - 48)) else ((no a) - 48))) = v at hv h ⊢
    have hw : ∀ {b : Prop}, ¬ (if ¬ (v < l) then (1 : Int32) else 0) = 0 → (v = nI d → ¬ nI d < l → znn v L Mx) → znn v L Mx := by
      intro b q g
      rcases hv with hv | hv
      · refine g hv (fun w => q ?_)
        rw [hv, if_neg (fun z => z w)]
      · exact hv
    rw [e] at h ⊢
    by_cases h0 : nI d = 0
    · rw [if_pos h0] at h ⊢
      by_cases h1 : l ≤ 0
      · rw [if_pos h1] at h ⊢
        refine hw (b := True) h (fun ev _ => ⟨d, ev, ?_⟩)
        have e0 : d = 0 := (nI_eq (by omega) (by omega)).mp (h0.trans (zk 0))
        rw [hL] at h1
        have := (nI_leI (by omega) (by omega)).mp (show nI L ≤ nI 0 from h1)
        omega
      · rw [if_neg h1] at h; exact absurd rfl h
    · rw [if_neg h0] at h ⊢
      by_cases h1 : l ≤ nI d
      · rw [if_pos h1] at h ⊢
        by_cases h2 : m < nI d
        · rw [if_pos h2] at h; exact absurd rfl h
        · rw [if_neg h2] at h ⊢
          refine hw (b := True) h (fun ev _ => ⟨d, ev, ?_⟩)
          rw [hL] at h1
          rw [hM] at h2
          have := (nI_leI (by omega) (by omega)).mp h1
          have := zn_nlt h2 (by omega) (by omega)
          omega
      · rw [if_neg h1] at h ⊢
        have hx : ∀ (ev : v = nI d), ¬ nI d < l → znn v L Mx := fun _ q => absurd (Int32.not_lt.mp q) h1
        have hw2 : ¬ (if ¬ (v < l) then (1 : Int32) else 0) = 0 → znn v L Mx := fun q => hw (b := True) q hx
        generalize (if ¬ (v < l) then (1 : Int32) else 0) = w at h hw2 ⊢
        revert h
        repeat' split
        all_goals first | exact (fun h => absurd rfl h) | exact hw2
  · rw [if_neg hd] at h; exact absurd rfl h
/-- an order that was read -/
def zod (o x y : Int32) : Prop := (o = 108 ∧ zix x 8) ∨ (o = 99 ∧ zix x 8 ∧ znn y 1 20) ∨ (o = 115 ∧ zix x 8 ∧ znn y 1 20) ∨ (o = 104 ∧ zix x 8 ∧ znn y 0 60) ∨ (o = 116 ∧ znn x 0 30 ∧ znn y 31 60) ∨ (o = 119 ∧ znn y 1 99)
def zRo (a ln : Nat) (R : Int32 × Nat × Int32 × Int32 × Int32) : Prop := (a ≤ R.2.1 ∧ R.2.1 ≤ ln) ∧ (R.1 = 0 ∨ R.1 = 1) ∧ (¬ R.1 = 0 → a < R.2.1 ∧ zod R.2.2.1 R.2.2.2.1 R.2.2.2.2)
theorem zf_isOrder_b (hl : ln ≤ 60) (la : a ≤ ln) : zRo a ln (zf_isOrder no ln a o x y) := by
  unfold zf_isOrder
  have hF : ∀ b o x y, a ≤ b → b ≤ ln → zRo a ln (0, b, o, x, y) := fun b o x y h1 h2 => ⟨⟨h1, h2⟩, Or.inl rfl, fun h => absurd rfl h⟩
  have hT : ∀ b o x y, a < b → b ≤ ln → zod o x y → zRo a ln (1, b, o, x, y) := fun b o x y h1 h2 h3 => ⟨⟨by show a ≤ b; omega, h2⟩, Or.inr rfl, fun _ => ⟨h1, h3⟩⟩
  have hpl : a < ln → a + 1 ≤ zna_isPlace no ln (a + 1) ∧ zna_isPlace no ln (a + 1) ≤ ln := fun h => zf_isPlace_b hl (by omega)
  have hsg : ∀ b c, a < b → b ≤ ln → a < zna_isSign no ln b c ∧ zna_isSign no ln b c ≤ ln := fun b c h1 h2 => by have := zf_isSign_b (no := no) (c := c) hl h2; omega
  generalize ho : (if (nI ln) ≤ (nI a) then (0 : Int32) else (no a)) = oo
  -- an order with a place and a number at it
  have hat : ∀ (L Mx : Nat) (l m : Int32), a < ln → l = nI L → m = nI Mx → Mx < 100 → L ≤ Mx → (∀ x y, zix x 8 → znn y L Mx → zod oo x y) →
      zRo a ln (if zf_isPlace no ln (a + 1) then (if zf_isSign no ln (zna_isPlace no ln (a + 1)) 64 then (if ((zf_isNumber no ln (zna_isSign no ln (zna_isPlace no ln (a + 1)) 64) oo (znx_isPlace no ln (a + 1)) y l m).1) = 0 then ((0 : Int32), ((zf_isNumber no ln (zna_isSign no ln (zna_isPlace no ln (a + 1)) 64) oo (znx_isPlace no ln (a + 1)) y l m).2.1), ((zf_isNumber no ln (zna_isSign no ln (zna_isPlace no ln (a + 1)) 64) oo (znx_isPlace no ln (a + 1)) y l m).2.2.1), ((zf_isNumber no ln (zna_isSign no ln (zna_isPlace no ln (a + 1)) 64) oo (znx_isPlace no ln (a + 1)) y l m).2.2.2.1), ((zf_isNumber no ln (zna_isSign no ln (zna_isPlace no ln (a + 1)) 64) oo (znx_isPlace no ln (a + 1)) y l m).2.2.2.2)) else ((1 : Int32), ((zf_isNumber no ln (zna_isSign no ln (zna_isPlace no ln (a + 1)) 64) oo (znx_isPlace no ln (a + 1)) y l m).2.1), ((zf_isNumber no ln (zna_isSign no ln (zna_isPlace no ln (a + 1)) 64) oo (znx_isPlace no ln (a + 1)) y l m).2.2.1), ((zf_isNumber no ln (zna_isSign no ln (zna_isPlace no ln (a + 1)) 64) oo (znx_isPlace no ln (a + 1)) y l m).2.2.2.1), ((zf_isNumber no ln (zna_isSign no ln (zna_isPlace no ln (a + 1)) 64) oo (znx_isPlace no ln (a + 1)) y l m).2.2.2.2))) else ((0 : Int32), (zna_isSign no ln (zna_isPlace no ln (a + 1)) 64), oo, (znx_isPlace no ln (a + 1)), y)) else ((0 : Int32), (zna_isPlace no ln (a + 1)), oo, (znx_isPlace no ln (a + 1)), y)) := by
    intro L Mx l m hlt el em lM lL hz
    have h1 := hpl hlt
    have h2 := hsg (zna_isPlace no ln (a + 1)) 64 (by omega) h1.2
    have h3 := zf_isNumber_b (no := no) (o := oo) (x := znx_isPlace no ln (a + 1)) (y := y) (l := l) (m := m) hl h2.2
    have h4 := @zf_isNumber_v no ln (zna_isSign no ln (zna_isPlace no ln (a + 1)) 64) oo (znx_isPlace no ln (a + 1)) y l m L Mx el em lM lL
    generalize zf_isNumber no ln (zna_isSign no ln (zna_isPlace no ln (a + 1)) 64) oo (znx_isPlace no ln (a + 1)) y l m = R at h3 h4 ⊢
    by_cases c1 : zf_isPlace no ln (a + 1)
    · rw [if_pos c1]
      by_cases c2 : zf_isSign no ln (zna_isPlace no ln (a + 1)) 64
      · rw [if_pos c2]
        by_cases c3 : R.1 = 0
        · rw [if_pos c3]; exact hF _ _ _ _ (by omega) h3.1.2
        · rw [if_neg c3]
          refine hT _ _ _ _ (by omega) h3.1.2 ?_
          rw [h3.2.2.1, h3.2.2.2]
          exact hz _ _ (zf_isPlace_d c1) (h4 c3)
      · rw [if_neg c2]; exact hF _ _ _ _ (by omega) h2.2
    · rw [if_neg c1]; exact hF _ _ _ _ (by omega) h1.2
  have hlt : ∀ c, oo = c → ¬ (0 : Int32) = c → a < ln := fun c h1 h2 => zord_lt (ho.trans h1) h2 la hl
  by_cases c1 : oo = 99
  · rw [if_pos c1]
    exact hat 1 20 1 20 (hlt _ c1 (by decide)) rfl rfl (by decide) (by decide) (fun x y hx hy => Or.inr (Or.inl ⟨c1, hx, hy⟩))
  rw [if_neg c1]
  by_cases c2 : oo = 104
  · rw [if_pos c2]
    exact hat 0 60 0 60 (hlt _ c2 (by decide)) rfl rfl (by decide) (by decide) (fun x y hx hy => Or.inr (Or.inr (Or.inr (Or.inl ⟨c2, hx, hy⟩))))
  rw [if_neg c2]
  by_cases c3 : oo = 108
  · rw [if_pos c3]
    have h1 := hpl (hlt _ c3 (by decide))
    by_cases q : zf_isPlace no ln (a + 1)
    · rw [if_pos q]; exact hT _ _ _ _ (by omega) h1.2 (Or.inl ⟨c3, zf_isPlace_d q⟩)
    · rw [if_neg q]; exact hF _ _ _ _ (by omega) h1.2
  rw [if_neg c3]
  by_cases c4 : oo = 115
  · rw [if_pos c4]
    exact hat 1 20 1 20 (hlt _ c4 (by decide)) rfl rfl (by decide) (by decide) (fun x y hx hy => Or.inr (Or.inr (Or.inl ⟨c4, hx, hy⟩)))
  rw [if_neg c4]
  by_cases c5 : oo = 116
  · rw [if_pos c5]
    have l1 := hlt _ c5 (by decide)
    have h3 := zf_isNumber_b (no := no) (o := oo) (x := x) (y := y) (l := 0) (m := 30) hl (a := a + 1) (by omega)
    have h4 := @zf_isNumber_v no ln (a + 1) oo x y 0 30 0 30 rfl rfl (by decide) (by decide)
    generalize zf_isNumber no ln (a + 1) oo x y 0 30 = R at h3 h4 ⊢
    by_cases q1 : R.1 = 0
    · rw [if_pos q1]; exact hF _ _ _ _ (by omega) h3.1.2
    · rw [if_neg q1]
      have h2 := hsg R.2.1 45 (by omega) h3.1.2
      by_cases q2 : zf_isSign no ln R.2.1 45
      · rw [if_pos q2]
        have h5 := zf_isNumber_b (no := no) (o := R.2.2.1) (x := R.2.2.2.2) (y := R.2.2.2.2) (l := 31) (m := 60) hl h2.2
        have h6 := @zf_isNumber_v no ln (zna_isSign no ln R.2.1 45) R.2.2.1 R.2.2.2.2 R.2.2.2.2 31 60 31 60 rfl rfl (by decide) (by decide)
        generalize zf_isNumber no ln (zna_isSign no ln R.2.1 45) R.2.2.1 R.2.2.2.2 R.2.2.2.2 31 60 = R2 at h5 h6 ⊢
        by_cases q3 : R2.1 = 0
        · rw [if_pos q3]; exact hF _ _ _ _ (by omega) h5.1.2
        · rw [if_neg q3]
          refine hT _ _ _ _ (by omega) h5.1.2 ?_
          rw [h5.2.2.1, h5.2.2.2, h3.2.2.2]
          exact Or.inr (Or.inr (Or.inr (Or.inr (Or.inl ⟨c5, h4 q1, h6 q3⟩))))
      · rw [if_neg q2]; exact hF _ _ _ _ (by omega) h2.2
  rw [if_neg c5]
  by_cases c6 : oo = 119
  · rw [if_pos c6]
    have l1 := hlt _ c6 (by decide)
    have h3 := zf_isNumber_b (no := no) (o := oo) (x := x) (y := y) (l := 1) (m := 99) hl (a := a + 1) (by omega)
    have h4 := @zf_isNumber_v no ln (a + 1) oo x y 1 99 1 99 rfl rfl (by decide) (by decide)
    generalize zf_isNumber no ln (a + 1) oo x y 1 99 = R at h3 h4 ⊢
    refine ⟨⟨by show a ≤ R.2.1; omega, h3.1.2⟩, h3.2.1, fun q => ⟨by show a < R.2.1; omega, ?_⟩⟩
    show zod R.2.2.1 R.2.2.2.1 R.2.2.2.2
    rw [h3.2.2.2]
    exact Or.inr (Or.inr (Or.inr (Or.inr (Or.inr ⟨c6, h4 q⟩))))
  rw [if_neg c6]
  exact hF _ _ _ _ (Nat.le_refl a) la
end
def zb_error (no : Nat → Int32) (ln : Nat) : Nat → Nat → Int32 → Int32 → Int32 → Int32 × Nat × Int32 × Int32 × Int32
  | 0, a, o, x, y => (0, a, o, x, y)
  | j + 1, a, o, x, y => if ((zf_isOrder no ln a o x y).1) = 0 then ((nI ((zf_isOrder no ln a o x y).2.1)), ((zf_isOrder no ln a o x y).2.1), ((zf_isOrder no ln a o x y).2.2.1), ((zf_isOrder no ln a o x y).2.2.2.1), ((zf_isOrder no ln a o x y).2.2.2.2)) else (if (nI ((zf_isOrder no ln a o x y).2.1)) = (nI ln) then ((-1), ((zf_isOrder no ln a o x y).2.1), ((zf_isOrder no ln a o x y).2.2.1), ((zf_isOrder no ln a o x y).2.2.2.1), ((zf_isOrder no ln a o x y).2.2.2.2)) else (if zf_isSign no ln ((zf_isOrder no ln a o x y).2.1) 59 then (zb_error no ln j (zna_isSign no ln ((zf_isOrder no ln a o x y).2.1) 59) ((zf_isOrder no ln a o x y).2.2.1) ((zf_isOrder no ln a o x y).2.2.2.1) ((zf_isOrder no ln a o x y).2.2.2.2)) else ((nI (zna_isSign no ln ((zf_isOrder no ln a o x y).2.1) 59)), (zna_isSign no ln ((zf_isOrder no ln a o x y).2.1) 59), ((zf_isOrder no ln a o x y).2.2.1), ((zf_isOrder no ln a o x y).2.2.2.1), ((zf_isOrder no ln a o x y).2.2.2.2))))
set_option maxHeartbeats 4000000 in
theorem l_error {G : zE} {A : Nat → Nat} (hA : zinj A 5) {s pa ke no f : Nat → Int32} {h0 : zH} {ln : Nat} (h6 : f 6 = nI ln) (hl : ln ≤ 60) {d k n : Nat} (hd : 5 ≤ d) : ∀ (j a : Nat) (o x y : Int32), a ≤ ln → ln < a + j → zV G fX3_error d 5 [some (.ref (A 0))] [] (mdl G A s pa ke no (zrd f a o x y) h0) k n (zA (.int (zb_error no ln j a o x y).1) (mdl G A s pa ke no (zrd f (zb_error no ln j a o x y).2.1 (zb_error no ln j a o x y).2.2.1 (zb_error no ln j a o x y).2.2.2.1 (zb_error no ln j a o x y).2.2.2.2) h0)) nX := by
  intro j
  induction j with
  | zero => intro a o x y la hj; exact absurd hj (by omega)
  | succ j ih =>
    intro a o x y la hj
    refine z_aload_n dX3_error_5 rfl ?_
    have lb_1 := zf_isOrder_b (no := no) (o := o) (x := x) (y := y) hl (a := a) (by omega)
    have lb_2 := lb_1.1
    refine z_cV zc7 mX3_isOrder (k_isOrder (d := d - 1) hA h6 hl (a := a) (by omega) (by omega)) dX3_error_6 q1977 (by omega) rfl (Nat.le_of_ble_eq_true rfl) rfl mdl_0 rfl ?_
    refine z_if_eq (tgt := 39) dX3_error_9 (by decide) (fun c_3 => ?_) (fun c_3 => ?_)
    ·
      refine z_aload_n dX3_error_39 rfl ?_
      refine zm_get 8 (v := .int (nI ((zf_isOrder no ln a o x y).2.1))) dX3_error_40 q1750 rfl rfl ?_
      refine z_ret dX3_error_43 rfl rfl ⟨by simp only [zb_error, if_pos c_3], by simp only [zb_error, if_pos c_3]⟩
    ·
      refine z_aload_n dX3_error_12 rfl ?_
      refine zm_get 8 (v := .int (nI ((zf_isOrder no ln a o x y).2.1))) dX3_error_13 q1750 rfl rfl ?_
      refine z_aload_n dX3_error_16 rfl ?_
      refine zm_get 6 (v := .int (nI ln)) dX3_error_17 q1748 rfl (congrArg (fun z => some (Value.int z)) h6) ?_
      refine z_icmp_ne (tgt := 25) dX3_error_20 (by decide) (fun c_4 => ?_) (fun c_4 => ?_)
      ·
        refine z_aload_n dX3_error_25 rfl ?_
        refine z_bipush dX3_error_26 (v := 59) rfl ?_
        have lb_5 := zf_isSign_b (no := no) (c := 59) hl (a := (zf_isOrder no ln a o x y).2.1) (by omega)
        refine z_cV zc7 mX3_isSign (k_isSign (d := d - 1) hA h6 hl (a := (zf_isOrder no ln a o x y).2.1) (by omega) (by omega)) dX3_error_28 q1985 (by omega) rfl (Nat.le_of_ble_eq_true rfl) rfl mdl_0 rfl ?_
        refine z_ifB_ne (tgt := 5) dX3_error_31 (by decide) (fun c_6 => ?_) (fun c_6 => ?_)
        ·
          have lb_7 := (lb_1.2.2 c_3).1
          have lb_8 := zf_isSign_b (no := no) (c := 59) hl (a := (zf_isOrder no ln a o x y).2.1) (by omega)
          have h9 := ih (zna_isSign no ln ((zf_isOrder no ln a o x y).2.1) 59) ((zf_isOrder no ln a o x y).2.2.1) ((zf_isOrder no ln a o x y).2.2.2.1) ((zf_isOrder no ln a o x y).2.2.2.2) (by omega) (by omega)
          simp only [zb_error, if_neg c_3, if_neg c_4, if_pos c_6]
          exact h9
        ·
          refine z_aload_n dX3_error_34 rfl ?_
          refine zm_get 8 (v := .int (nI (zna_isSign no ln ((zf_isOrder no ln a o x y).2.1) 59))) dX3_error_35 q1750 rfl rfl ?_
          refine z_ret dX3_error_38 rfl rfl ⟨by simp only [zb_error, if_neg c_3, if_neg c_4, if_neg c_6], by simp only [zb_error, if_neg c_3, if_neg c_4, if_neg c_6]⟩
      ·
        refine z_iconst dX3_error_23 (v := (-1)) rfl ?_
        refine z_ret dX3_error_24 rfl rfl ⟨by simp only [zb_error, if_neg c_3, if_pos c_4], by simp only [zb_error, if_neg c_3, if_pos c_4]⟩
/-- the reader behind error, from the reader before -/
def zf_error (no : Nat → Int32) (ln : Nat) (f : Nat → Int32) : Int32 × Nat × Int32 × Int32 × Int32 := zb_error no ln (ln + 1) 0 (f 9) (f 10) (f 11)
set_option maxHeartbeats 4000000 in
theorem k_error {G : zE} {A : Nat → Nat} (hA : zinj A 5) {s pa ke no f : Nat → Int32} {h0 : zH} {ln : Nat} (h6 : f 6 = nI ln) (hl : ln ≤ 60) {d : Nat} (hd : 5 ≤ d) : zCon G fX3_error d 0 0 [.ref (A 0)] (mdl G A s pa ke no f h0) (zA (.int (zf_error no ln f).1) (mdl G A s pa ke no (zrd f (zf_error no ln f).2.1 (zf_error no ln f).2.2.1 (zf_error no ln f).2.2.2.1 (zf_error no ln f).2.2.2.2) h0)) nX := by
  refine zCon.of9 (L := [some (.ref (A 0))]) (by simp [Value.category]) (Nat.le_of_ble_eq_true rfl) pX3 rfl rfl ?_
  refine z_aload_n dX3_error_0 rfl ?_
  refine z_iconst dX3_error_1 (v := 0) rfl ?_
  refine zm_put 8 dX3_error_2 q1750 rfl rfl rfl rfl rfl ?_
  have e0 := zrd_0 (f := f)
  rw [e0]
  exact l_error hA h6 hl (by omega) (ln + 1) 0 (f 9) (f 10) (f 11) (by omega) (by omega)
set_option maxHeartbeats 4000000 in
theorem k_noteError {G : zE} {A : Nat → Nat} (hA : zinj A 5) {s pa ke no f : Nat → Int32} {h0 : zH} {ln : Nat} (h6 : f 6 = nI ln) (hl : ln ≤ 60) {d : Nat} (hd : 6 ≤ d) : zCon G fX3_noteError d 0 0 [.ref (A 0)] (mdl G A s pa ke no f h0) (zA (.int (zf_error no ln (upd f 7 0)).1) (mdl G A s pa ke no (zrd (upd f 7 0) (zf_error no ln (upd f 7 0)).2.1 (zf_error no ln (upd f 7 0)).2.2.1 (zf_error no ln (upd f 7 0)).2.2.2.1 (zf_error no ln (upd f 7 0)).2.2.2.2) h0)) nX := by
  refine zCon.of9 (L := [some (.ref (A 0))]) (by simp [Value.category]) (Nat.le_of_ble_eq_true rfl) pX3 rfl rfl ?_
  refine z_aload_n dX3_noteError_0 rfl ?_
  refine z_iconst dX3_noteError_1 (v := 0) rfl ?_
  refine zm_put 7 dX3_noteError_2 q1749 rfl rfl rfl rfl rfl ?_
  refine z_aload_n dX3_noteError_5 rfl ?_
  refine z_cV zc7 mX3_error (k_error (d := d - 1) hA (f := upd f 7 0) ((upd_n (by decide)).trans h6) hl (by omega)) dX3_noteError_6 q1973 (by omega) rfl (Nat.le_of_ble_eq_true rfl) rfl mdl_0 rfl ?_
  refine z_ret dX3_noteError_9 rfl rfl ⟨rfl, rfl⟩
