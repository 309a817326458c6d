/-! THE REFERENCE's cells: mdl; its row of numbers s as two rows side by side (zput) -/
set_option maxRecDepth 100000
def zmf (A : Nat → Nat) (f : Nat → Int32) : List Value := [.ref (A 1), .ref (A 2), .int (f 2), .ref (A 3), .int (f 4), .ref (A 4), .int (f 6), .int (f 7), .int (f 8), .int (f 9), .int (f 10), .int (f 11), .int (f 12)]
def mdl (G : zE) (A : Nat → Nat) (s pa ke no f : Nat → Int32) (h0 : zH) : zH := fun q => if q = A 0 then some (zO 7 (zmf A f)) else if q = A 1 then some (zI G 574 s) else if q = A 2 then some (zI G 1148 pa) else if q = A 3 then some (zI G 287 ke) else if q = A 4 then some (zI G 60 no) else h0 q
def zinj (A : Nat → Nat) (n : Nat) : Prop := ∀ i j, i < n → j < n → A i = A j → i = j
theorem zinj.ne {A : Nat → Nat} {n : Nat} (h : zinj A n) (i j : Nat) (hi : decide (i < n) = true) (hj : decide (j < n) = true) (hij : decide (i ≠ j) = true) : A i ≠ A j := fun e => (of_decide_eq_true hij) (h i j (of_decide_eq_true hi) (of_decide_eq_true hj) e)
def zput (P : Nat) (σ s : Nat → Int32) : Nat → Int32 := fun q => if P ≤ q ∧ q < P + 287 then σ (q - P) else s q
theorem zput_at {P j : Nat} {σ s : Nat → Int32} (hj : j < 287) : zput P σ s (P + j) = σ j := by
  unfold zput
  rw [if_pos ⟨by omega, by omega⟩, Nat.add_sub_cancel_left]
theorem zput_up {P j : Nat} {σ s : Nat → Int32} {x : Int32} (hj : j < 287) : upd (zput P σ s) (P + j) x = zput P (upd σ j x) s := by
  funext q
  simp only [upd, zput]
  by_cases h1 : q = P + j
  · subst h1
    rw [if_pos rfl, if_pos ⟨by omega, by omega⟩, if_pos (by omega)]
  · rw [if_neg h1]
    by_cases h2 : P ≤ q ∧ q < P + 287
    · rw [if_pos h2, if_pos h2, if_neg (by omega)]
    · rw [if_neg h2, if_neg h2]
section Mdl
variable {G : zE} {A : Nat → Nat} {s pa ke no f : Nat → Int32} {h0 : zH}
theorem mdl_0 : mdl G A s pa ke no f h0 (A 0) = some (zO 7 (zmf A f)) := if_pos rfl
theorem mdl_1 (hA : zinj A 5) : mdl G A s pa ke no f h0 (A 1) = some (zI G 574 s) := by
  unfold mdl
  rw [if_neg (hA.ne 1 0 rfl rfl rfl), if_pos rfl]
theorem mdl_2 (hA : zinj A 5) : mdl G A s pa ke no f h0 (A 2) = some (zI G 1148 pa) := by
  unfold mdl
  rw [if_neg (hA.ne 2 0 rfl rfl rfl), if_neg (hA.ne 2 1 rfl rfl rfl), if_pos rfl]
theorem mdl_3 (hA : zinj A 5) : mdl G A s pa ke no f h0 (A 3) = some (zI G 287 ke) := by
  unfold mdl
  rw [if_neg (hA.ne 3 0 rfl rfl rfl), if_neg (hA.ne 3 1 rfl rfl rfl), if_neg (hA.ne 3 2 rfl rfl rfl), if_pos rfl]
theorem mdl_4 (hA : zinj A 5) : mdl G A s pa ke no f h0 (A 4) = some (zI G 60 no) := by
  unfold mdl
  rw [if_neg (hA.ne 4 0 rfl rfl rfl), if_neg (hA.ne 4 1 rfl rfl rfl), if_neg (hA.ne 4 2 rfl rfl rfl), if_neg (hA.ne 4 3 rfl rfl rfl), if_pos rfl]
theorem mdl_w0 {f' : Nat → Int32} : zup (mdl G A s pa ke no f h0) (A 0) (zO 7 (zmf A f')) = mdl G A s pa ke no f' h0 := by
  funext q
  simp only [zup, mdl]
  by_cases h : q = A 0
  · rw [if_pos h, if_pos h]
  · rw [if_neg h, if_neg h, if_neg h]
theorem mdl_w1 (hA : zinj A 5) {s' : Nat → Int32} : zup (mdl G A s pa ke no f h0) (A 1) (zI G 574 s') = mdl G A s' pa ke no f h0 := by
  funext q
  simp only [zup, mdl]
  by_cases h : q = A 1
  · subst h
    rw [if_pos rfl, if_neg (hA.ne 1 0 rfl rfl rfl), if_pos rfl]
  · rw [if_neg h, if_neg h, if_neg h]
theorem mdl_w2 (hA : zinj A 5) {s' : Nat → Int32} : zup (mdl G A s pa ke no f h0) (A 2) (zI G 1148 s') = mdl G A s s' ke no f h0 := by
  funext q
  simp only [zup, mdl]
  by_cases h : q = A 2
  · subst h
    rw [if_pos rfl, if_neg (hA.ne 2 0 rfl rfl rfl), if_neg (hA.ne 2 1 rfl rfl rfl), if_pos rfl]
  · rw [if_neg h, if_neg h, if_neg h]
theorem mdl_w3 (hA : zinj A 5) {s' : Nat → Int32} : zup (mdl G A s pa ke no f h0) (A 3) (zI G 287 s') = mdl G A s pa s' no f h0 := by
  funext q
  simp only [zup, mdl]
  by_cases h : q = A 3
  · subst h
    rw [if_pos rfl, if_neg (hA.ne 3 0 rfl rfl rfl), if_neg (hA.ne 3 1 rfl rfl rfl), if_neg (hA.ne 3 2 rfl rfl rfl), if_pos rfl]
  · rw [if_neg h, if_neg h, if_neg h]
theorem mdl_w4 (hA : zinj A 5) {s' : Nat → Int32} : zup (mdl G A s pa ke no f h0) (A 4) (zI G 60 s') = mdl G A s pa ke s' f h0 := by
  funext q
  simp only [zup, mdl]
  by_cases h : q = A 4
  · subst h
    rw [if_pos rfl, if_neg (hA.ne 4 0 rfl rfl rfl), if_neg (hA.ne 4 1 rfl rfl rfl), if_neg (hA.ne 4 2 rfl rfl rfl), if_neg (hA.ne 4 3 rfl rfl rfl), if_pos rfl]
  · rw [if_neg h, if_neg h, if_neg h]
variable {F : zF} {d pc k n : Nat} {L : List (Option Value)} {st : List Value} {Q : Option Value → zH → Prop} {X : String → zH → Prop} {P : Nat} {σ : Nat → Int32}
/-- a field of the reference's object -/
theorem zm_get (kf : Nat) {v : Value} {index : Nat} (dd : decode F.2.1 pc = .ok (.getfield index, 3)) (hlink : Cond.fieldLink F.1.cls index (TX3 kf).1 (TX3 kf).2.1 (TX3 kf).2.2.1 ∈ lw_all) (hk : decide (kf < 13) = true) (hv : (zmf A f)[kf]? = some v)
    (kk : zV G F d (pc + 3) L (v :: st) (mdl G A s pa ke no f h0) k n Q X) : zV G F d pc L (.ref (A 0) :: st) (mdl G A s pa ke no f h0) k n Q X := z_getf zc7 kf dd hlink (of_decide_eq_true hk) mdl_0 hv kk
/-- an int field is written -/
theorem zm_put (kf : Nat) {x : Int32} {index : Nat} (dd : decode F.2.1 pc = .ok (.putfield index, 3)) (hlink : Cond.fieldLink F.1.cls index (TX3 kf).1 (TX3 kf).2.1 (TX3 kf).2.2.1 ∈ lw_all) (hk : decide (kf < 13) = true) (hfin : (TX3 kf).2.2.2 = false) (hn : narrow (tyX3 kf) (.int x) = .int x) (hfit : fits (tyX3 kf) (.int x) = true) (hs : (zmf A f).set kf (.int x) = zmf A (upd f kf x))
    (kk : zV G F d (pc + 3) L st (mdl G A s pa ke no (upd f kf x) h0) k n Q X) : zV G F d pc L (.int x :: .ref (A 0) :: st) (mdl G A s pa ke no f h0) k n Q X := by
  refine z_putf zc7 kf dd hlink (of_decide_eq_true hk) hfin hn hfit mdl_0 (of_decide_eq_true hk) ?_
  rw [hs]
  have e9 : zup (mdl G A s pa ke no f h0) (A 0) (.inr (7, zmf A (upd f kf x))) = _ := mdl_w0
  rw [e9]
  exact kk
/-- a number of the row at P -/
theorem zm_ld (hA : zinj A 5) (hP : P ≤ 287) (j : Nat) {i : Int32} {v : Int32} (dd : decode F.2.1 pc = .ok (.iaload, 1)) (hi : i = nI (P + j)) (hj : j < 287) (hv : σ j = v)
    (kk : zV G F d (pc + 1) L (.int v :: st) (mdl G A (zput P σ s) pa ke no f h0) k n Q X) : zV G F d pc L (.int i :: .ref (A 1) :: st) (mdl G A (zput P σ s) pa ke no f h0) k n Q X := by
  refine z_iald dd (mdl_1 hA) hi (by omega) (by omega) ?_
  rw [zput_at hj, hv]
  exact kk
theorem zm_st (hA : zinj A 5) (hP : P ≤ 287) (j : Nat) {i x : Int32} (dd : decode F.2.1 pc = .ok (.iastore, 1)) (hi : i = nI (P + j)) (hj : j < 287)
    (kk : zV G F d (pc + 1) L st (mdl G A (zput P (upd σ j x) s) pa ke no f h0) k n Q X) : zV G F d pc L (.int x :: .int i :: .ref (A 1) :: st) (mdl G A (zput P σ s) pa ke no f h0) k n Q X := by
  refine z_iast dd (mdl_1 hA) hi (by omega) (by omega) ?_
  rw [zput_up hj, mdl_w1 hA]
  exact kk
end Mdl
