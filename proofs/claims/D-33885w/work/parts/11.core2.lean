/-! THE LOGIC zV, part 2: cells, calls, exceptions -/
set_option maxRecDepth 100000
abbrev zI (G : zE) (N : Nat) (f : Nat → Int32) : va_E := .inl (G.2.1 1, N, .inl f)
abbrev zY (G : zE) (N : Nat) (f : Nat → Int32) : va_E := .inl (G.2.1 2, N, .inl f)
abbrev zJ (G : zE) (N : Nat) (f : Nat → Int64) : va_E := .inl (G.2.1 3, N, .inr (.inl f))
abbrev zR (G : zE) (N : Nat) (f : Nat → Option Nat) : va_E := .inl (G.2.1 4, N, .inr (.inr (.inr (.inr f))))
abbrev zO (ci : Nat) (fs : List Value) : va_E := .inr (ci, fs)
def zup (h : zH) (a : Nat) (e : va_E) : zH := fun q => if q = a then some e else h q
theorem zup_s {h : zH} {a : Nat} {e : va_E} : zup h a e a = some e := if_pos rfl
theorem zup_n {h : zH} {a b : Nat} {e : va_E} (hb : b ≠ a) : zup h a e b = h b := if_neg hb
theorem zSub.put {h : zH} {ws : va_W} {q0 a : Nat} {e e' : va_E} (hs : zSub h ws) (hq : ws[q0]? = some (a, e)) : zSub (zup h a e') (ws.set q0 (a, e')) := by
  intro b x hb
  by_cases hba : b = a
  · subst hba
    rw [zup_s] at hb
    cases hb
    exact ⟨q0, by rw [List.getElem?_set, if_pos rfl, if_pos (List.getElem?_eq_some_iff.mp hq).1]⟩
  · rw [zup_n hba] at hb
    obtain ⟨i, hi⟩ := hs b x hb
    refine ⟨i, ?_⟩
    by_cases hiq : q0 = i
    · subst hiq
      rw [hq] at hi
      exact absurd (Prod.mk.inj (Option.some.inj hi)).1.symm hba
    · rw [List.getElem?_set_ne hiq]
      exact hi
theorem zSub.new {h : zH} {ws : va_W} {q : Nat} {e : va_E} (hs : zSub h ws) : zSub (zup h q e) (ws ++ [(q, e)]) := by
  intro b x hb
  by_cases hbq : b = q
  · subst hbq
    rw [zup_s] at hb
    cases hb
    exact ⟨ws.length, by simp⟩
  · rw [zup_n hbq] at hb
    obtain ⟨i, hi⟩ := hs b x hb
    exact ⟨i, by rw [List.getElem?_append_left (List.getElem?_eq_some_iff.mp hi).1]; exact hi⟩
theorem zSub.fresh {h : zH} {ws : va_W} {A : Nat → Prop} {q : Nat} {e : va_E} (hs : zSub h ws) (hD : va_D A (ws ++ [(q, e)])) : h q = none ∧ A q := by
  refine ⟨?_, hD.2 ws.length (q, e) (by simp)⟩
  cases hq : h q with
  | none => rfl
  | some x =>
    obtain ⟨i, hi⟩ := hs q x hq
    have hl := (List.getElem?_eq_some_iff.mp hi).1
    have h2 := hD.1 i ws.length (q, x) (q, e) (by rw [List.getElem?_append_left hl]; exact hi) (by simp) rfl
    omega
/-- a class of the table: its place, its fields' words, types, names -/
def zCF (ci : Nat) (q : vw_C) (ty : Nat → FieldType) : Prop := zcl[ci]? = some q ∧ (∀ w ∈ u_ws q.1 q.2.1 q.2.2, w ∈ lw_all) ∧ (∀ k, k < q.2.2 → parseFieldDescriptor (q.2.1 k).2.2.1 = some (ty k)) ∧ ∀ a, a < q.2.2 → ∀ b, b < q.2.2 → a ≠ b → (q.2.1 a).2.1 ≠ (q.2.1 b).2.1
theorem zc0 : zCF 0 (RX1, TX1, 7) tyX1 := ⟨rfl, in_X1, tyX1_ok, nmX1⟩
theorem zc1 : zCF 1 (RX2, TX2, 14) tyX2 := ⟨rfl, in_X2, tyX2_ok, nmX2⟩
theorem zc2 : zCF 2 (RX4, TX4, 2) tyX4 := ⟨rfl, in_X4, tyX4_ok, nmX4⟩
theorem zc3 : zCF 3 (RX5, TX5, 5) tyX5 := ⟨rfl, in_X5, tyX5_ok, nmX5⟩
theorem zc4 : zCF 4 (RX6, TX6, 3) tyX6 := ⟨rfl, in_X6, tyX6_ok, nmX6⟩
theorem zc5 : zCF 5 (RX7, TX7, 5) tyX7 := ⟨rfl, in_X7, tyX7_ok, nmX7⟩
theorem zc6 : zCF 6 (RX9, TX9, 5) tyX9 := ⟨rfl, in_X9, tyX9_ok, nmX9⟩
theorem zc7 : zCF 7 (RX3, TX3, 13) tyX3 := ⟨rfl, in_X3, tyX3_ok, nmX3⟩
theorem zc8 : zCF 8 (RJ2, TJ2, 3) tyJ2 := ⟨rfl, in_J2, tyJ2_ok, nmJ2⟩
theorem zc9 : zCF 9 (RJ4, TJ4, 4) tyJ4 := ⟨rfl, in_J4, tyJ4_ok, nmJ4⟩
theorem zc10 : zCF 10 (RJ5, TJ5, 4) tyJ5 := ⟨rfl, in_J5, tyJ5_ok, nmJ5⟩
theorem z_inN {i : Int32} {j N : Nat} (hi : i = nI j) (hj : j < N) (hN : N < 2 ^ 31) : vp_in i N ∧ i.toNatClampNeg = j := by
  subst hi
  exact ⟨vp_in_nI hj hN, nI_clamp (by omega)⟩
theorem z_cb {N : Nat} (ty : FieldType) (ht : decide (componentBytes ty ≤ 8) = true) (hN : N < 2 ^ 20) : N * componentBytes ty ≤ 536870912 :=
  Nat.le_trans (Nat.mul_le_mul_left N (of_decide_eq_true ht)) (by omega)
section Rows
variable {G : zE} {F : zF} {d pc k n : Nat} {L : List (Option Value)} {st : List Value} {h : zH} {Q : Option Value → zH → Prop} {X : String → zH → Prop} {a : Nat}
theorem z_getf {ci : Nat} {q : vw_C} {ty : Nat → FieldType} (cf : zCF ci q ty) (kf : Nat) {index : Nat} {fs : List Value} {v : Value} (dd : decode F.2.1 pc = .ok (.getfield index, 3)) (hlink : Cond.fieldLink F.1.cls index (q.2.1 kf).1 (q.2.1 kf).2.1 (q.2.1 kf).2.2.1 ∈ lw_all) (hk : kf < q.2.2) (ha : h a = some (.inr (ci, fs))) (hv : fs[kf]? = some v)
    (kk : zV G F d (pc + 3) L (v :: st) h k n Q X) : zV G F d pc L (.ref a :: st) h k n Q X := by
  intro p l e R s m args below meth c H locs cells slots ls ec es C h1 h2 hW hS hL
  have hW0 := hW
  obtain ⟨ws, hP, hD, hs⟩ := hW
  obtain ⟨i, hi⟩ := hs _ _ ha
  exact va_get C.2.1 C.2.2.1 (C := q.1) (T := q.2.1) (N := q.2.2) C.2.2.2.2.2.2.2.2.2.1 cf.2.1 C.2.2.2.2.2.2.1 C.2.2.2.2.2.2.2.2.2.2.1.1 hP i hi cf.1 kf hk (C.2.2.2.2.2.2.2.2.2.1 _ hlink) (fun x hx => hx) hv dd (kk p l e R s m args below meth c H locs cells slots ls ec es C h1 h2 hW0 hS hL)
/-- a field that the class inherits, named through the class itself -/
theorem z_getfS {ref : String} {ci : Nat} {q : vw_C} {ty : Nat → FieldType} (cf : zCF ci q ty) (kf : Nat) {index : Nat} {fs : List Value} {v : Value} (dd : decode F.2.1 pc = .ok (.getfield index, 3)) (hlink : Cond.fieldLink F.1.cls index ref (q.2.1 kf).2.1 (q.2.1 kf).2.2.1 ∈ lw_all) (hsame : Cond.sameField ref (q.2.1 kf).1 (q.2.1 kf).2.1 (q.2.1 kf).2.2.1 ∈ lw_all) (hk : kf < q.2.2) (ha : h a = some (.inr (ci, fs))) (hv : fs[kf]? = some v)
    (kk : zV G F d (pc + 3) L (v :: st) h k n Q X) : zV G F d pc L (.ref a :: st) h k n Q X := by
  intro p l e R s m args below meth c H locs cells slots ls ec es C h1 h2 hW hS hL
  have hW0 := hW
  obtain ⟨ws, hP, hD, hs⟩ := hW
  obtain ⟨i, hi⟩ := hs _ _ ha
  exact va_get C.2.1 C.2.2.1 (C := q.1) (T := q.2.1) (N := q.2.2) C.2.2.2.2.2.2.2.2.2.1 cf.2.1 C.2.2.2.2.2.2.1 C.2.2.2.2.2.2.2.2.2.2.1.1 hP i hi cf.1 kf hk (C.2.2.2.2.2.2.2.2.2.1 _ hlink) (fun x hx => u_same (C.2.2.2.2.2.2.2.2.2.1 _ hsame) x hx) hv dd (kk p l e R s m args below meth c H locs cells slots ls ec es C h1 h2 hW0 hS hL)
/-- a private field of a nest mate -/
theorem z_getfN {host : String} {ci : Nat} {q : vw_C} {ty : Nat → FieldType} (cf : zCF ci q ty) (kf : Nat) {index : Nat} {fs : List Value} {v : Value} (dd : decode F.2.1 pc = .ok (.getfield index, 3)) (hlink : ∀ (U : State) (H : Heap), G.2.2 U H → va_Nw (.fieldLinkNest F.1.cls index (q.2.1 kf).1 (q.2.1 kf).2.1 (q.2.1 kf).2.2.1 host) U) (hk : kf < q.2.2) (ha : h a = some (.inr (ci, fs))) (hv : fs[kf]? = some v)
    (kk : zV G F d (pc + 3) L (v :: st) h k n Q X) : zV G F d pc L (.ref a :: st) h k n Q X := by
  intro p l e R s m args below meth c H locs cells slots ls ec es C h1 h2 hW hS hL
  have hW0 := hW
  obtain ⟨ws, hP, hD, hs⟩ := hW
  obtain ⟨i, hi⟩ := hs _ _ ha
  exact va_getN C.2.1 C.2.2.1 (C := q.1) (T := q.2.1) (N := q.2.2) C.2.2.2.2.2.2.2.2.2.1 cf.2.1 C.2.2.2.2.2.2.1 C.2.2.2.2.2.2.2.2.2.2.1.1 hP i hi cf.1 kf hk (va_Nw.use rfl (hlink _ _ C.2.2.2.2.2.2.2.2.2.2.1.2.1)) (fun x hx => hx) hv dd (kk p l e R s m args below meth c H locs cells slots ls ec es C h1 h2 hW0 hS hL)
theorem z_putf {ci : Nat} {q : vw_C} {ty : Nat → FieldType} (cf : zCF ci q ty) (kf : Nat) {index : Nat} {fs : List Value} {v : Value} (dd : decode F.2.1 pc = .ok (.putfield index, 3)) (hlink : Cond.fieldLink F.1.cls index (q.2.1 kf).1 (q.2.1 kf).2.1 (q.2.1 kf).2.2.1 ∈ lw_all) (hk : kf < q.2.2) (hfin : (q.2.1 kf).2.2.2 = false) (hn : narrow (ty kf) v = v) (hfit : fits (ty kf) v = true) (ha : h a = some (.inr (ci, fs))) (hl : kf < fs.length)
    (kk : zV G F d (pc + 3) L st (zup h a (.inr (ci, fs.set kf v))) k n Q X) : zV G F d pc L (v :: .ref a :: st) h k n Q X := by
  intro p l e R s m args below meth c H locs cells slots ls ec es C h1 h2 hW hS hL
  obtain ⟨ws, hP, hD, hs⟩ := hW
  obtain ⟨i, hi⟩ := hs _ _ ha
  exact va_put C.2.1 C.2.2.1 (C := q.1) (T := q.2.1) (N := q.2.2) C.2.2.2.2.2.2.2.2.2.1 cf.2.1 ty cf.2.2.1 cf.2.2.2 C.2.2.2.2.2.2.1 C.2.2.2.2.2.2.2.2.2.2.1.1 hP hD hS i hi cf.1 kf hk (C.2.2.2.2.2.2.2.2.2.1 _ hlink) (fun x hx => hx) hfin (cf.2.2.1 kf hk) hn hfit hl dd
    (fun H1 locs1 hP1 hD1 hS1 => kk p l e R s m args below meth c H1 locs1 cells slots ls ec es C h1 h2 ⟨_, hP1, hD1, hs.put hi⟩ hS1 hL)
theorem z_putfS {ref : String} {ci : Nat} {q : vw_C} {ty : Nat → FieldType} (cf : zCF ci q ty) (kf : Nat) {index : Nat} {fs : List Value} {v : Value} (dd : decode F.2.1 pc = .ok (.putfield index, 3)) (hlink : Cond.fieldLink F.1.cls index ref (q.2.1 kf).2.1 (q.2.1 kf).2.2.1 ∈ lw_all) (hsame : Cond.sameField ref (q.2.1 kf).1 (q.2.1 kf).2.1 (q.2.1 kf).2.2.1 ∈ lw_all) (hk : kf < q.2.2) (hfin : (q.2.1 kf).2.2.2 = false) (hn : narrow (ty kf) v = v) (hfit : fits (ty kf) v = true) (ha : h a = some (.inr (ci, fs))) (hl : kf < fs.length)
    (kk : zV G F d (pc + 3) L st (zup h a (.inr (ci, fs.set kf v))) k n Q X) : zV G F d pc L (v :: .ref a :: st) h k n Q X := by
  intro p l e R s m args below meth c H locs cells slots ls ec es C h1 h2 hW hS hL
  obtain ⟨ws, hP, hD, hs⟩ := hW
  obtain ⟨i, hi⟩ := hs _ _ ha
  exact va_put C.2.1 C.2.2.1 (C := q.1) (T := q.2.1) (N := q.2.2) C.2.2.2.2.2.2.2.2.2.1 cf.2.1 ty cf.2.2.1 cf.2.2.2 C.2.2.2.2.2.2.1 C.2.2.2.2.2.2.2.2.2.2.1.1 hP hD hS i hi cf.1 kf hk (C.2.2.2.2.2.2.2.2.2.1 _ hlink) (fun x hx => u_same (C.2.2.2.2.2.2.2.2.2.1 _ hsame) x hx) hfin (cf.2.2.1 kf hk) hn hfit hl dd
    (fun H1 locs1 hP1 hD1 hS1 => kk p l e R s m args below meth c H1 locs1 cells slots ls ec es C h1 h2 ⟨_, hP1, hD1, hs.put hi⟩ hS1 hL)
theorem z_putfF {ci : Nat} {q : vw_C} {ty : Nat → FieldType} (cf : zCF ci q ty) (kf : Nat) {index : Nat} {fs : List Value} {v : Value} (dd : decode F.2.1 pc = .ok (.putfield index, 3)) (hlink : Cond.fieldLink F.1.cls index (q.2.1 kf).1 (q.2.1 kf).2.1 (q.2.1 kf).2.2.1 ∈ lw_all) (hk : kf < q.2.2) (hfin : (q.2.1 kf).2.2.2 = true) (hin : F.1.name = "<init>") (hdc : (q.2.1 kf).1 = F.1.cls) (hn : narrow (ty kf) v = v) (hfit : fits (ty kf) v = true) (ha : h a = some (.inr (ci, fs))) (hl : kf < fs.length)
    (kk : zV G F d (pc + 3) L st (zup h a (.inr (ci, fs.set kf v))) k n Q X) : zV G F d pc L (v :: .ref a :: st) h k n Q X := by
  intro p l e R s m args below meth c H locs cells slots ls ec es C h1 h2 hW hS hL
  obtain ⟨ws, hP, hD, hs⟩ := hW
  obtain ⟨i, hi⟩ := hs _ _ ha
  exact va_putF C.2.1 C.2.2.1 (C := q.1) (T := q.2.1) (N := q.2.2) C.2.2.2.2.2.2.2.2.2.1 cf.2.1 ty cf.2.2.1 cf.2.2.2 C.2.2.2.2.2.2.1 C.2.2.2.2.2.2.2.2.2.2.1.1 hP hD hS i hi cf.1 kf hk (C.2.2.2.2.2.2.2.2.2.1 _ hlink) (fun x hx => hx) hfin (C.2.2.2.2.2.2.2.1.trans hin) hdc (cf.2.2.1 kf hk) hn hfit hl dd
    (fun H1 locs1 hP1 hD1 hS1 => kk p l e R s m args below meth c H1 locs1 cells slots ls ec es C h1 h2 ⟨_, hP1, hD1, hs.put hi⟩ hS1 hL)
theorem z_iald {N j : Nat} {f : Nat → Int32} {i : Int32} (dd : decode F.2.1 pc = .ok (.iaload, 1)) (ha : h a = some (zI G N f)) (hi : i = nI j) (hj : j < N) (hN : N < 2 ^ 31)
    (kk : zV G F d (pc + 1) L (.int (f j) :: st) h k n Q X) : zV G F d pc L (.int i :: .ref a :: st) h k n Q X := by
  intro p l e R s m args below meth c H locs cells slots ls ec es C h1 h2 hW hS hL
  have hW0 := hW
  obtain ⟨ws, hP, hD, hs⟩ := hW
  obtain ⟨i0, hi0⟩ := hs _ _ ha
  obtain ⟨g1, g2⟩ := z_inN hi hj hN
  exact va_iald C.2.1 C.2.2.1 C.2.2.2.2.2.2.2.2.2.2.1.1 hP i0 0 hi0 rfl g1 dd (by rw [g2]; exact kk p l e R s m args below meth c H locs cells slots ls ec es C h1 h2 hW0 hS hL)
theorem z_bald {N j : Nat} {f : Nat → Int32} {i : Int32} (dd : decode F.2.1 pc = .ok (.baload, 1)) (ha : h a = some (zY G N f)) (hi : i = nI j) (hj : j < N) (hN : N < 2 ^ 31)
    (kk : zV G F d (pc + 1) L (.int (f j) :: st) h k n Q X) : zV G F d pc L (.int i :: .ref a :: st) h k n Q X := by
  intro p l e R s m args below meth c H locs cells slots ls ec es C h1 h2 hW hS hL
  have hW0 := hW
  obtain ⟨ws, hP, hD, hs⟩ := hW
  obtain ⟨i0, hi0⟩ := hs _ _ ha
  obtain ⟨g1, g2⟩ := z_inN hi hj hN
  exact va_bald C.2.1 C.2.2.1 C.2.2.2.2.2.2.2.2.2.2.1.1 hP i0 1 hi0 rfl g1 dd (by rw [g2]; exact kk p l e R s m args below meth c H locs cells slots ls ec es C h1 h2 hW0 hS hL)
theorem z_lald {N j : Nat} {f : Nat → Int64} {i : Int32} (dd : decode F.2.1 pc = .ok (.laload, 1)) (ha : h a = some (zJ G N f)) (hi : i = nI j) (hj : j < N) (hN : N < 2 ^ 31)
    (kk : zV G F d (pc + 1) L (.long (f j) :: st) h k n Q X) : zV G F d pc L (.int i :: .ref a :: st) h k n Q X := by
  intro p l e R s m args below meth c H locs cells slots ls ec es C h1 h2 hW hS hL
  have hW0 := hW
  obtain ⟨ws, hP, hD, hs⟩ := hW
  obtain ⟨i0, hi0⟩ := hs _ _ ha
  obtain ⟨g1, g2⟩ := z_inN hi hj hN
  exact va_lald C.2.1 C.2.2.1 C.2.2.2.2.2.2.2.2.2.2.1.1 hP i0 2 hi0 rfl g1 dd (by rw [g2]; exact kk p l e R s m args below meth c H locs cells slots ls ec es C h1 h2 hW0 hS hL)
theorem z_aldq {N j : Nat} {f : Nat → Option Nat} {i : Int32} (dd : decode F.2.1 pc = .ok (.aaload, 1)) (ha : h a = some (zR G N f)) (hi : i = nI j) (hj : j < N) (hN : N < 2 ^ 31)
    (kk : zV G F d (pc + 1) L (va_rf (f j) :: st) h k n Q X) : zV G F d pc L (.int i :: .ref a :: st) h k n Q X := by
  intro p l e R s m args below meth c H locs cells slots ls ec es C h1 h2 hW hS hL
  have hW0 := hW
  obtain ⟨ws, hP, hD, hs⟩ := hW
  obtain ⟨i0, hi0⟩ := hs _ _ ha
  obtain ⟨g1, g2⟩ := z_inN hi hj hN
  exact va_aldq C.2.1 C.2.2.1 C.2.2.2.2.2.2.2.2.2.2.1.1 hP i0 3 hi0 rfl g1 dd (by rw [g2]; exact kk p l e R s m args below meth c H locs cells slots ls ec es C h1 h2 hW0 hS hL)
theorem z_iast {N j : Nat} {f : Nat → Int32} {i : Int32} {x : Int32} (dd : decode F.2.1 pc = .ok (.iastore, 1)) (ha : h a = some (zI G N f)) (hi : i = nI j) (hj : j < N) (hN : N < 2 ^ 31)
    (kk : zV G F d (pc + 1) L st (zup h a (zI G N (upd f j x))) k n Q X) : zV G F d pc L (.int x :: .int i :: .ref a :: st) h k n Q X := by
  intro p l e R s m args below meth c H locs cells slots ls ec es C h1 h2 hW hS hL
  obtain ⟨ws, hP, hD, hs⟩ := hW
  obtain ⟨i0, hi0⟩ := hs _ _ ha
  obtain ⟨g1, g2⟩ := z_inN hi hj hN
  exact va_iast C.2.1 C.2.2.1 C.2.2.2.2.2.2.2.2.2.2.1.1 hP hD hS i0 0 hi0 rfl g1 dd (fun H1 locs1 hP1 hD1 hS1 => kk p l e R s m args below meth c H1 locs1 cells slots ls ec es C h1 h2 ⟨_, by rw [g2] at hP1; exact hP1, by rw [g2] at hD1; exact hD1, hs.put hi0⟩ hS1 hL)
theorem z_bast {N j : Nat} {f : Nat → Int32} {i : Int32} {x : Int32} (dd : decode F.2.1 pc = .ok (.bastore, 1)) (ha : h a = some (zY G N f)) (hi : i = nI j) (hj : j < N) (hN : N < 2 ^ 31)
    (kk : zV G F d (pc + 1) L st (zup h a (zY G N (upd f j (vp_nar .byte x)))) k n Q X) : zV G F d pc L (.int x :: .int i :: .ref a :: st) h k n Q X := by
  intro p l e R s m args below meth c H locs cells slots ls ec es C h1 h2 hW hS hL
  obtain ⟨ws, hP, hD, hs⟩ := hW
  obtain ⟨i0, hi0⟩ := hs _ _ ha
  obtain ⟨g1, g2⟩ := z_inN hi hj hN
  exact va_bast C.2.1 C.2.2.1 C.2.2.2.2.2.2.2.2.2.2.1.1 hP hD hS i0 1 hi0 rfl g1 dd (fun H1 locs1 hP1 hD1 hS1 => kk p l e R s m args below meth c H1 locs1 cells slots ls ec es C h1 h2 ⟨_, by rw [g2] at hP1; exact hP1, by rw [g2] at hD1; exact hD1, hs.put hi0⟩ hS1 hL)
theorem z_last {N j : Nat} {f : Nat → Int64} {i : Int32} {x : Int64} (dd : decode F.2.1 pc = .ok (.lastore, 1)) (ha : h a = some (zJ G N f)) (hi : i = nI j) (hj : j < N) (hN : N < 2 ^ 31)
    (kk : zV G F d (pc + 1) L st (zup h a (zJ G N (vp_updL f j x))) k n Q X) : zV G F d pc L (.long x :: .int i :: .ref a :: st) h k n Q X := by
  intro p l e R s m args below meth c H locs cells slots ls ec es C h1 h2 hW hS hL
  obtain ⟨ws, hP, hD, hs⟩ := hW
  obtain ⟨i0, hi0⟩ := hs _ _ ha
  obtain ⟨g1, g2⟩ := z_inN hi hj hN
  exact va_last C.2.1 C.2.2.1 C.2.2.2.2.2.2.2.2.2.2.1.1 hP hD hS i0 2 hi0 rfl g1 dd (fun H1 locs1 hP1 hD1 hS1 => kk p l e R s m args below meth c H1 locs1 cells slots ls ec es C h1 h2 ⟨_, by rw [g2] at hP1; exact hP1, by rw [g2] at hD1; exact hD1, hs.put hi0⟩ hS1 hL)
theorem z_alen {t0 : Nat} {cA : ClassId} {x : vp_A} {ty : FieldType} {v : Int32} (ht : (zty G)[t0]? = some (cA, ty)) (dd : decode F.2.1 pc = .ok (.arraylength, 1)) (ha : h a = some (.inl (cA, x))) (hv : Int32.ofNat x.1 = v) (kk : zV G F d (pc + 1) L (.int v :: st) h k n Q X) : zV G F d pc L (.ref a :: st) h k n Q X := by
  intro p l e R s m args below meth c H locs cells slots ls ec es C h1 h2 hW hS hL
  have hW0 := hW
  obtain ⟨ws, hP, hD, hs⟩ := hW
  obtain ⟨i0, hi0⟩ := hs _ _ ha
  exact va_alen C.2.1 C.2.2.1 C.2.2.2.2.2.2.2.2.2.2.1.1 hP i0 t0 hi0 ht hv dd (kk p l e R s m args below meth c H locs cells slots ls ec es C h1 h2 hW0 hS hL)
theorem z_clsI {G : zE} {s : State} {cA : ClassId} {ty : FieldType} {t0 : Nat} {tys : List (ClassId × FieldType)} (hty : ∀ C, ty ≠ .object C) (hK : va_K G.1 zcl (tys ++ [(cA, ty)]) s) {cB : ClassId} (h0 : tys[t0]? = some (cB, ty)) : cA = cB := by
  have g1 := (hK.2 tys.length (cA, ty) (by simp)).2
  have g2 := (hK.2 t0 (cB, ty) (by rw [List.getElem?_append_left (List.getElem?_eq_some_iff.mp h0).1]; exact h0)).2
  cases ty with
  | object C => exact absurd rfl (hty C)
  | _ => exact Option.some.inj (g1.symm.trans g2)
theorem z_clsO {G : zE} {s : State} {cA cB : ClassId} {C : String} {t0 : Nat} {tys : List (ClassId × FieldType)} (hK : va_K G.1 zcl (tys ++ [(cA, .object C)]) s) (h0 : tys[t0]? = some (cB, .object C)) : cA = cB := by
  obtain ⟨_, _, _, _, _, g1⟩ := (hK.2 tys.length (cA, .object C) (by simp)).2
  obtain ⟨_, _, _, _, _, g2⟩ := (hK.2 t0 (cB, .object C) (by rw [List.getElem?_append_left (List.getElem?_eq_some_iff.mp h0).1]; exact h0)).2
  exact Option.some.inj (g1.symm.trans g2)
theorem z_newI {x : Int32} {N : Nat} (dd : decode F.2.1 pc = .ok (.newarray .int, 2)) (harr : Cond.arrayClass (newarray.typeOf .int) ∈ lw_all) (hx : x = nI N) (hN : N < 2 ^ 20) (hk : 1 ≤ k) (hn : N ≤ n)
    (kk : ∀ q : Nat, h q = none → zB G q → zV G F d (pc + 2) L (.ref q :: st) (zup h q (zI G N (fun _ => 0))) (k - 1) (n - N) Q X) : zV G F d pc L (.int x :: st) h k n Q X := by
  intro p l e R s m args below meth c H locs cells slots ls ec es C h1 h2 hW hS hL
  obtain ⟨ws, hP, hD, hs⟩ := hW
  have hc : x.toNatClampNeg = N := by rw [hx]; exact nI_clamp (by omega)
  have hB : N * componentBytes .int ≤ 536870912 := z_cb .int rfl hN
  refine va_newa (atype := .int) C.2.1 C.2.2.1 (C.2.2.2.2.2.2.2.2.2.1 _ harr) (ty := .int) rfl C.2.2.2.2.2.2.2.2.2.2.1.1 hP hD hS (fun q hq => Nat.le_trans C.2.2.2.2.2.2.2.2.2.2.1.2.2.2 hq) (N' := N) (a0 := (N, .inl (fun _ => 0))) (fun cA => rfl) (by rw [hx]; exact nI_pos (by omega)) hc hB (by have := C.2.2.2.2.2.2.2.2.2.2.2.2.2.1; omega) (by have := C.2.2.2.2.2.2.2.2.2.2.2.2.2.2; omega) dd ?_
  intro q cA H1 hK1 hP1 hD1 hS1
  have hcA : cA = G.2.1 1 := z_clsI (t0 := 0) (fun C h9 => by cases h9) hK1 rfl
  subst hcA
  obtain ⟨f1, f2⟩ := hs.fresh hD1
  exact kk q f1 f2 p l e R s m args below meth c H1 locs (cells + 1) (slots + N) ls ec es C (by omega) (by omega) ⟨_, hP1, hD1, hs.new⟩ hS1 hL
theorem z_newY {x : Int32} {N : Nat} (dd : decode F.2.1 pc = .ok (.newarray .byte, 2)) (harr : Cond.arrayClass (newarray.typeOf .byte) ∈ lw_all) (hx : x = nI N) (hN : N < 2 ^ 20) (hk : 1 ≤ k) (hn : N ≤ n)
    (kk : ∀ q : Nat, h q = none → zB G q → zV G F d (pc + 2) L (.ref q :: st) (zup h q (zY G N (fun _ => 0))) (k - 1) (n - N) Q X) : zV G F d pc L (.int x :: st) h k n Q X := by
  intro p l e R s m args below meth c H locs cells slots ls ec es C h1 h2 hW hS hL
  obtain ⟨ws, hP, hD, hs⟩ := hW
  have hc : x.toNatClampNeg = N := by rw [hx]; exact nI_clamp (by omega)
  have hB : N * componentBytes .byte ≤ 536870912 := z_cb .byte rfl hN
  refine va_newa (atype := .byte) C.2.1 C.2.2.1 (C.2.2.2.2.2.2.2.2.2.1 _ harr) (ty := .byte) rfl C.2.2.2.2.2.2.2.2.2.2.1.1 hP hD hS (fun q hq => Nat.le_trans C.2.2.2.2.2.2.2.2.2.2.1.2.2.2 hq) (N' := N) (a0 := (N, .inl (fun _ => 0))) (fun cA => rfl) (by rw [hx]; exact nI_pos (by omega)) hc hB (by have := C.2.2.2.2.2.2.2.2.2.2.2.2.2.1; omega) (by have := C.2.2.2.2.2.2.2.2.2.2.2.2.2.2; omega) dd ?_
  intro q cA H1 hK1 hP1 hD1 hS1
  have hcA : cA = G.2.1 2 := z_clsI (t0 := 1) (fun C h9 => by cases h9) hK1 rfl
  subst hcA
  obtain ⟨f1, f2⟩ := hs.fresh hD1
  exact kk q f1 f2 p l e R s m args below meth c H1 locs (cells + 1) (slots + N) ls ec es C (by omega) (by omega) ⟨_, hP1, hD1, hs.new⟩ hS1 hL
theorem z_newJ {x : Int32} {N : Nat} (dd : decode F.2.1 pc = .ok (.newarray .long, 2)) (harr : Cond.arrayClass (newarray.typeOf .long) ∈ lw_all) (hx : x = nI N) (hN : N < 2 ^ 20) (hk : 1 ≤ k) (hn : N ≤ n)
    (kk : ∀ q : Nat, h q = none → zB G q → zV G F d (pc + 2) L (.ref q :: st) (zup h q (zJ G N (fun _ => 0))) (k - 1) (n - N) Q X) : zV G F d pc L (.int x :: st) h k n Q X := by
  intro p l e R s m args below meth c H locs cells slots ls ec es C h1 h2 hW hS hL
  obtain ⟨ws, hP, hD, hs⟩ := hW
  have hc : x.toNatClampNeg = N := by rw [hx]; exact nI_clamp (by omega)
  have hB : N * componentBytes .long ≤ 536870912 := z_cb .long rfl hN
  refine va_newa (atype := .long) C.2.1 C.2.2.1 (C.2.2.2.2.2.2.2.2.2.1 _ harr) (ty := .long) rfl C.2.2.2.2.2.2.2.2.2.2.1.1 hP hD hS (fun q hq => Nat.le_trans C.2.2.2.2.2.2.2.2.2.2.1.2.2.2 hq) (N' := N) (a0 := (N, .inr (.inl (fun _ => 0)))) (fun cA => rfl) (by rw [hx]; exact nI_pos (by omega)) hc hB (by have := C.2.2.2.2.2.2.2.2.2.2.2.2.2.1; omega) (by have := C.2.2.2.2.2.2.2.2.2.2.2.2.2.2; omega) dd ?_
  intro q cA H1 hK1 hP1 hD1 hS1
  have hcA : cA = G.2.1 3 := z_clsI (t0 := 2) (fun C h9 => by cases h9) hK1 rfl
  subst hcA
  obtain ⟨f1, f2⟩ := hs.fresh hD1
  exact kk q f1 f2 p l e R s m args below meth c H1 locs (cells + 1) (slots + N) ls ec es C (by omega) (by omega) ⟨_, hP1, hD1, hs.new⟩ hS1 hL
theorem z_newR {x : Int32} {N index : Nat} (dd : decode F.2.1 pc = .ok (.anewarray index, 3)) (hcl : Cond.classLink F.1.cls index "java/lang/Object" ∈ lw_all) (hov : ∀ (U : State) (H : Heap), G.2.2 U H → va_AO "java/lang/Object" U) (hx : x = nI N) (hN : N < 2 ^ 20) (hk : 1 ≤ k) (hn : N ≤ n)
    (kk : ∀ q : Nat, h q = none → zB G q → zV G F d (pc + 3) L (.ref q :: st) (zup h q (zR G N (fun _ => none))) (k - 1) (n - N) Q X) : zV G F d pc L (.int x :: st) h k n Q X := by
  intro p l e R s m args below meth c H locs cells slots ls ec es C h1 h2 hW hS hL
  obtain ⟨ws, hP, hD, hs⟩ := hW
  have hc : x.toNatClampNeg = N := by rw [hx]; exact nI_clamp (by omega)
  refine va_newq C.2.1 C.2.2.1 C.2.2.2.2.2.2.1 (C.2.2.2.2.2.2.2.2.2.1 _ hcl) (hov _ _ C.2.2.2.2.2.2.2.2.2.2.1.2.1) C.2.2.2.2.2.2.2.2.2.2.1.1 hP hD hS (fun q hq => Nat.le_trans C.2.2.2.2.2.2.2.2.2.2.1.2.2.2 hq) (N' := N) (by rw [hx]; exact nI_pos (by omega)) hc (by omega) (by have := C.2.2.2.2.2.2.2.2.2.2.2.2.2.1; omega) (by have := C.2.2.2.2.2.2.2.2.2.2.2.2.2.2; omega) dd ?_
  intro q cA H1 hK1 hP1 hD1 hS1
  have hcA : cA = G.2.1 4 := z_clsO (t0 := 3) hK1 rfl
  subst hcA
  obtain ⟨f1, f2⟩ := hs.fresh hD1
  exact kk q f1 f2 p l e R s m args below meth c H1 locs (cells + 1) (slots + N) ls ec es C (by omega) (by omega) ⟨_, hP1, hD1, hs.new⟩ hS1 hL
theorem z_new {ci : Nat} {q : vw_C} {ty : Nat → FieldType} (cf : zCF ci q ty) {index : Nat} (fs : List Value) (dd : decode F.2.1 pc = .ok (.new index, 3)) (hcl : Cond.classLink F.1.cls index q.1 ∈ lw_all) (hinst : Cond.instantiable q.1 q.2.2 ∈ lw_all) (hini : Cond.initialized q.1 ∈ lw_all) (hfs : ∀ j, j < q.2.2 → defaultValue (ty j) = vp_V fs j) (hk : 1 ≤ k) (hn : q.2.2 ≤ n)
    (kk : ∀ b : Nat, h b = none → zB G b → zV G F d (pc + 3) L (.ref b :: st) (zup h b (.inr (ci, fs))) (k - 1) (n - q.2.2) Q X) : zV G F d pc L st h k n Q X := by
  intro p l e R s m args below meth c H locs cells slots ls ec es C h1 h2 hW hS hL
  obtain ⟨ws, hP, hD, hs⟩ := hW
  refine va_new C.2.1 C.2.2.1 (C := q.1) (T := q.2.1) (N := q.2.2) C.2.2.2.2.2.2.2.2.2.1 cf.2.1 ty cf.2.2.1 C.2.2.2.2.2.2.1 (C.2.2.2.2.2.2.2.2.2.1 _ hcl) (C.2.2.2.2.2.2.2.2.2.1 _ hinst) (C.2.2.2.2.2.2.2.2.2.1 _ hini) C.2.2.2.2.2.2.2.2.2.2.1.1 hP hD hS (fun q hq => Nat.le_trans C.2.2.2.2.2.2.2.2.2.2.1.2.2.2 hq) cf.1 hfs (by have := C.2.2.2.2.2.2.2.2.2.2.2.2.2.1; omega) (by have := C.2.2.2.2.2.2.2.2.2.2.2.2.2.2; omega) dd ?_
  intro b H1 hP1 hD1 hS1
  obtain ⟨f1, f2⟩ := hs.fresh hD1
  exact kk b f1 f2 p l e R s m args below meth c H1 locs (cells + 1) (slots + q.2.2) ls ec es C (by omega) (by omega) ⟨_, hP1, hD1, hs.new⟩ hS1 hL
theorem z_gets {C0 n0 d0 ref : String} {v : Value} {index : Nat} (dd : decode F.2.1 pc = .ok (.getstatic index, 3)) (hz : ∀ (U : State) (H : Heap), G.2.2 U H → va_Z C0 n0 d0 v (zB G) U H) (hlink : Cond.fieldLink F.1.cls index C0 n0 d0 ∈ lw_all)
    (kk : zV G F d (pc + 3) L (v :: st) h k n Q X) : zV G F d pc L st h k n Q X := by
  intro p l e R s m args below meth c H locs cells slots ls ec es C h1 h2 hW hS hL
  exact va_gets C.2.1 C.2.2.1 (hz _ _ C.2.2.2.2.2.2.2.2.2.2.1.2.1) hS C.2.2.2.2.2.2.1 (C.2.2.2.2.2.2.2.2.2.1 _ hlink) (fun x hx => hx) dd (kk p l e R s m args below meth c H locs cells slots ls ec es C h1 h2 hW hS hL)
theorem z_cast {ci : Nat} {q : vw_C} {ty : Nat → FieldType} (cf : zCF ci q ty) {nm : String} {index : Nat} {fs : List Value} (dd : decode F.2.1 pc = .ok (.checkcast index, 3)) (hlink : Cond.classLink F.1.cls index nm ∈ lw_all) (hz : ∀ (U : State) (H : Heap), G.2.2 U H → va_Nw (.castable q.1 nm) U) (ha : h a = some (.inr (ci, fs)))
    (kk : zV G F d (pc + 3) L (.ref a :: st) h k n Q X) : zV G F d pc L (.ref a :: st) h k n Q X := by
  intro p l e R s m args below meth c H locs cells slots ls ec es C h1 h2 hW hS hL
  have hW0 := hW
  obtain ⟨ws, hP, hD, hs⟩ := hW
  obtain ⟨i, hi⟩ := hs _ _ ha
  exact va_castY C.2.1 C.2.2.1 C.2.2.2.2.2.2.1 (C.2.2.2.2.2.2.2.2.2.1 _ hlink) (hz _ _ C.2.2.2.2.2.2.2.2.2.2.1.2.1) (va_recv C.2.2.2.2.2.2.2.2.2.2.1.1 hP cf.1 hi) dd (kk p l e R s m args below meth c H locs cells slots ls ec es C h1 h2 hW0 hS hL)
theorem z_inst {ci : Nat} {q : vw_C} {ty : Nat → FieldType} (cf : zCF ci q ty) {nm : String} {index : Nat} {fs : List Value} (dd : decode F.2.1 pc = .ok (.instanceof index, 3)) (hlink : Cond.classLink F.1.cls index nm ∈ lw_all) (hz : ∀ (U : State) (H : Heap), G.2.2 U H → va_Nw (.castable q.1 nm) U) (ha : h a = some (.inr (ci, fs)))
    (kk : zV G F d (pc + 3) L (.int 1 :: st) h k n Q X) : zV G F d pc L (.ref a :: st) h k n Q X := by
  intro p l e R s m args below meth c H locs cells slots ls ec es C h1 h2 hW hS hL
  have hW0 := hW
  obtain ⟨ws, hP, hD, hs⟩ := hW
  obtain ⟨i, hi⟩ := hs _ _ ha
  exact va_instY C.2.1 C.2.2.1 C.2.2.2.2.2.2.1 (C.2.2.2.2.2.2.2.2.2.1 _ hlink) (hz _ _ C.2.2.2.2.2.2.2.2.2.2.1.2.1) (va_recv C.2.2.2.2.2.2.2.2.2.2.1.1 hP cf.1 hi) dd (kk p l e R s m args below meth c H locs cells slots ls ec es C h1 h2 hW0 hS hL)
theorem z_objInit {index : Nat} (dd : decode F.2.1 pc = .ok (.invokespecial index, 3)) (hl0 : Cond.methodLink F.1.cls index objectInit ∈ lw_all) (hi0 : Cond.instanceMethod objectInit ∈ lw_all) (hc0 : Cond.code objectInit ⟨#[0xb1]⟩ 1 none ∈ lw_all) (hd : 1 ≤ d) (hst : (st.map fun v => v.category).sum ≤ 8)
    (kk : zV G F d (pc + 3) L st h k n Q X) : zV G F d pc L (.ref a :: st) h k n Q X := by
  intro p l e R s m args below meth c H locs cells slots ls ec es C h1 h2 hW hS hL
  have hR1 := C.2.2.2.2.2.2.2.2.2.2.2.1
  have hR2 := C.2.2.2.2.2.2.2.2.2.2.2.2.1
  have h0 : (F0 m pc ls (.ref a :: st)).monitorRoom = 0 := rfl
  have h9 : 2 * (F0 m pc ls (.ref a :: st)).monitorRoom + (st.map fun v => v.category).sum + 12 ≤ R.locals := by rw [h0]; omega
  refine W.objInit C.2.1 C.2.2.1 C.2.2.2.2.2.2.1 (C.2.2.2.2.2.2.2.2.2.1 _ hl0) (C.2.2.2.2.2.2.2.2.2.1 _ hi0) (C.2.2.2.2.2.2.2.2.2.1 _ hc0) rfl (by rw [C.2.2.2.1]; exact hL.1) rfl dd (by omega) h9 ?_
  exact kk p l e R s m args below meth c H locs cells slots ls ec es C h1 h2 hW hS hL
end Rows
