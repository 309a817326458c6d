/-! THE LOGIC zV, part 3: calls, throwing, catching -/
set_option maxRecDepth 100000
theorem zS.warm {G : zE} {s U : State} {H : Heap} (h : zS G s H) (hW : s.WarmedH U.vm) : zS G U H := ⟨va_K.moved hW.alike h.1, h.2.2.1.1 _ _ _ hW h.2.1, h.2.2.1, h.2.2.2⟩
theorem zS.go {G : zE} {U : State} {H0 H : Heap} {locs : List Loc} (h : zS G U H0) (hS : va_S (zB G) H0 H locs) : zS G U H := ⟨h.1, h.2.2.1.2 _ _ _ hS.2.1 h.2.1, h.2.2.1, Nat.le_trans h.2.2.2 hS.1⟩
theorem zPc.blind {G : zE} {as : List Value} {h : zH} : FrameBlind (zPc G as h) := by
  intro a U g mk q
  obtain ⟨q0, ⟨q1, q2, q3, q4⟩, q5⟩ := q
  exact ⟨q0, ⟨va_K.moved (u := U) (U := U.calling g mk a) (Vm.Alike.refl U.vm) q1, q3.1 U _ _ (State.WarmedH.refl U) q2, q3, q4⟩, q5⟩
theorem zPc.at {G : zE} {as : List Value} {h : zH} {s U : State} {H : Heap} {locs : List Loc} (hs : zS G s s.heap) (hS : va_S (zB G) s.heap H locs) (hW : zW G h H) (hU : U.heap = H) (hw : s.WarmedH U.vm) : zPc G as h as.toArray U :=
  ⟨rfl, by rw [hU]; exact (hs.go hS).warm hw, by rw [hU]; exact hW⟩
section Back
variable {G : zE} {F : zF} {d pc k n : Nat} {L : List (Option Value)} {h : zH} {Q Q' : Option Value → zH → Prop} {X X' : String → zH → Prop} {mc ms : Nat}
variable {p : Program} {l : Launch} {e : Env} {R : Room} {s : State} {m : MethodId} {args : Array Value} {below : List Frame} {meth : Method} {c : Code} {H : Heap} {locs : List Loc} {cells slots : Nat} {ls : Array Slot} {ec es : Nat} {st0 rest : List Value} {as : Array Value}
theorem z_back (hr : vx_Run p l e R s m args below meth c H locs cells slots mc ms (F0 m pc ls st0) rest (zQ G Q' as) (zXC G X') (zB G)) (C : zC G F d ec es p l R s m args meth c) (h1 : cells + k = ec) (h2 : slots + n = es) (hS : va_S (zB G) s.heap H locs) (hL : zLs ls F.2.2.1 L) (hk : mc ≤ k) (hn : ms ≤ n)
    (kx : ∀ E h', X' E h' → zVX G F d pc L h' (k - mc) (n - ms) E Q X) (kk : ∀ v h', Q' v h' → zV G F d (pc + 3) L (v.toList ++ rest) h' (k - mc) (n - ms) Q X) :
    W p l e R s m args below meth c H locs cells slots (vx_MQ below (zQ G Q) (zXC G X) args s ec es (zB G)) (F0 m pc ls st0) := by
  intro T hT XX
  rcases hr T hT XX with ⟨v, st₀, t, T', L9, h0, X9, hL9, e1, e2, ⟨⟨v9, h', hv, hq, hw⟩, hF⟩, st⟩ | ⟨q, st₀, t, T', L9, E, ce, h0, X9, hL9, e1, e2, ⟨⟨h', hq, hw⟩, hF⟩, hce, hcv, hcl, st⟩
  · cases hv
    obtain ⟨k1, k2, k3⟩ := vx_keep h0 e1 hS (fun _ _ a => a) (fun _ a => a) hL9 hF
    obtain ⟨t2, a1, b1⟩ := kk v h' hq p l e R s m args below meth c T'.heap (locs ++ L9) (cells + mc) (slots + ms) ls ec es C (by omega) (by omega) (by rw [e1]; exact hw) k3 hL T' rfl X9
    exact ⟨t2, st t2 a1, b1⟩
  · obtain ⟨k1, k2, k3⟩ := vx_keep h0 e1 hS (fun _ _ a => a) (fun _ a => a) hL9 hF
    obtain ⟨t2, a1, b1⟩ := kx E h' hq p l e R s m args below meth c T'.heap (locs ++ L9) (cells + mc) (slots + ms) ls ec es rest ce q C (by omega) (by omega) (by rw [e1]; exact hw) k3 hL (by rw [e1]; exact hce) hcv hcl T' rfl X9
    exact ⟨t2, st.trans a1, b1⟩
theorem z_back5 (hr : vx_Run5 p l e R s m args below meth c H locs cells slots mc ms (F0 m pc ls st0) rest (zQ G Q' as) (zXC G X') (zB G)) (C : zC G F d ec es p l R s m args meth c) (h1 : cells + k = ec) (h2 : slots + n = es) (hS : va_S (zB G) s.heap H locs) (hL : zLs ls F.2.2.1 L) (hk : mc ≤ k) (hn : ms ≤ n)
    (kx : ∀ E h', X' E h' → zVX G F d pc L h' (k - mc) (n - ms) E Q X) (kk : ∀ v h', Q' v h' → zV G F d (pc + 5) L (v.toList ++ rest) h' (k - mc) (n - ms) Q X) :
    W p l e R s m args below meth c H locs cells slots (vx_MQ below (zQ G Q) (zXC G X) args s ec es (zB G)) (F0 m pc ls st0) := by
  intro T hT XX
  rcases hr T hT XX with ⟨v, st₀, t, T', L9, h0, X9, hL9, e1, e2, ⟨⟨v9, h', hv, hq, hw⟩, hF⟩, st⟩ | ⟨q, st₀, t, T', L9, E, ce, h0, X9, hL9, e1, e2, ⟨⟨h', hq, hw⟩, hF⟩, hce, hcv, hcl, st⟩
  · cases hv
    obtain ⟨k1, k2, k3⟩ := vx_keep h0 e1 hS (fun _ _ a => a) (fun _ a => a) hL9 hF
    obtain ⟨t2, a1, b1⟩ := kk v h' hq p l e R s m args below meth c T'.heap (locs ++ L9) (cells + mc) (slots + ms) ls ec es C (by omega) (by omega) (by rw [e1]; exact hw) k3 hL T' rfl X9
    exact ⟨t2, st t2 a1, b1⟩
  · obtain ⟨k1, k2, k3⟩ := vx_keep h0 e1 hS (fun _ _ a => a) (fun _ a => a) hL9 hF
    obtain ⟨t2, a1, b1⟩ := kx E h' hq p l e R s m args below meth c T'.heap (locs ++ L9) (cells + mc) (slots + ms) ls ec es rest ce q C (by omega) (by omega) (by rw [e1]; exact hw) k3 hL (by rw [e1]; exact hce) hcv hcl T' rfl X9
    exact ⟨t2, st.trans a1, b1⟩
end Back
section Rows
variable {G : zE} {F : zF} {d pc k n : Nat} {L : List (Option Value)} {st : List Value} {h : zH} {Q : Option Value → zH → Prop} {X : String → zH → Prop} {a : Nat}
/-- not caught here -/
theorem zVX.out {E : String} (hh : F.2.2.2.2 = []) (hx : X E h) : zVX G F d pc L h k n E Q X := by
  intro p l e R s m args below meth c H locs cells slots ls ec es rest ce q C h1 h2 hW hS hL g1 g2 g3
  refine vx_out (mc := ec) (ms := es) (fun x hx9 => ?_) C.2.2.2.2.2.1 g1 g2 g3 (fun t ht _ => ⟨⟨h, hx, by rw [ht]; exact hW⟩, hS.F ht⟩) hS.2.2 (by omega) (by omega)
  rw [C.2.2.2.2.2.2.2.2.1, hh] at hx9
  exact absurd hx9 List.not_mem_nil
/-- caught by the row x of this method's table; the rows ahead name other classes -/
theorem zVX.catch {E nm : String} {tgt : Nat} (pre : List (Nat × Nat × Nat × Nat)) (x : Nat × Nat × Nat × Nat) (suf : List (Nat × Nat × Nat × Nat)) (hsplit : F.2.2.2.2 = pre ++ x :: suf) (hpass : ∀ z ∈ pre, (z.2.2.2 ≠ 0 ∧ ∃ nm : String, Cond.classLink F.1.cls z.2.2.2 nm ∈ lw_all ∧ ∀ (U : State) (H : Heap), G.2.2 U H → va_Nc E nm U))
    (hx : covers ⟨x.1, x.2.1, x.2.2.1, x.2.2.2⟩ pc = true) (h0 : x.2.2.2 ≠ 0) (hlink : Cond.classLink F.1.cls x.2.2.2 nm ∈ lw_all) (hz : ∀ (U : State) (H : Heap), G.2.2 U H → va_Nw (.castable E nm) U) (htg : x.2.2.1 = tgt)
    (kk : ∀ q : Nat, zV G F d tgt L [.ref q] h k n Q X) : zVX G F d pc L h k n E Q X := by
  intro p l e R s m args below meth c H locs cells slots ls ec es rest ce q C h1 h2 hW hS hL g1 g2 g3
  subst htg
  have hts := C.2.2.2.2.2.2.2.2.2.1
  have hg := C.2.2.2.2.2.2.2.2.2.2.1.2.1
  refine vx_catch (name := nm) C.2.2.2.2.2.2.1 (pre.map fun q => ⟨q.1, q.2.1, q.2.2.1, q.2.2.2⟩) ⟨x.1, x.2.1, x.2.2.1, x.2.2.2⟩ (suf.map fun q => ⟨q.1, q.2.1, q.2.2.1, q.2.2.2⟩) (by rw [C.2.2.2.2.2.2.2.2.1, hsplit]; simp [tableOf]) ?_ hx h0 (hts _ hlink) (va_Nw.use rfl (hz _ _ hg)) g1 g2 g3 ?_
  · intro z hz9
    obtain ⟨z0, hz0, rfl⟩ := List.mem_map.mp hz9
    obtain ⟨n0, nm9, hl9, hn9⟩ := hpass z0 hz0
    exact Or.inr ⟨n0, nm9, hts _ hl9, hn9 _ _ hg⟩
  · exact kk q p l e R s m args below meth c H locs cells slots ls ec es C h1 h2 hW hS hL
variable {stk : List Value} {d' mc ms index : Nat} {F' : zF} {As : List Value} {Q' : Option Value → zH → Prop} {X' : String → zH → Prop}
/-- a virtual call of a method of the receiver's own class -/
theorem z_callV {ci : Nat} {q : vw_C} {ty : Nat → FieldType} (cf : zCF ci q ty) {fs : List Value} (hM : zCon G F' d' mc ms (.ref a :: As) h Q' X') (dd : decode F.2.1 pc = .ok (.invokevirtual index, 3)) (hlink : Cond.methodLink F.1.cls index F'.1 ∈ lw_all) (hinst : Cond.instanceMethod F'.1 ∈ lw_all) (hsel : Cond.selects q.1 F'.1 F'.1 ∈ lw_all) (hini : Cond.initialized q.1 ∈ lw_all) (hcode : Cond.code F'.1 F'.2.1 F'.2.2.1 F'.2.2.2.1 ∈ lw_all)
    (hd : F'.1.cls = q.1 ∧ F'.1.cls ≠ "java/lang/invoke/MethodHandle" ∧ F'.1.cls ≠ "java/lang/invoke/VarHandle" ∧ (parseMethodDescriptor F'.1.desc).map (fun d => d.parameters.length) = some As.length) (hdep : d' + 1 ≤ d ∧ F'.2.2.1 ≤ 45) (hst : (st.map fun v => v.category).sum ≤ 8) (ha : h a = some (.inr (ci, fs))) (hk : mc ≤ k) (hn : ms ≤ n) (hstk : stk = As.reverse ++ .ref a :: st)
    (kx : ∀ E h', X' E h' → zVX G F d pc L h' (k - mc) (n - ms) E Q X) (kk : ∀ v h', Q' v h' → zV G F d (pc + 3) L (v.toList ++ st) h' (k - mc) (n - ms) Q X) : zV G F d pc L stk h k n Q X := by
  intro p l e R s m args below meth c H locs cells slots ls ec es C h1 h2 hW hS hL
  have hW0 := hW
  obtain ⟨ws, hP, hD, hs⟩ := hW
  obtain ⟨i, hi⟩ := hs _ _ ha
  have b1 := C.2.2.2.2.2.2.2.2.2.2.2.1
  have b2 := C.2.2.2.2.2.2.2.2.2.2.2.2.1
  have b3 := C.2.2.2.2.2.2.2.2.2.2.2.2.2.1
  have b4 := C.2.2.2.2.2.2.2.2.2.2.2.2.2.2
  refine z_back (vx_runV (C := q.1) (As := As) (rest := st) (b := a) ⟨C.2.1, C.2.2.1, C.2.2.2.1, C.2.2.2.2.2.2.1, C.2.2.2.2.2.2.2.2.2.1⟩ (hM l C.1) (cwV As.length C.2.2.2.2.2.2.2.2.2.1 (lw_V hlink hinst hsel hini hcode) rfl rfl rfl hd ⟨by dsimp only; omega, by dsimp only; omega⟩) ⟨zPc.blind, va_recv C.2.2.2.2.2.2.2.2.2.2.1.1 hP cf.1 hi, fun U hU hw => zPc.at C.2.2.2.2.2.2.2.2.2.2.1 hS hW0 hU hw⟩ rfl rfl hL.1 hstk (lv_room hst) dd ⟨by omega, by omega⟩) C h1 h2 hS hL hk hn kx kk
/-- the same, of a method with handlers -/
theorem z_callVW {ci : Nat} {q : vw_C} {ty : Nat → FieldType} (cf : zCF ci q ty) {fs : List Value} (hM : zConW G F' d' mc ms (.ref a :: As) h Q' X') (dd : decode F.2.1 pc = .ok (.invokevirtual index, 3)) (hlink : Cond.methodLink F.1.cls index F'.1 ∈ lw_all) (hinst : Cond.instanceMethod F'.1 ∈ lw_all) (hsel : Cond.selects q.1 F'.1 F'.1 ∈ lw_all) (hini : Cond.initialized q.1 ∈ lw_all) (hcode : Cond.codeWith F'.1 F'.2.1 F'.2.2.1 F'.2.2.2.1 F'.2.2.2.2 ∈ lw_all)
    (hd : F'.1.cls = q.1 ∧ F'.1.cls ≠ "java/lang/invoke/MethodHandle" ∧ F'.1.cls ≠ "java/lang/invoke/VarHandle" ∧ (parseMethodDescriptor F'.1.desc).map (fun d => d.parameters.length) = some As.length) (hdep : d' + 1 ≤ d ∧ F'.2.2.1 ≤ 45) (hst : (st.map fun v => v.category).sum ≤ 8) (ha : h a = some (.inr (ci, fs))) (hk : mc ≤ k) (hn : ms ≤ n) (hstk : stk = As.reverse ++ .ref a :: st)
    (kx : ∀ E h', X' E h' → zVX G F d pc L h' (k - mc) (n - ms) E Q X) (kk : ∀ v h', Q' v h' → zV G F d (pc + 3) L (v.toList ++ st) h' (k - mc) (n - ms) Q X) : zV G F d pc L stk h k n Q X := by
  intro p l e R s m args below meth c H locs cells slots ls ec es C h1 h2 hW hS hL
  have hW0 := hW
  obtain ⟨ws, hP, hD, hs⟩ := hW
  obtain ⟨i, hi⟩ := hs _ _ ha
  have b1 := C.2.2.2.2.2.2.2.2.2.2.2.1
  have b2 := C.2.2.2.2.2.2.2.2.2.2.2.2.1
  have b3 := C.2.2.2.2.2.2.2.2.2.2.2.2.2.1
  have b4 := C.2.2.2.2.2.2.2.2.2.2.2.2.2.2
  refine z_back (vx_runVX (C := q.1) (As := As) (rest := st) (b := a) ⟨C.2.1, C.2.2.1, C.2.2.2.1, C.2.2.2.2.2.2.1, C.2.2.2.2.2.2.2.2.2.1⟩ (hM l C.1) (vx_cwVW As.length C.2.2.2.2.2.2.2.2.2.1 (lw_VW hlink hinst hsel hini hcode) rfl rfl rfl hd ⟨by dsimp only; omega, by dsimp only; omega⟩) ⟨zPc.blind, va_recv C.2.2.2.2.2.2.2.2.2.2.1.1 hP cf.1 hi, fun U hU hw => zPc.at C.2.2.2.2.2.2.2.2.2.2.1 hS hW0 hU hw⟩ rfl rfl hL.1 hstk (lv_room hst) dd ⟨by omega, by omega⟩) C h1 h2 hS hL hk hn kx kk
theorem z_callS (hM : zCon G F' d' mc ms As h Q' X') (dd : decode F.2.1 pc = .ok (.invokestatic index, 3)) (hlink : Cond.methodLink F.1.cls index F'.1 ∈ lw_all) (hstat : Cond.static F'.1 ∈ lw_all) (hini : Cond.initialized F'.1.cls ∈ lw_all) (hcode : Cond.code F'.1 F'.2.1 F'.2.2.1 F'.2.2.2.1 ∈ lw_all)
    (hd : F'.1.cls ≠ "java/lang/invoke/MethodHandle" ∧ F'.1.cls ≠ "java/lang/invoke/VarHandle" ∧ (parseMethodDescriptor F'.1.desc).map (fun d => d.parameters.length) = some As.length) (hdep : d' + 1 ≤ d ∧ F'.2.2.1 ≤ 45) (hst : (st.map fun v => v.category).sum ≤ 8) (hk : mc ≤ k) (hn : ms ≤ n) (hstk : stk = As.reverse ++ st)
    (kx : ∀ E h', X' E h' → zVX G F d pc L h' (k - mc) (n - ms) E Q X) (kk : ∀ v h', Q' v h' → zV G F d (pc + 3) L (v.toList ++ st) h' (k - mc) (n - ms) Q X) : zV G F d pc L stk h k n Q X := by
  intro p l e R s m args below meth c H locs cells slots ls ec es C h1 h2 hW hS hL
  have b1 := C.2.2.2.2.2.2.2.2.2.2.2.1
  have b2 := C.2.2.2.2.2.2.2.2.2.2.2.2.1
  have b3 := C.2.2.2.2.2.2.2.2.2.2.2.2.2.1
  have b4 := C.2.2.2.2.2.2.2.2.2.2.2.2.2.2
  refine z_back (vx_runS (As := As) (rest := st) ⟨C.2.1, C.2.2.1, C.2.2.2.1, C.2.2.2.2.2.2.1, C.2.2.2.2.2.2.2.2.2.1⟩ (hM l C.1) (va_cwS As.length C.2.2.2.2.2.2.2.2.2.1 (lw_S hlink hstat hini hcode) rfl rfl rfl hd ⟨by dsimp only; omega, by dsimp only; omega⟩) ⟨zPc.blind, fun U hU hw => zPc.at C.2.2.2.2.2.2.2.2.2.2.1 hS hW hU hw⟩ rfl rfl hL.1 hstk (lv_room hst) dd ⟨by omega, by omega⟩) C h1 h2 hS hL hk hn kx kk
theorem z_callSW (hM : zConW G F' d' mc ms As h Q' X') (dd : decode F.2.1 pc = .ok (.invokestatic index, 3)) (hlink : Cond.methodLink F.1.cls index F'.1 ∈ lw_all) (hstat : Cond.static F'.1 ∈ lw_all) (hini : Cond.initialized F'.1.cls ∈ lw_all) (hcode : Cond.codeWith F'.1 F'.2.1 F'.2.2.1 F'.2.2.2.1 F'.2.2.2.2 ∈ lw_all)
    (hd : F'.1.cls ≠ "java/lang/invoke/MethodHandle" ∧ F'.1.cls ≠ "java/lang/invoke/VarHandle" ∧ (parseMethodDescriptor F'.1.desc).map (fun d => d.parameters.length) = some As.length) (hdep : d' + 1 ≤ d ∧ F'.2.2.1 ≤ 45) (hst : (st.map fun v => v.category).sum ≤ 8) (hk : mc ≤ k) (hn : ms ≤ n) (hstk : stk = As.reverse ++ st)
    (kx : ∀ E h', X' E h' → zVX G F d pc L h' (k - mc) (n - ms) E Q X) (kk : ∀ v h', Q' v h' → zV G F d (pc + 3) L (v.toList ++ st) h' (k - mc) (n - ms) Q X) : zV G F d pc L stk h k n Q X := by
  intro p l e R s m args below meth c H locs cells slots ls ec es C h1 h2 hW hS hL
  have b1 := C.2.2.2.2.2.2.2.2.2.2.2.1
  have b2 := C.2.2.2.2.2.2.2.2.2.2.2.2.1
  have b3 := C.2.2.2.2.2.2.2.2.2.2.2.2.2.1
  have b4 := C.2.2.2.2.2.2.2.2.2.2.2.2.2.2
  refine z_back (vx_runSX (As := As) (rest := st) ⟨C.2.1, C.2.2.1, C.2.2.2.1, C.2.2.2.2.2.2.1, C.2.2.2.2.2.2.2.2.2.1⟩ (hM l C.1) (vx_cwSW As.length C.2.2.2.2.2.2.2.2.2.1 (lw_SW hlink hstat hini hcode) rfl rfl rfl hd ⟨by dsimp only; omega, by dsimp only; omega⟩) ⟨zPc.blind, fun U hU hw => zPc.at C.2.2.2.2.2.2.2.2.2.2.1 hS hW hU hw⟩ rfl rfl hL.1 hstk (lv_room hst) dd ⟨by omega, by omega⟩) C h1 h2 hS hL hk hn kx kk
/-- a constructor -/
theorem z_callI (hM : zCon G F' d' mc ms (.ref a :: As) h Q' X') (dd : decode F.2.1 pc = .ok (.invokespecial index, 3)) (hlink : Cond.methodLink F.1.cls index F'.1 ∈ lw_all) (hinst : Cond.instanceMethod F'.1 ∈ lw_all) (hini : Cond.initialized F'.1.cls ∈ lw_all) (hr : F'.2.2.2.1 = none) (hcode : Cond.code F'.1 F'.2.1 F'.2.2.1 none ∈ lw_all)
    (hd : F'.1.name = "<init>" ∧ F'.1.cls ≠ "java/lang/invoke/MethodHandle" ∧ F'.1.cls ≠ "java/lang/invoke/VarHandle" ∧ (parseMethodDescriptor F'.1.desc).map (fun d => d.parameters.length) = some As.length) (hdep : d' + 1 ≤ d ∧ F'.2.2.1 ≤ 45) (hst : (st.map fun v => v.category).sum ≤ 8) (hk : mc ≤ k) (hn : ms ≤ n) (hstk : stk = As.reverse ++ .ref a :: st)
    (kx : ∀ E h', X' E h' → zVX G F d pc L h' (k - mc) (n - ms) E Q X) (kk : ∀ v h', Q' v h' → zV G F d (pc + 3) L (v.toList ++ st) h' (k - mc) (n - ms) Q X) : zV G F d pc L stk h k n Q X := by
  intro p l e R s m args below meth c H locs cells slots ls ec es C h1 h2 hW hS hL
  have b1 := C.2.2.2.2.2.2.2.2.2.2.2.1
  have b2 := C.2.2.2.2.2.2.2.2.2.2.2.2.1
  have b3 := C.2.2.2.2.2.2.2.2.2.2.2.2.2.1
  have b4 := C.2.2.2.2.2.2.2.2.2.2.2.2.2.2
  have hM2 := hM l C.1
  have hts := C.2.2.2.2.2.2.2.2.2.1
  have hws : zws F' = Cond.code F'.1 F'.2.1 F'.2.2.1 none :: lw_all := by show Cond.code F'.1 F'.2.1 F'.2.2.1 F'.2.2.2.1 :: lw_all = _; rw [hr]
  refine z_back (vx_runI (As := As) (rest := st) (b := a) (bytes := F'.2.1) (maxL := F'.2.2.1) ⟨C.2.1, C.2.2.1, C.2.2.2.1, C.2.2.2.2.2.2.1, hts⟩ hM2 (cwI As.length hts (by rw [hws]; exact lw_meth hcode) hws rfl rfl (hts _ hini) (hts _ hlink) (hts _ hinst) hd.1 hd.2 ⟨by dsimp only; omega, by dsimp only; omega⟩) ⟨zPc.blind, fun U hU hw => zPc.at C.2.2.2.2.2.2.2.2.2.2.1 hS hW hU hw⟩ rfl rfl hL.1 hstk (lv_room hst) dd ⟨by omega, by omega⟩) C h1 h2 hS hL hk hn kx kk
end Rows
