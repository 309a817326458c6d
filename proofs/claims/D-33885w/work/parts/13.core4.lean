/-! THE LOGIC zV, part 4: calls that land in an interface's default, interface calls, nest mates, throwing -/
set_option maxRecDepth 100000
theorem zCon.met {G : zE} {F : zF} {d mc ms : Nat} {as : List Value} {h : zH} {Q : Option Value → zH → Prop} (hM : zCon G F d mc ms as h Q (fun _ _ => False)) {l : Launch} (hl : l.stackTraces = false) : Met l F.1 (zws F) ({ frames := d, cells := mc, slots := ms, locals := 64 * d }) (zPc G as h) (zQ G Q) mc ms (zB G) := by
  intro p e ha hc hk s m args below hf happ hP hK
  obtain ⟨n, o, h1, h2, h3, h4⟩ := hM l hl p e ha hc hk s m args below hf happ hP hK
  refine ⟨n, o, h1, h2, h3, ?_⟩
  rcases h4 with h4 | ⟨q, _, E, ce, L, ⟨⟨h', hx, _⟩, _⟩, _⟩
  · exact h4
  · exact absurd hx id
section Rows
variable {G : zE} {F : zF} {d pc k n : Nat} {L : List (Option Value)} {st : List Value} {h : zH} {Q : Option Value → zH → Prop} {X : String → zH → Prop} {a : Nat}
variable {stk : List Value} {d' mc ms index : Nat} {F' : zF} {As : List Value} {Q' : Option Value → zH → Prop} {X' : String → zH → Prop}
/-- a virtual call that lands in an interface's default -/
theorem z_callD {ci : Nat} {q : vw_C} {ty : Nat → FieldType} (cf : zCF ci q ty) {fs : List Value} {x : MethodName} {owner : String} (hM : zCon G F' d' mc ms (.ref a :: As) h Q' (fun _ _ => False)) (dd : decode F.2.1 pc = .ok (.invokevirtual index, 3))
    (hz : ∀ (U : State) (H : Heap), G.2.2 U H → va_Nw (.methodLink F.1.cls index x) U ∧ va_Nw (.sameMethod x.cls owner x.name x.desc) U ∧ va_Nw (.declares ⟨owner, x.name, x.desc⟩) U ∧ va_Nw (.landsInDefault q.1 x F'.1) U) (hinst : Cond.instanceMethod F'.1 ∈ lw_all) (hini : Cond.initialized F'.1.cls ∈ lw_all) (hcode : Cond.code F'.1 F'.2.1 F'.2.2.1 F'.2.2.2.1 ∈ lw_all)
    (hd : owner ≠ "java/lang/invoke/MethodHandle" ∧ owner ≠ "java/lang/invoke/VarHandle" ∧ (parseMethodDescriptor x.desc).map (fun d => d.parameters.length) = some As.length) (hdep : d' + 1 ≤ d ∧ F'.2.2.1 ≤ 45) (hst : (st.map fun v => v.category).sum ≤ 8) (ha : h a = some (.inr (ci, fs))) (hk : mc ≤ k) (hn : ms ≤ n) (hstk : stk = As.reverse ++ .ref a :: st)
    (kk : ∀ v h', Q' v h' → zV G F d (pc + 3) L (v.toList ++ st) h' (k - mc) (n - ms) Q X) : zV G F d pc L stk h k n Q X := by
  intro p l e R s m args below meth c H locs cells slots ls ec es C h1 h2 hW hS hL
  have hW0 := hW
  obtain ⟨ws, hP, hD, hs⟩ := hW
  obtain ⟨i, hi⟩ := hs _ _ ha
  have b1 := C.2.2.2.2.2.2.2.2.2.2.2.1
  have b2 := C.2.2.2.2.2.2.2.2.2.2.2.2.1
  have b3 := C.2.2.2.2.2.2.2.2.2.2.2.2.2.1
  have b4 := C.2.2.2.2.2.2.2.2.2.2.2.2.2.2
  have hts := C.2.2.2.2.2.2.2.2.2.1
  obtain ⟨z1, z2, z3, z4⟩ := hz _ _ C.2.2.2.2.2.2.2.2.2.2.1.2.1
  obtain ⟨cellB, hcB, hoB, hclB⟩ := va_recv C.2.2.2.2.2.2.2.2.2.2.1.1 hP cf.1 hi
  have hK : Back l R p e below s args F'.1 3 8 (PreOf R mc ms (zPc G (.ref a :: As) h)) (PostOf (zQ G Q') mc ms (zB G)) := back_of (bytes := F'.2.1) (maxL := F'.2.2.1) (ret := F'.2.2.2.1) (hM.met C.1) zPc.blind rfl rfl (by dsimp only; omega) (by dsimp only; omega) (pay_in hts (lw_meth hcode)) List.mem_cons_self (fun a' U hW9 => word_at hW9 (Or.inl (by first | rfl | simp [Cond.onTables, Cond.keeps, Cond.steady])) (hts _ hini))
  have hr : vx_Run p l e R s m args below meth c H locs cells slots mc ms (F0 m pc ls stk) st (zQ G Q' (Value.ref a :: As).toArray) (zXC G (fun _ _ => False)) (zB G) := by
    intro T hT XX
    obtain ⟨v, vm₁, ⟨U', l2, c2, s2⟩, hW₁, X9, ⟨g', mk, t, L9, e1, e2, hq, g1, hL9, g2, g3⟩, sts⟩ := XX.virtualBackUpD C.2.1 C.2.2.2.2.2.2.1 (va_Nw.use rfl z1) (va_Nw.use rfl z2) (va_Nw.use rfl z3) ⟨hd.1, hd.2.1⟩ z4 (hts _ hinst) hK (b := a) hclB ⟨cellB, by rw [hT]; exact hcB, rfl, hoB⟩ (g := F0 m pc ls stk) rfl (hL.1.trans C.2.2.2.1.symm) (Steps.refl _) (argsL := As) (rest := st)
      (fun sig h9 => by have h8 := hd.2.2; rw [h9] at h8; exact (Option.some.inj h8).symm) hstk (lv_room hst) (by rw [C.2.2.1]; exact dd) (fun vm₁ hW₁ => ⟨by dsimp only [Pt.cells]; omega, by dsimp only [Pt.slots]; omega, zPc.at C.2.2.2.2.2.2.2.2.2.2.1 hS hW0 hT hW₁⟩)
    dsimp only [Pt.U, Pt.locs, Pt.cells, Pt.slots] at X9 e1 e2 g1 g2 g3 sts
    subst g1; subst g2; subst g3
    exact Or.inl ⟨v, (T.setVm vm₁).calling g' mk (Value.ref a :: As).toArray, t, U', L9, hT, X9, hL9, e1, e2, hq, fun tg h9 => sts.trans h9⟩
  exact z_back hr C h1 h2 hS hL hk hn (fun _ _ hx => absurd hx id) kk
/-- an interface call that lands in a default -/
theorem z_callFD {count ci : Nat} {q : vw_C} {ty : Nat → FieldType} (cf : zCF ci q ty) {fs : List Value} {x : MethodName} (hM : zCon G F' d' mc ms (.ref a :: As) h Q' (fun _ _ => False)) (dd : decode F.2.1 pc = .ok (.invokeinterface index count, 5)) (hlink : Cond.methodLink F.1.cls index x ∈ lw_all)
    (hz : ∀ (U : State) (H : Heap), G.2.2 U H → va_Nw (.landsInDefault q.1 x F'.1) U ∧ va_Fw q.1 x F'.1 U) (hinst : Cond.instanceMethod F'.1 ∈ lw_all) (hini : Cond.initialized F'.1.cls ∈ lw_all) (hcode : Cond.code F'.1 F'.2.1 F'.2.2.1 F'.2.2.2.1 ∈ lw_all)
    (hd : x.cls ≠ "java/lang/invoke/MethodHandle" ∧ x.cls ≠ "java/lang/invoke/VarHandle" ∧ (parseMethodDescriptor x.desc).map (fun d => d.parameters.length) = some As.length) (hdep : d' + 1 ≤ d ∧ F'.2.2.1 ≤ 45) (hst : (st.map fun v => v.category).sum ≤ 8) (ha : h a = some (.inr (ci, fs))) (hk : mc ≤ k) (hn : ms ≤ n) (hstk : stk = As.reverse ++ .ref a :: st)
    (kk : ∀ v h', Q' v h' → zV G F d (pc + 5) L (v.toList ++ st) h' (k - mc) (n - ms) Q X) : zV G F d pc L stk h k n Q X := by
  intro p l e R s m args below meth c H locs cells slots ls ec es C h1 h2 hW hS hL
  have hW0 := hW
  obtain ⟨ws, hP, hD, hs⟩ := hW
  obtain ⟨i, hi⟩ := hs _ _ ha
  have b1 := C.2.2.2.2.2.2.2.2.2.2.2.1
  have b2 := C.2.2.2.2.2.2.2.2.2.2.2.2.1
  have b3 := C.2.2.2.2.2.2.2.2.2.2.2.2.2.1
  have b4 := C.2.2.2.2.2.2.2.2.2.2.2.2.2.2
  have hts := C.2.2.2.2.2.2.2.2.2.1
  obtain ⟨z1, y1, y2, y3, y4, y5⟩ := hz _ _ C.2.2.2.2.2.2.2.2.2.2.1.2.1
  obtain ⟨cellB, hcB, hoB, hclB⟩ := va_recv C.2.2.2.2.2.2.2.2.2.2.1.1 hP cf.1 hi
  obtain ⟨hfc, kB, hkB, -⟩ := (C.2.2.2.2.2.2.2.2.2.2.1.1.1 ci q cf.1).2
  have hK : Back l R p e below s args F'.1 5 8 (PreOf R mc ms (zPc G (.ref a :: As) h)) (PostOf (zQ G Q') mc ms (zB G)) := back_of (bytes := F'.2.1) (maxL := F'.2.2.1) (ret := F'.2.2.2.1) (hM.met C.1) zPc.blind rfl rfl (by dsimp only; omega) (by dsimp only; omega) (pay_in hts (lw_meth hcode)) List.mem_cons_self (fun a' U hW9 => word_at hW9 (Or.inl (by first | rfl | simp [Cond.onTables, Cond.keeps, Cond.steady])) (hts _ hini))
  have hr : vx_Run5 p l e R s m args below meth c H locs cells slots mc ms (F0 m pc ls stk) st (zQ G Q' (Value.ref a :: As).toArray) (zXC G (fun _ _ => False)) (zB G) := by
    intro T hT XX
    obtain ⟨v, vm₁, ⟨U', l2, c2, s2⟩, hW₁, X9, ⟨g', mk, t, L9, e1, e2, hq, g1, hL9, g2, g3⟩, sts⟩ := XX.interfaceBackD C.2.1 C.2.2.2.2.2.2.1 (hts _ hlink) (va_Nw.use rfl y1) (va_Nw.use rfl y2) z1 (hts _ hinst) (va_Nw.use rfl y3) (va_Nw.use rfl y5) ⟨hd.1, hd.2.1⟩ hK (b := a) hfc hkB ⟨cellB, by rw [hT]; exact hcB, (Option.some.inj (hfc.symm.trans hclB)).symm, hoB⟩ (g := F0 m pc ls stk) rfl (hL.1.trans C.2.2.2.1.symm) (Steps.refl _) (argsL := As) (rest := st)
      (fun sig h9 => by have h8 := hd.2.2; rw [h9] at h8; exact (Option.some.inj h8).symm) hstk (lv_room hst) (by rw [C.2.2.1]; exact dd) (fun vm₁ hW₁ => ⟨by dsimp only [Pt.cells]; omega, by dsimp only [Pt.slots]; omega, zPc.at C.2.2.2.2.2.2.2.2.2.2.1 hS hW0 hT hW₁⟩)
    dsimp only [Pt.U, Pt.locs, Pt.cells, Pt.slots] at X9 e1 e2 g1 g2 g3 sts
    subst g1; subst g2; subst g3
    exact Or.inl ⟨v, (T.setVm vm₁).calling g' mk (Value.ref a :: As).toArray, t, U', L9, hT, X9, hL9, e1, e2, hq, fun tg h9 => sts.trans h9⟩
  exact z_back5 hr C h1 h2 hS hL hk hn (fun _ _ hx => absurd hx id) kk
/-- an interface call that the receiver's class answers -/
theorem z_callF {count ci : Nat} {q : vw_C} {ty : Nat → FieldType} (cf : zCF ci q ty) {fs : List Value} {x : MethodName} (hM : zCon G F' d' mc ms (.ref a :: As) h Q' X') (dd : decode F.2.1 pc = .ok (.invokeinterface index count, 5)) (hlink : Cond.methodLink F.1.cls index x ∈ lw_all) (hsel : Cond.selects q.1 x F'.1 ∈ lw_all)
    (hz : ∀ (U : State) (H : Heap), G.2.2 U H → va_Fw q.1 x F'.1 U) (hinst : Cond.instanceMethod F'.1 ∈ lw_all) (hini : Cond.initialized F'.1.cls ∈ lw_all) (hcode : Cond.code F'.1 F'.2.1 F'.2.2.1 F'.2.2.2.1 ∈ lw_all)
    (hd : x.cls ≠ "java/lang/invoke/MethodHandle" ∧ x.cls ≠ "java/lang/invoke/VarHandle" ∧ (parseMethodDescriptor x.desc).map (fun d => d.parameters.length) = some As.length) (hdep : d' + 1 ≤ d ∧ F'.2.2.1 ≤ 45) (hst : (st.map fun v => v.category).sum ≤ 8) (ha : h a = some (.inr (ci, fs))) (hk : mc ≤ k) (hn : ms ≤ n) (hstk : stk = As.reverse ++ .ref a :: st)
    (kx : ∀ E h', X' E h' → zVX G F d pc L h' (k - mc) (n - ms) E Q X) (kk : ∀ v h', Q' v h' → zV G F d (pc + 5) L (v.toList ++ st) h' (k - mc) (n - ms) Q X) : zV G F d pc L stk h k n Q X := by
  intro p l e R s m args below meth c H locs cells slots ls ec es C h1 h2 hW hS hL
  have hW0 := hW
  obtain ⟨ws, hP, hD, hs⟩ := hW
  obtain ⟨i, hi⟩ := hs _ _ ha
  have b1 := C.2.2.2.2.2.2.2.2.2.2.2.1
  have b2 := C.2.2.2.2.2.2.2.2.2.2.2.2.1
  have b3 := C.2.2.2.2.2.2.2.2.2.2.2.2.2.1
  have b4 := C.2.2.2.2.2.2.2.2.2.2.2.2.2.2
  have hts := C.2.2.2.2.2.2.2.2.2.1
  have hT9 : GoodIn lw_all (va_wsF F.1.cls index q.1 x F'.1 (zws F')) := by
    refine lw_app ?_ (lw_meth hcode)
    intro w hw
    simp only [List.mem_cons, List.not_mem_nil, or_false] at hw
    rcases hw with e9 | e9 | e9 | e9
    · rw [e9]; exact hlink
    · rw [e9]; exact hsel
    · rw [e9]; exact hinst
    · rw [e9]; exact hini
  refine z_back5 (vx_runF (C := q.1) (x := x) (As := As) (rest := st) (b := a) (C.2.2.2.2.2.2.2.2.2.2.1.1.1 ci q cf.1).2 ⟨C.2.1, C.2.2.1, C.2.2.2.1, C.2.2.2.2.2.2.1, hts⟩ (hM l C.1) (va_cwF As.length hts hT9 rfl rfl rfl (hz _ _ C.2.2.2.2.2.2.2.2.2.2.1.2.1) hd ⟨by dsimp only; omega, by dsimp only; omega⟩) ⟨zPc.blind, va_recv C.2.2.2.2.2.2.2.2.2.2.1.1 hP cf.1 hi, fun U hU hw => zPc.at C.2.2.2.2.2.2.2.2.2.2.1 hS hW0 hU hw⟩ rfl rfl hL.1 hstk (lv_room hst) dd ⟨by omega, by omega⟩) C h1 h2 hS hL hk hn kx kk
/-- a nest mate's private method, called virtually -/
theorem z_callVN {host : String} {ci : Nat} {q : vw_C} {ty : Nat → FieldType} (cf : zCF ci q ty) {fs : List Value} (hM : zCon G F' d' mc ms (.ref a :: As) h Q' X') (dd : decode F.2.1 pc = .ok (.invokevirtual index, 3)) (hz : ∀ (U : State) (H : Heap), G.2.2 U H → va_Nw (.methodLinkNest F.1.cls index F'.1 host) U) (hinst : Cond.instanceMethod F'.1 ∈ lw_all) (hsel : Cond.selects q.1 F'.1 F'.1 ∈ lw_all) (hini : Cond.initialized F'.1.cls ∈ lw_all) (hcode : Cond.code F'.1 F'.2.1 F'.2.2.1 F'.2.2.2.1 ∈ lw_all)
    (hd : F'.1.cls ≠ "java/lang/invoke/MethodHandle" ∧ F'.1.cls ≠ "java/lang/invoke/VarHandle" ∧ (parseMethodDescriptor F'.1.desc).map (fun d => d.parameters.length) = some As.length) (hdep : d' + 1 ≤ d ∧ F'.2.2.1 ≤ 45) (hst : (st.map fun v => v.category).sum ≤ 8) (ha : h a = some (.inr (ci, fs))) (hk : mc ≤ k) (hn : ms ≤ n) (hstk : stk = As.reverse ++ .ref a :: st)
    (kx : ∀ E h', X' E h' → zVX G F d pc L h' (k - mc) (n - ms) E Q X) (kk : ∀ v h', Q' v h' → zV G F d (pc + 3) L (v.toList ++ st) h' (k - mc) (n - ms) Q X) : zV G F d pc L stk h k n Q X := by
  intro p l e R s m args below meth c H locs cells slots ls ec es C h1 h2 hW hS hL
  have hW0 := hW
  obtain ⟨ws, hP, hD, hs⟩ := hW
  obtain ⟨i, hi⟩ := hs _ _ ha
  have b1 := C.2.2.2.2.2.2.2.2.2.2.2.1
  have b2 := C.2.2.2.2.2.2.2.2.2.2.2.2.1
  have b3 := C.2.2.2.2.2.2.2.2.2.2.2.2.2.1
  have b4 := C.2.2.2.2.2.2.2.2.2.2.2.2.2.2
  have hts := C.2.2.2.2.2.2.2.2.2.1
  refine z_back (vx_runVN (C := q.1) (As := As) (rest := st) (b := a) ⟨C.2.1, C.2.2.1, C.2.2.2.1, C.2.2.2.2.2.2.1, hts⟩ (hM l C.1) ⟨va_cnB As.length hts (lw_meth hcode) rfl rfl rfl (hz _ _ C.2.2.2.2.2.2.2.2.2.2.1.2.1) (hts _ hini) hd ⟨by dsimp only; omega, by dsimp only; omega⟩, hts _ hinst, hts _ hsel⟩ ⟨zPc.blind, va_recv C.2.2.2.2.2.2.2.2.2.2.1.1 hP cf.1 hi, fun U hU hw => zPc.at C.2.2.2.2.2.2.2.2.2.2.1 hS hW0 hU hw⟩ rfl rfl hL.1 hstk (lv_room hst) dd ⟨by omega, by omega⟩) C h1 h2 hS hL hk hn kx kk
/-- a nest mate's private constructor -/
theorem z_callIN {host : String} (hM : zCon G F' d' mc ms (.ref a :: As) h Q' X') (dd : decode F.2.1 pc = .ok (.invokespecial index, 3)) (hz : ∀ (U : State) (H : Heap), G.2.2 U H → va_Nw (.methodLinkNest F.1.cls index F'.1 host) U) (hinst : Cond.instanceMethod F'.1 ∈ lw_all) (hini : Cond.initialized F'.1.cls ∈ lw_all) (hr : F'.2.2.2.1 = none) (hcode : Cond.code F'.1 F'.2.1 F'.2.2.1 none ∈ lw_all)
    (hd : F'.1.name = "<init>" ∧ F'.1.cls ≠ "java/lang/invoke/MethodHandle" ∧ F'.1.cls ≠ "java/lang/invoke/VarHandle" ∧ (parseMethodDescriptor F'.1.desc).map (fun d => d.parameters.length) = some As.length) (hdep : d' + 1 ≤ d ∧ F'.2.2.1 ≤ 45) (hst : (st.map fun v => v.category).sum ≤ 8) (hk : mc ≤ k) (hn : ms ≤ n) (hstk : stk = As.reverse ++ .ref a :: st)
    (kx : ∀ E h', X' E h' → zVX G F d pc L h' (k - mc) (n - ms) E Q X) (kk : ∀ v h', Q' v h' → zV G F d (pc + 3) L (v.toList ++ st) h' (k - mc) (n - ms) Q X) : zV G F d pc L stk h k n Q X := by
  intro p l e R s m args below meth c H locs cells slots ls ec es C h1 h2 hW hS hL
  have b1 := C.2.2.2.2.2.2.2.2.2.2.2.1
  have b2 := C.2.2.2.2.2.2.2.2.2.2.2.2.1
  have b3 := C.2.2.2.2.2.2.2.2.2.2.2.2.2.1
  have b4 := C.2.2.2.2.2.2.2.2.2.2.2.2.2.2
  have hts := C.2.2.2.2.2.2.2.2.2.1
  have hws : zws F' = Cond.code F'.1 F'.2.1 F'.2.2.1 none :: lw_all := by show Cond.code F'.1 F'.2.1 F'.2.2.1 F'.2.2.2.1 :: lw_all = _; rw [hr]
  refine z_back (vx_runIN (As := As) (rest := st) (b := a) (bytes := F'.2.1) (maxL := F'.2.2.1) ⟨C.2.1, C.2.2.1, C.2.2.2.1, C.2.2.2.2.2.2.1, hts⟩ (hM l C.1) ⟨va_cnB As.length hts (by rw [hws]; exact lw_meth hcode) hws rfl rfl (hz _ _ C.2.2.2.2.2.2.2.2.2.2.1.2.1) (hts _ hini) hd.2 ⟨by dsimp only; omega, by dsimp only; omega⟩, hd.1, hts _ hinst⟩ ⟨zPc.blind, fun U hU hw => zPc.at C.2.2.2.2.2.2.2.2.2.2.1 hS hW hU hw⟩ rfl rfl hL.1 hstk (lv_room hst) dd ⟨by omega, by omega⟩) C h1 h2 hS hL hk hn kx kk
/-- throw new E(): new; dup; invokespecial; athrow -/
theorem z_throw0 {cls : String} {names : List String} {ik ic : Nat} (hh : F.2.2.2.2 = []) (hcls : Bundle.fit cls = true) (hnames : ∀ n ∈ names, Bundle.fit n = true)
    (hk9 : Cond.classLink F.1.cls ik cls ∈ lw_all) (hini : Cond.initialized cls ∈ lw_all) (hat : ∀ w ∈ vx_at0 F.1.cls ic cls names, w ∈ lw_all)
    (hgood : ∀ w ∈ Cond.classLink F.1.cls ik cls :: Cond.initialized cls :: vx_at0 F.1.cls ic cls names, vx_ot w = true)
    (hz : ∀ (U : State) (H : Heap), G.2.2 U H → vx_Zq Bundle.tN "UNASSIGNED_STACK" Bundle.steD (zB G) U H ∧ vx_Zq Bundle.tN "SUPPRESSED_SENTINEL" Bundle.listD (zB G) U H)
    (d0 : decode F.2.1 pc = .ok (.new ik, 3)) (d3 : decode F.2.1 (pc + 3) = .ok (.dup, 1)) (d4 : decode F.2.1 (pc + 4) = .ok (.invokespecial ic, 3)) (d7 : decode F.2.1 (pc + 7) = .ok (.athrow, 1))
    (hdep : names.length + 4 ≤ d ∧ 13 * (names.length + 1) + 42 + (st.map fun v => v.category).sum ≤ 64 * d) (hk : 1 ≤ k) (hn : 6 ≤ n) (hx : X cls h) : zV G F d pc L st h k n Q X := by
  intro p l e R s m args below meth c H locs cells slots ls ec es C h1 h2 hW hS hL
  have b1 := C.2.2.2.2.2.2.2.2.2.2.2.1
  have b2 := C.2.2.2.2.2.2.2.2.2.2.2.2.1
  have b3 := C.2.2.2.2.2.2.2.2.2.2.2.2.2.1
  have b4 := C.2.2.2.2.2.2.2.2.2.2.2.2.2.2
  have hts := C.2.2.2.2.2.2.2.2.2.1
  obtain ⟨z1, z2⟩ := hz _ _ C.2.2.2.2.2.2.2.2.2.2.1.2.1
  refine vx_throw0 (A := zB G) C.2.1 C.2.2.1 C.1 C.2.2.2.2.2.2.1 hcls hnames (hts _ hk9) (hts _ hini) (fun w hw => hts _ (hat w hw)) hgood z1 z2 hS (hL.1.trans C.2.2.2.1.symm) d0 d3 d4 d7 (fun x hx9 => ?_) (by omega) (by omega) (by omega) (by omega) C.2.2.2.2.2.1 (fun t ht hz9 hk9 => ?_) hS.2.2 (by omega) (by omega)
  · rw [C.2.2.2.2.2.2.2.2.1, hh] at hx9
    exact absurd hx9 List.not_mem_nil
  · obtain ⟨ws, hP, hD, hs⟩ := hW
    refine ⟨⟨h, hx, ws, fun i9 q9 hq9 => (hP i9 q9 hq9).kept (hk9 q9.1 (hP i9 q9 hq9).lt), hD, hs⟩, Nat.le_trans hS.1 hz9, fun q9 hq9 hb9 => ?_⟩
    rw [hk9 q9 (Nat.lt_of_lt_of_le hq9 hS.1)]
    exact hS.2.1 q9 hq9 hb9
end Rows
