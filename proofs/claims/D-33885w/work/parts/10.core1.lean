/-! THE LOGIC zV: a method's walk over a map of cells (zH), on the kit's rows. zE: the kit's va_G, names of numbers (0: the base of our cells, 1..4: classes of the int, byte, long, Object arrays, further ones: addresses), and what else holds of every state (static fields, words that don't ride) -/
set_option maxRecDepth 100000
abbrev zcl : List vw_C := [(RX1, TX1, 7), (RX2, TX2, 14), (RX4, TX4, 2), (RX5, TX5, 5), (RX6, TX6, 3), (RX7, TX7, 5), (RX9, TX9, 5), (RX3, TX3, 13), (RJ2, TJ2, 3), (RJ4, TJ4, 4), (RJ5, TJ5, 4)]
abbrev zE : Type := va_G × (Nat → Nat) × (State → Heap → Prop)
abbrev zH : Type := Nat → Option va_E
abbrev zF : Type := MethodName × ByteArray × Nat × Option FieldType × List (Nat × Nat × Nat × Nat)
def zB (G : zE) : Nat → Prop := fun q => G.2.1 0 ≤ q
abbrev zty (G : zE) : List (ClassId × FieldType) := [(G.2.1 1, .int), (G.2.1 2, .byte), (G.2.1 3, .long), (G.2.1 4, .object "java/lang/Object")]
def zKok (G : zE) : Prop := (∀ (u U : State) (H : Heap), u.WarmedH U.vm → G.2.2 u H → G.2.2 U H) ∧ (∀ (U : State) (H H1 : Heap), (∀ a : Nat, a < H.size → ¬ zB G a → H1[a]? = H[a]?) → G.2.2 U H → G.2.2 U H1)
def zS (G : zE) (U : State) (H : Heap) : Prop := va_K G.1 zcl (zty G) U ∧ G.2.2 U H ∧ zKok G ∧ G.2.1 0 ≤ H.size
def zSub (h : zH) (ws : va_W) : Prop := ∀ (a : Nat) (e : va_E), h a = some e → ∃ i : Nat, ws[i]? = some (a, e)
def zW (G : zE) (h : zH) (H : Heap) : Prop := ∃ ws, va_P G.1 zcl ws H ∧ va_D (zB G) ws ∧ zSub h ws
def zQ (G : zE) (Q : Option Value → zH → Prop) : Array Value → State → Outcome → State → Prop := fun _ st oc t => (∃ (v : Option Value) (h : zH), oc = .returned v ∧ Q v h ∧ zW G h t.heap) ∧ va_F (zB G) st t
def zXC (G : zE) (X : String → zH → Prop) : String → State → State → Prop := fun E st t => (∃ h : zH, X E h ∧ zW G h t.heap) ∧ va_F (zB G) st t
def zLs (ls : Array Slot) (nL : Nat) (L : List (Option Value)) : Prop := ls.size = nL ∧ lv_wf ls ∧ L.length = nL ∧ ∀ (i : Nat) (v : Value), L[i]? = some (some v) → ls[i]? = some (.val v) ∧ v.category = 1
abbrev zws (F : zF) : List Cond := ws_ F.1 F.2.1 F.2.2.1 F.2.2.2.1
abbrev zwsW (F : zF) : List Cond := wsW_ F.1 F.2.1 F.2.2.1 F.2.2.2.1 F.2.2.2.2
/-- what stays as it is in one method's walk -/
def zC (G : zE) (F : zF) (d ec es : Nat) (p : Program) (l : Launch) (R : Room) (s : State) (m : MethodId) (args : Array Value) (meth : Method) (c : Code) : Prop :=
  l.stackTraces = false ∧ p.tables.exec = Jvm.exec ∧ c.code = F.2.1 ∧ c.maxLocals = F.2.2.1 ∧ meth.sig.returnType = F.2.2.2.1 ∧ meth.locks = false ∧ s.vm.findClass F.1.cls = some m.cls ∧ meth.name = F.1.name ∧ c.exceptionTable.toList = tableOf F.2.2.2.2 ∧ (∀ w ∈ lw_all, w.before args s = true) ∧ zS G s s.heap ∧ d ≤ R.frames ∧ 64 * d ≤ R.locals ∧ ec ≤ R.cells ∧ es ≤ R.slots
def zV (G : zE) (F : zF) (d pc : Nat) (L : List (Option Value)) (st : List Value) (h : zH) (k n : Nat) (Q : Option Value → zH → Prop) (X : String → zH → Prop) : Prop :=
  ∀ (p : Program) (l : Launch) (e : Env) (R : Room) (s : State) (m : MethodId) (args : Array Value) (below : List Frame) (meth : Method) (c : Code) (H : Heap) (locs : List Loc) (cells slots : Nat) (ls : Array Slot) (ec es : Nat),
    zC G F d ec es p l R s m args meth c → cells + k = ec → slots + n = es → zW G h H → va_S (zB G) s.heap H locs → zLs ls F.2.2.1 L →
    W p l e R s m args below meth c H locs cells slots (vx_MQ below (zQ G Q) (zXC G X) args s ec es (zB G)) (F0 m pc ls st)
/-- an exception of class E over the frame at pc -/
def zVX (G : zE) (F : zF) (d pc : Nat) (L : List (Option Value)) (h : zH) (k n : Nat) (E : String) (Q : Option Value → zH → Prop) (X : String → zH → Prop) : Prop :=
  ∀ (p : Program) (l : Launch) (e : Env) (R : Room) (s : State) (m : MethodId) (args : Array Value) (below : List Frame) (meth : Method) (c : Code) (H : Heap) (locs : List Loc) (cells slots : Nat) (ls : Array Slot) (ec es : Nat) (rest : List Value) (ce : Cell) (q : Addr),
    zC G F d ec es p l R s m args meth c → cells + k = ec → slots + n = es → zW G h H → va_S (zB G) s.heap H locs → zLs ls F.2.2.1 L → H[q]? = some ce → ce.vm = .none → s.vm.findClass E = some ce.cls →
    vx_W p l e R s m args below meth c H locs cells slots (vx_MQ below (zQ G Q) (zXC G X) args s ec es (zB G)) (F0 m pc ls rest) q
/-- a contract -/
def zPc (G : zE) (as : List Value) (h : zH) : Array Value → State → Prop := va_Pc as (fun U => zS G U U.heap ∧ zW G h U.heap)
def zCon (G : zE) (F : zF) (d mc ms : Nat) (as : List Value) (h : zH) (Q : Option Value → zH → Prop) (X : String → zH → Prop) : Prop :=
  ∀ l : Launch, l.stackTraces = false → vx_Met l F.1 (zws F) ({ frames := d, cells := mc, slots := ms, locals := 64 * d }) (zPc G as h) (zQ G Q) (zXC G X) mc ms (zB G)
def zConW (G : zE) (F : zF) (d mc ms : Nat) (as : List Value) (h : zH) (Q : Option Value → zH → Prop) (X : String → zH → Prop) : Prop :=
  ∀ l : Launch, l.stackTraces = false → vx_Met l F.1 (zwsW F) ({ frames := d, cells := mc, slots := ms, locals := 64 * d }) (zPc G as h) (zQ G Q) (zXC G X) mc ms (zB G)
section Rows
variable {G : zE} {F : zF} {d pc k n : Nat} {L : List (Option Value)} {st : List Value} {h : zH} {Q : Option Value → zH → Prop} {X : String → zH → Prop}
theorem zV.widen {k' n' : Nat} (hk : k' ≤ k) (hn : n' ≤ n) (kk : zV G F d pc L st h k' n' Q X) : zV G F d pc L st h k n Q X := by
  intro p l e R s m args below meth c H locs cells slots ls ec es C h1 h2 hW hS hL
  exact W.widen (k := cells + (k - k')) (n := slots + (n - n')) (Nat.le_add_right _ _) (Nat.le_add_right _ _) (kk p l e R s m args below meth c H locs _ _ ls ec es C (by omega) (by omega) hW hS hL)
theorem zV.cons {Q' : Option Value → zH → Prop} {X' : String → zH → Prop} (kk : zV G F d pc L st h k n Q' X') (hQ : ∀ v h', Q' v h' → Q v h') (hX : ∀ E h', X' E h' → X E h') : zV G F d pc L st h k n Q X := by
  intro p l e R s m args below meth c H locs cells slots ls ec es C h1 h2 hW hS hL T hT XX
  obtain ⟨t, a, o, b1, b2, b3⟩ := kk p l e R s m args below meth c H locs cells slots ls ec es C h1 h2 hW hS hL T hT XX
  refine ⟨t, a, o, b1, b2, ?_⟩
  rcases b3 with ⟨⟨⟨v, h', q1, q2, q3⟩, q4⟩, q5⟩ | ⟨q, q1, E, ce, Lc, ⟨⟨h', q2, q3⟩, q4⟩, q5⟩
  · exact Or.inl ⟨⟨⟨v, h', q1, hQ _ _ q2, q3⟩, q4⟩, q5⟩
  · exact Or.inr ⟨q, q1, E, ce, Lc, ⟨⟨h', hX _ _ q2, q3⟩, q4⟩, q5⟩

theorem z_iconst {z : Int} {v : Int32} (dd : decode F.2.1 pc = .ok (.iconst z, 1)) (hv : Int32.ofInt z = v) (kk : zV G F d (pc + 1) L (.int v :: st) h k n Q X) : zV G F d pc L st h k n Q X := by
  intro p l e R s m args below meth c H locs cells slots ls ec es C h1 h2 hW hS hL
  exact lv_iconst C.2.1 C.2.2.1 dd hv (kk p l e R s m args below meth c H locs cells slots ls ec es C h1 h2 hW hS hL)
theorem z_bipush {z : Int} {v : Int32} (dd : decode F.2.1 pc = .ok (.bipush z, 2)) (hv : (Int8.ofInt z).toInt32 = v) (kk : zV G F d (pc + 2) L (.int v :: st) h k n Q X) : zV G F d pc L st h k n Q X := by
  intro p l e R s m args below meth c H locs cells slots ls ec es C h1 h2 hW hS hL
  exact lv_bipush C.2.1 C.2.2.1 dd hv (kk p l e R s m args below meth c H locs cells slots ls ec es C h1 h2 hW hS hL)
theorem z_sipush {z : Int} {v : Int32} (dd : decode F.2.1 pc = .ok (.sipush z, 3)) (hv : (Int16.ofInt z).toInt32 = v) (kk : zV G F d (pc + 3) L (.int v :: st) h k n Q X) : zV G F d pc L st h k n Q X := by
  intro p l e R s m args below meth c H locs cells slots ls ec es C h1 h2 hW hS hL
  exact lv_sipush C.2.1 C.2.2.1 dd hv (kk p l e R s m args below meth c H locs cells slots ls ec es C h1 h2 hW hS hL)
theorem z_lconst {z : Fin 2} {v : Int64} (dd : decode F.2.1 pc = .ok (.lconst z, 1)) (hv : Int64.ofNat (z : Nat) = v) (kk : zV G F d (pc + 1) L (.long v :: st) h k n Q X) : zV G F d pc L st h k n Q X := by
  intro p l e R s m args below meth c H locs cells slots ls ec es C h1 h2 hW hS hL
  exact lv_lconst C.2.1 C.2.2.1 dd hv (kk p l e R s m args below meth c H locs cells slots ls ec es C h1 h2 hW hS hL)
theorem z_null (dd : decode F.2.1 pc = .ok (.aconst_null, 1)) (kk : zV G F d (pc + 1) L (.null :: st) h k n Q X) : zV G F d pc L st h k n Q X := by
  intro p l e R s m args below meth c H locs cells slots ls ec es C h1 h2 hW hS hL
  exact lv_null C.2.1 C.2.2.1 dd (kk p l e R s m args below meth c H locs cells slots ls ec es C h1 h2 hW hS hL)
theorem z_ldc {i : Nat} {v : Int32} (dd : decode F.2.1 pc = .ok (.ldc i, 2)) (hw : Cond.constant F.1.cls i v ∈ lw_all) (kk : zV G F d (pc + 2) L (.int v :: st) h k n Q X) : zV G F d pc L st h k n Q X := by
  intro p l e R s m args below meth c H locs cells slots ls ec es C h1 h2 hW hS hL
  exact lv_ldc C.2.1 C.2.2.1 C.2.2.2.2.2.2.1 (C.2.2.2.2.2.2.2.2.2.1 _ hw) dd (kk p l e R s m args below meth c H locs cells slots ls ec es C h1 h2 hW hS hL)
theorem z_iload_n {q : Fin 4} {x : Int32} (dd : decode F.2.1 pc = .ok (.iload_n q, 1)) (hl : L[(q : Nat)]? = some (some (.int x))) (kk : zV G F d (pc + 1) L (.int x :: st) h k n Q X) : zV G F d pc L st h k n Q X := by
  intro p l e R s m args below meth c H locs cells slots ls ec es C h1 h2 hW hS hL
  exact lv_iload_n C.2.1 C.2.2.1 dd rfl (hL.2.2.2 _ _ hl).1 (kk p l e R s m args below meth c H locs cells slots ls ec es C h1 h2 hW hS hL)
theorem z_iload {q : Nat} {x : Int32} (dd : decode F.2.1 pc = .ok (.iload q, 2)) (hl : L[q]? = some (some (.int x))) (kk : zV G F d (pc + 2) L (.int x :: st) h k n Q X) : zV G F d pc L st h k n Q X := by
  intro p l e R s m args below meth c H locs cells slots ls ec es C h1 h2 hW hS hL
  exact lv_iload C.2.1 C.2.2.1 dd (hL.2.2.2 _ _ hl).1 (kk p l e R s m args below meth c H locs cells slots ls ec es C h1 h2 hW hS hL)
theorem z_aload_n {q : Fin 4} {x : Nat} (dd : decode F.2.1 pc = .ok (.aload_n q, 1)) (hl : L[(q : Nat)]? = some (some (.ref x))) (kk : zV G F d (pc + 1) L (.ref x :: st) h k n Q X) : zV G F d pc L st h k n Q X := by
  intro p l e R s m args below meth c H locs cells slots ls ec es C h1 h2 hW hS hL
  exact lv_aload_n C.2.1 C.2.2.1 dd rfl (hL.2.2.2 _ _ hl).1 (kk p l e R s m args below meth c H locs cells slots ls ec es C h1 h2 hW hS hL)
theorem z_aload {q : Nat} {x : Nat} (dd : decode F.2.1 pc = .ok (.aload q, 2)) (hl : L[q]? = some (some (.ref x))) (kk : zV G F d (pc + 2) L (.ref x :: st) h k n Q X) : zV G F d pc L st h k n Q X := by
  intro p l e R s m args below meth c H locs cells slots ls ec es C h1 h2 hW hS hL
  exact lv_aload C.2.1 C.2.2.1 dd (hL.2.2.2 _ _ hl).1 (kk p l e R s m args below meth c H locs cells slots ls ec es C h1 h2 hW hS hL)
theorem z_aload_nN {q : Fin 4} (dd : decode F.2.1 pc = .ok (.aload_n q, 1)) (hl : L[(q : Nat)]? = some (some .null)) (kk : zV G F d (pc + 1) L (.null :: st) h k n Q X) : zV G F d pc L st h k n Q X := by
  intro p l e R s m args below meth c H locs cells slots ls ec es C h1 h2 hW hS hL
  exact lv_aload_nN C.2.1 C.2.2.1 dd rfl (hL.2.2.2 _ _ hl).1 (kk p l e R s m args below meth c H locs cells slots ls ec es C h1 h2 hW hS hL)
theorem z_aloadN {q : Nat} (dd : decode F.2.1 pc = .ok (.aload q, 2)) (hl : L[q]? = some (some .null)) (kk : zV G F d (pc + 2) L (.null :: st) h k n Q X) : zV G F d pc L st h k n Q X := by
  intro p l e R s m args below meth c H locs cells slots ls ec es C h1 h2 hW hS hL
  exact lv_aloadN C.2.1 C.2.2.1 dd (hL.2.2.2 _ _ hl).1 (kk p l e R s m args below meth c H locs cells slots ls ec es C h1 h2 hW hS hL)
theorem z_iadd {x y : Int32} (dd : decode F.2.1 pc = .ok (.iadd, 1)) (kk : zV G F d (pc + 1) L (.int (x + y) :: st) h k n Q X) : zV G F d pc L (.int y :: .int x :: st) h k n Q X := by
  intro p l e R s m args below meth c H locs cells slots ls ec es C h1 h2 hW hS hL
  exact lv_iadd C.2.1 C.2.2.1 dd (kk p l e R s m args below meth c H locs cells slots ls ec es C h1 h2 hW hS hL)
theorem z_isub {x y : Int32} (dd : decode F.2.1 pc = .ok (.isub, 1)) (kk : zV G F d (pc + 1) L (.int (x - y) :: st) h k n Q X) : zV G F d pc L (.int y :: .int x :: st) h k n Q X := by
  intro p l e R s m args below meth c H locs cells slots ls ec es C h1 h2 hW hS hL
  exact lv_isub C.2.1 C.2.2.1 dd (kk p l e R s m args below meth c H locs cells slots ls ec es C h1 h2 hW hS hL)
theorem z_imul {x y : Int32} (dd : decode F.2.1 pc = .ok (.imul, 1)) (kk : zV G F d (pc + 1) L (.int (x * y) :: st) h k n Q X) : zV G F d pc L (.int y :: .int x :: st) h k n Q X := by
  intro p l e R s m args below meth c H locs cells slots ls ec es C h1 h2 hW hS hL
  exact lv_imul C.2.1 C.2.2.1 dd (kk p l e R s m args below meth c H locs cells slots ls ec es C h1 h2 hW hS hL)
theorem z_iand {x y : Int32} (dd : decode F.2.1 pc = .ok (.iand, 1)) (kk : zV G F d (pc + 1) L (.int (x &&& y) :: st) h k n Q X) : zV G F d pc L (.int y :: .int x :: st) h k n Q X := by
  intro p l e R s m args below meth c H locs cells slots ls ec es C h1 h2 hW hS hL
  exact lv_iand C.2.1 C.2.2.1 dd (kk p l e R s m args below meth c H locs cells slots ls ec es C h1 h2 hW hS hL)
theorem z_ior {x y : Int32} (dd : decode F.2.1 pc = .ok (.ior, 1)) (kk : zV G F d (pc + 1) L (.int (x ||| y) :: st) h k n Q X) : zV G F d pc L (.int y :: .int x :: st) h k n Q X := by
  intro p l e R s m args below meth c H locs cells slots ls ec es C h1 h2 hW hS hL
  exact lv_ior C.2.1 C.2.2.1 dd (kk p l e R s m args below meth c H locs cells slots ls ec es C h1 h2 hW hS hL)
theorem z_ixor {x y : Int32} (dd : decode F.2.1 pc = .ok (.ixor, 1)) (kk : zV G F d (pc + 1) L (.int (x ^^^ y) :: st) h k n Q X) : zV G F d pc L (.int y :: .int x :: st) h k n Q X := by
  intro p l e R s m args below meth c H locs cells slots ls ec es C h1 h2 hW hS hL
  exact lv_ixor C.2.1 C.2.2.1 dd (kk p l e R s m args below meth c H locs cells slots ls ec es C h1 h2 hW hS hL)
theorem z_idiv {x y : Int32} (dd : decode F.2.1 pc = .ok (.idiv, 1)) (hne : ¬ y = 0) (kk : zV G F d (pc + 1) L (.int (x / y) :: st) h k n Q X) : zV G F d pc L (.int y :: .int x :: st) h k n Q X := by
  intro p l e R s m args below meth c H locs cells slots ls ec es C h1 h2 hW hS hL
  exact lv_idiv C.2.1 C.2.2.1 dd hne (kk p l e R s m args below meth c H locs cells slots ls ec es C h1 h2 hW hS hL)
theorem z_irem {x y : Int32} (dd : decode F.2.1 pc = .ok (.irem, 1)) (hne : ¬ y = 0) (kk : zV G F d (pc + 1) L (.int (x - x / y * y) :: st) h k n Q X) : zV G F d pc L (.int y :: .int x :: st) h k n Q X := by
  intro p l e R s m args below meth c H locs cells slots ls ec es C h1 h2 hW hS hL
  exact lv_irem C.2.1 C.2.2.1 dd hne (kk p l e R s m args below meth c H locs cells slots ls ec es C h1 h2 hW hS hL)
theorem z_ineg {x : Int32} (dd : decode F.2.1 pc = .ok (.ineg, 1)) (kk : zV G F d (pc + 1) L (.int (-x) :: st) h k n Q X) : zV G F d pc L (.int x :: st) h k n Q X := by
  intro p l e R s m args below meth c H locs cells slots ls ec es C h1 h2 hW hS hL
  exact lv_ineg C.2.1 C.2.2.1 dd (kk p l e R s m args below meth c H locs cells slots ls ec es C h1 h2 hW hS hL)
theorem z_i2l {x : Int32} (dd : decode F.2.1 pc = .ok (.i2l, 1)) (kk : zV G F d (pc + 1) L (.long x.toInt64 :: st) h k n Q X) : zV G F d pc L (.int x :: st) h k n Q X := by
  intro p l e R s m args below meth c H locs cells slots ls ec es C h1 h2 hW hS hL
  exact lv_i2l C.2.1 C.2.2.1 dd rfl (kk p l e R s m args below meth c H locs cells slots ls ec es C h1 h2 hW hS hL)
theorem z_dup {v : Value} (dd : decode F.2.1 pc = .ok (.dup, 1)) (hc : v.category = 1) (kk : zV G F d (pc + 1) L (v :: v :: st) h k n Q X) : zV G F d pc L (v :: st) h k n Q X := by
  intro p l e R s m args below meth c H locs cells slots ls ec es C h1 h2 hW hS hL
  exact lv_dup C.2.1 C.2.2.1 dd hc (kk p l e R s m args below meth c H locs cells slots ls ec es C h1 h2 hW hS hL)
theorem z_pop {v : Value} (dd : decode F.2.1 pc = .ok (.pop, 1)) (hc : v.category = 1) (kk : zV G F d (pc + 1) L st h k n Q X) : zV G F d pc L (v :: st) h k n Q X := by
  intro p l e R s m args below meth c H locs cells slots ls ec es C h1 h2 hW hS hL
  exact lv_pop C.2.1 C.2.2.1 dd hc (kk p l e R s m args below meth c H locs cells slots ls ec es C h1 h2 hW hS hL)
theorem z_dup_x1 {v w : Value} (dd : decode F.2.1 pc = .ok (.dup_x1, 1)) (hc : v.category = 1) (hc2 : w.category = 1) (kk : zV G F d (pc + 1) L (v :: w :: v :: st) h k n Q X) : zV G F d pc L (v :: w :: st) h k n Q X := by
  intro p l e R s m args below meth c H locs cells slots ls ec es C h1 h2 hW hS hL
  exact lv_dup_x1 C.2.1 C.2.2.1 dd hc hc2 (kk p l e R s m args below meth c H locs cells slots ls ec es C h1 h2 hW hS hL)
theorem z_dup2 {v w : Value} (dd : decode F.2.1 pc = .ok (.dup2, 1)) (hc : v.category = 1) (hc2 : w.category = 1) (kk : zV G F d (pc + 1) L (v :: w :: v :: w :: st) h k n Q X) : zV G F d pc L (v :: w :: st) h k n Q X := by
  intro p l e R s m args below meth c H locs cells slots ls ec es C h1 h2 hW hS hL
  exact lv_dup2_11 C.2.1 C.2.2.1 dd hc hc2 (kk p l e R s m args below meth c H locs cells slots ls ec es C h1 h2 hW hS hL)
theorem z_goto {off : Int} {tgt : Nat} (dd : decode F.2.1 pc = .ok (.goto off, 3)) (ht : (pc : Int) + off = (tgt : Int)) (kk : zV G F d tgt L st h k n Q X) : zV G F d pc L st h k n Q X := by
  intro p l e R s m args below meth c H locs cells slots ls ec es C h1 h2 hW hS hL
  exact lv_goto C.2.1 C.2.2.1 dd ht (kk p l e R s m args below meth c H locs cells slots ls ec es C h1 h2 hW hS hL)
theorem z_icmp_eq {x y : Int32} {off : Int} {tgt : Nat} (dd : decode F.2.1 pc = .ok (.if_icmp .eq off, 3)) (ht : (pc : Int) + off = (tgt : Int)) (kt : x = y → zV G F d tgt L st h k n Q X) (kf : ¬ x = y → zV G F d (pc + 3) L st h k n Q X) : zV G F d pc L (.int y :: .int x :: st) h k n Q X := by
  intro p l e R s m args below meth c H locs cells slots ls ec es C h1 h2 hW hS hL
  exact lv_icmp_eq C.2.1 C.2.2.1 dd ht (fun q => kt q p l e R s m args below meth c H locs cells slots ls ec es C h1 h2 hW hS hL) (fun q => kf q p l e R s m args below meth c H locs cells slots ls ec es C h1 h2 hW hS hL)
theorem z_if_eq {x : Int32} {off : Int} {tgt : Nat} (dd : decode F.2.1 pc = .ok (.ifCond .eq off, 3)) (ht : (pc : Int) + off = (tgt : Int)) (kt : x = 0 → zV G F d tgt L st h k n Q X) (kf : ¬ x = 0 → zV G F d (pc + 3) L st h k n Q X) : zV G F d pc L (.int x :: st) h k n Q X := by
  intro p l e R s m args below meth c H locs cells slots ls ec es C h1 h2 hW hS hL
  exact lv_if_eq C.2.1 C.2.2.1 dd ht (fun q => kt q p l e R s m args below meth c H locs cells slots ls ec es C h1 h2 hW hS hL) (fun q => kf q p l e R s m args below meth c H locs cells slots ls ec es C h1 h2 hW hS hL)
theorem z_icmp_ne {x y : Int32} {off : Int} {tgt : Nat} (dd : decode F.2.1 pc = .ok (.if_icmp .ne off, 3)) (ht : (pc : Int) + off = (tgt : Int)) (kt : ¬ x = y → zV G F d tgt L st h k n Q X) (kf : x = y → zV G F d (pc + 3) L st h k n Q X) : zV G F d pc L (.int y :: .int x :: st) h k n Q X := by
  intro p l e R s m args below meth c H locs cells slots ls ec es C h1 h2 hW hS hL
  exact lv_icmp_ne C.2.1 C.2.2.1 dd ht (fun q => kt q p l e R s m args below meth c H locs cells slots ls ec es C h1 h2 hW hS hL) (fun q => kf q p l e R s m args below meth c H locs cells slots ls ec es C h1 h2 hW hS hL)
theorem z_if_ne {x : Int32} {off : Int} {tgt : Nat} (dd : decode F.2.1 pc = .ok (.ifCond .ne off, 3)) (ht : (pc : Int) + off = (tgt : Int)) (kt : ¬ x = 0 → zV G F d tgt L st h k n Q X) (kf : x = 0 → zV G F d (pc + 3) L st h k n Q X) : zV G F d pc L (.int x :: st) h k n Q X := by
  intro p l e R s m args below meth c H locs cells slots ls ec es C h1 h2 hW hS hL
  exact lv_if_ne C.2.1 C.2.2.1 dd ht (fun q => kt q p l e R s m args below meth c H locs cells slots ls ec es C h1 h2 hW hS hL) (fun q => kf q p l e R s m args below meth c H locs cells slots ls ec es C h1 h2 hW hS hL)
theorem z_icmp_lt {x y : Int32} {off : Int} {tgt : Nat} (dd : decode F.2.1 pc = .ok (.if_icmp .lt off, 3)) (ht : (pc : Int) + off = (tgt : Int)) (kt : x < y → zV G F d tgt L st h k n Q X) (kf : ¬ x < y → zV G F d (pc + 3) L st h k n Q X) : zV G F d pc L (.int y :: .int x :: st) h k n Q X := by
  intro p l e R s m args below meth c H locs cells slots ls ec es C h1 h2 hW hS hL
  exact lv_icmp_lt C.2.1 C.2.2.1 dd ht (fun q => kt q p l e R s m args below meth c H locs cells slots ls ec es C h1 h2 hW hS hL) (fun q => kf q p l e R s m args below meth c H locs cells slots ls ec es C h1 h2 hW hS hL)
theorem z_if_lt {x : Int32} {off : Int} {tgt : Nat} (dd : decode F.2.1 pc = .ok (.ifCond .lt off, 3)) (ht : (pc : Int) + off = (tgt : Int)) (kt : x < 0 → zV G F d tgt L st h k n Q X) (kf : ¬ x < 0 → zV G F d (pc + 3) L st h k n Q X) : zV G F d pc L (.int x :: st) h k n Q X := by
  intro p l e R s m args below meth c H locs cells slots ls ec es C h1 h2 hW hS hL
  exact lv_if_lt C.2.1 C.2.2.1 dd ht (fun q => kt q p l e R s m args below meth c H locs cells slots ls ec es C h1 h2 hW hS hL) (fun q => kf q p l e R s m args below meth c H locs cells slots ls ec es C h1 h2 hW hS hL)
theorem z_icmp_ge {x y : Int32} {off : Int} {tgt : Nat} (dd : decode F.2.1 pc = .ok (.if_icmp .ge off, 3)) (ht : (pc : Int) + off = (tgt : Int)) (kt : y ≤ x → zV G F d tgt L st h k n Q X) (kf : ¬ y ≤ x → zV G F d (pc + 3) L st h k n Q X) : zV G F d pc L (.int y :: .int x :: st) h k n Q X := by
  intro p l e R s m args below meth c H locs cells slots ls ec es C h1 h2 hW hS hL
  exact lv_icmp_ge C.2.1 C.2.2.1 dd ht (fun q => kt q p l e R s m args below meth c H locs cells slots ls ec es C h1 h2 hW hS hL) (fun q => kf q p l e R s m args below meth c H locs cells slots ls ec es C h1 h2 hW hS hL)
theorem z_if_ge {x : Int32} {off : Int} {tgt : Nat} (dd : decode F.2.1 pc = .ok (.ifCond .ge off, 3)) (ht : (pc : Int) + off = (tgt : Int)) (kt : 0 ≤ x → zV G F d tgt L st h k n Q X) (kf : ¬ 0 ≤ x → zV G F d (pc + 3) L st h k n Q X) : zV G F d pc L (.int x :: st) h k n Q X := by
  intro p l e R s m args below meth c H locs cells slots ls ec es C h1 h2 hW hS hL
  exact lv_if_ge C.2.1 C.2.2.1 dd ht (fun q => kt q p l e R s m args below meth c H locs cells slots ls ec es C h1 h2 hW hS hL) (fun q => kf q p l e R s m args below meth c H locs cells slots ls ec es C h1 h2 hW hS hL)
theorem z_icmp_gt {x y : Int32} {off : Int} {tgt : Nat} (dd : decode F.2.1 pc = .ok (.if_icmp .gt off, 3)) (ht : (pc : Int) + off = (tgt : Int)) (kt : y < x → zV G F d tgt L st h k n Q X) (kf : ¬ y < x → zV G F d (pc + 3) L st h k n Q X) : zV G F d pc L (.int y :: .int x :: st) h k n Q X := by
  intro p l e R s m args below meth c H locs cells slots ls ec es C h1 h2 hW hS hL
  exact lv_icmp_gt C.2.1 C.2.2.1 dd ht (fun q => kt q p l e R s m args below meth c H locs cells slots ls ec es C h1 h2 hW hS hL) (fun q => kf q p l e R s m args below meth c H locs cells slots ls ec es C h1 h2 hW hS hL)
theorem z_if_gt {x : Int32} {off : Int} {tgt : Nat} (dd : decode F.2.1 pc = .ok (.ifCond .gt off, 3)) (ht : (pc : Int) + off = (tgt : Int)) (kt : 0 < x → zV G F d tgt L st h k n Q X) (kf : ¬ 0 < x → zV G F d (pc + 3) L st h k n Q X) : zV G F d pc L (.int x :: st) h k n Q X := by
  intro p l e R s m args below meth c H locs cells slots ls ec es C h1 h2 hW hS hL
  exact lv_if_gt C.2.1 C.2.2.1 dd ht (fun q => kt q p l e R s m args below meth c H locs cells slots ls ec es C h1 h2 hW hS hL) (fun q => kf q p l e R s m args below meth c H locs cells slots ls ec es C h1 h2 hW hS hL)
theorem z_icmp_le {x y : Int32} {off : Int} {tgt : Nat} (dd : decode F.2.1 pc = .ok (.if_icmp .le off, 3)) (ht : (pc : Int) + off = (tgt : Int)) (kt : x ≤ y → zV G F d tgt L st h k n Q X) (kf : ¬ x ≤ y → zV G F d (pc + 3) L st h k n Q X) : zV G F d pc L (.int y :: .int x :: st) h k n Q X := by
  intro p l e R s m args below meth c H locs cells slots ls ec es C h1 h2 hW hS hL
  exact lv_icmp_le C.2.1 C.2.2.1 dd ht (fun q => kt q p l e R s m args below meth c H locs cells slots ls ec es C h1 h2 hW hS hL) (fun q => kf q p l e R s m args below meth c H locs cells slots ls ec es C h1 h2 hW hS hL)
theorem z_if_le {x : Int32} {off : Int} {tgt : Nat} (dd : decode F.2.1 pc = .ok (.ifCond .le off, 3)) (ht : (pc : Int) + off = (tgt : Int)) (kt : x ≤ 0 → zV G F d tgt L st h k n Q X) (kf : ¬ x ≤ 0 → zV G F d (pc + 3) L st h k n Q X) : zV G F d pc L (.int x :: st) h k n Q X := by
  intro p l e R s m args below meth c H locs cells slots ls ec es C h1 h2 hW hS hL
  exact lv_if_le C.2.1 C.2.2.1 dd ht (fun q => kt q p l e R s m args below meth c H locs cells slots ls ec es C h1 h2 hW hS hL) (fun q => kf q p l e R s m args below meth c H locs cells slots ls ec es C h1 h2 hW hS hL)
theorem z_ifnull {x : Nat} {off : Int} (dd : decode F.2.1 pc = .ok (.ifnull off, 3)) (kk : zV G F d (pc + 3) L st h k n Q X) : zV G F d pc L (.ref x :: st) h k n Q X := by
  intro p l e R s m args below meth c H locs cells slots ls ec es C h1 h2 hW hS hL
  exact lv_ifnull C.2.1 C.2.2.1 dd (kk p l e R s m args below meth c H locs cells slots ls ec es C h1 h2 hW hS hL)
theorem z_ifnullN {off : Int} {tgt : Nat} (dd : decode F.2.1 pc = .ok (.ifnull off, 3)) (ht : (pc : Int) + off = (tgt : Int)) (kk : zV G F d tgt L st h k n Q X) : zV G F d pc L (.null :: st) h k n Q X := by
  intro p l e R s m args below meth c H locs cells slots ls ec es C h1 h2 hW hS hL
  exact lv_ifnullN C.2.1 C.2.2.1 dd ht (kk p l e R s m args below meth c H locs cells slots ls ec es C h1 h2 hW hS hL)
theorem z_ifnonnull {x : Nat} {off : Int} {tgt : Nat} (dd : decode F.2.1 pc = .ok (.ifnonnull off, 3)) (ht : (pc : Int) + off = (tgt : Int)) (kk : zV G F d tgt L st h k n Q X) : zV G F d pc L (.ref x :: st) h k n Q X := by
  intro p l e R s m args below meth c H locs cells slots ls ec es C h1 h2 hW hS hL
  exact lv_ifnonnull C.2.1 C.2.2.1 dd ht (kk p l e R s m args below meth c H locs cells slots ls ec es C h1 h2 hW hS hL)
theorem z_ifnonnullN {off : Int} (dd : decode F.2.1 pc = .ok (.ifnonnull off, 3)) (kk : zV G F d (pc + 3) L st h k n Q X) : zV G F d pc L (.null :: st) h k n Q X := by
  intro p l e R s m args below meth c H locs cells slots ls ec es C h1 h2 hW hS hL
  exact lv_ifnonnullN C.2.1 C.2.2.1 dd (kk p l e R s m args below meth c H locs cells slots ls ec es C h1 h2 hW hS hL)
/-- locals as the kit lists them -/
def zl (L : List (Option Value)) : List (Nat × Value) := (List.range L.length).filterMap (fun i => match L[i]? with | some (some v) => some (i, v) | _ => none)
theorem zl_mem {L : List (Option Value)} {i : Nat} {v : Value} : (i, v) ∈ zl L ↔ L[i]? = some (some v) := by
  unfold zl
  rw [List.mem_filterMap]
  constructor
  · rintro ⟨j, hj, hm⟩
    split at hm
    · rename_i w hw
      cases hm
      exact hw
    · cases hm
  · intro hv
    refine ⟨i, List.mem_range.mpr (List.getElem?_eq_some_iff.mp hv).1, ?_⟩
    rw [hv]
theorem zLs.has {ls : Array Slot} {nL : Nat} {L : List (Option Value)} (hL : zLs ls nL L) : lv_has ls nL (zl L) := ⟨hL.1, hL.2.1, fun q hq => (hL.2.2.2 q.1 q.2 (zl_mem.mp hq)).1⟩
theorem zLs.set {ls ls' : Array Slot} {nL i : Nat} {v : Value} {L : List (Option Value)} (hL : zLs ls nL L) (hc : v.category = 1) (h' : lv_has ls' nL ((i, v) :: (zl L).filter (fun q => !(q.1 == i) && !(q.1 + 1 == i && q.2.category == 2)))) : zLs ls' nL (L.set i (some v)) := by
  refine ⟨h'.1, h'.2.1, by rw [List.length_set]; exact hL.2.2.1, fun j w hj => ?_⟩
  by_cases hij : i = j
  · subst hij
    rw [List.getElem?_set] at hj
    split at hj
    · split at hj
      · cases hj
        exact ⟨h'.2.2 (i, v) List.mem_cons_self, hc⟩
      · cases hj
    · exact absurd rfl ‹¬ i = i›
  · rw [List.getElem?_set_ne hij] at hj
    have hw := (hL.2.2.2 j w hj).2
    refine ⟨h'.2.2 (j, w) (List.mem_cons_of_mem _ (List.mem_filter.mpr ⟨zl_mem.mpr hj, ?_⟩)), hw⟩
    have e1 : (j == i) = false := by simp; omega
    have e2 : (w.category == 2) = false := by rw [hw]; rfl
    simp only [e1, e2]
    simp

theorem z_istore_n {q : Fin 4} {x : Int32} (dd : decode F.2.1 pc = .ok (.istore_n q, 1)) (hq : (q : Nat) < F.2.2.1) (kk : zV G F d (pc + 1) (L.set (q : Nat) (some (.int x))) st h k n Q X) : zV G F d pc L (.int x :: st) h k n Q X := by
  intro p l e R s m args below meth c H locs cells slots ls ec es C h1 h2 hW hS hL
  exact lv_istore_n C.2.1 C.2.2.1 dd rfl (hL.has) hq rfl (fun ls' hl => kk p l e R s m args below meth c H locs cells slots ls' ec es C h1 h2 hW hS (hL.set rfl hl))
theorem z_istore {q : Nat} {x : Int32} (dd : decode F.2.1 pc = .ok (.istore q, 2)) (hq : q < F.2.2.1) (kk : zV G F d (pc + 2) (L.set q (some (.int x))) st h k n Q X) : zV G F d pc L (.int x :: st) h k n Q X := by
  intro p l e R s m args below meth c H locs cells slots ls ec es C h1 h2 hW hS hL
  exact lv_istore C.2.1 C.2.2.1 dd (hL.has) hq rfl (fun ls' hl => kk p l e R s m args below meth c H locs cells slots ls' ec es C h1 h2 hW hS (hL.set rfl hl))
theorem z_astore_n {q : Fin 4} {x : Nat} (dd : decode F.2.1 pc = .ok (.astore_n q, 1)) (hq : (q : Nat) < F.2.2.1) (kk : zV G F d (pc + 1) (L.set (q : Nat) (some (.ref x))) st h k n Q X) : zV G F d pc L (.ref x :: st) h k n Q X := by
  intro p l e R s m args below meth c H locs cells slots ls ec es C h1 h2 hW hS hL
  exact lv_astore_n C.2.1 C.2.2.1 dd rfl (hL.has) hq rfl (fun ls' hl => kk p l e R s m args below meth c H locs cells slots ls' ec es C h1 h2 hW hS (hL.set rfl hl))
theorem z_astore {q : Nat} {x : Nat} (dd : decode F.2.1 pc = .ok (.astore q, 2)) (hq : q < F.2.2.1) (kk : zV G F d (pc + 2) (L.set q (some (.ref x))) st h k n Q X) : zV G F d pc L (.ref x :: st) h k n Q X := by
  intro p l e R s m args below meth c H locs cells slots ls ec es C h1 h2 hW hS hL
  exact lv_astore C.2.1 C.2.2.1 dd (hL.has) hq rfl (fun ls' hl => kk p l e R s m args below meth c H locs cells slots ls' ec es C h1 h2 hW hS (hL.set rfl hl))
theorem z_astore_nN {q : Fin 4} (dd : decode F.2.1 pc = .ok (.astore_n q, 1)) (hq : (q : Nat) < F.2.2.1) (kk : zV G F d (pc + 1) (L.set (q : Nat) (some (.null))) st h k n Q X) : zV G F d pc L (.null :: st) h k n Q X := by
  intro p l e R s m args below meth c H locs cells slots ls ec es C h1 h2 hW hS hL
  exact lv_astore_nN C.2.1 C.2.2.1 dd rfl (hL.has) hq rfl (fun ls' hl => kk p l e R s m args below meth c H locs cells slots ls' ec es C h1 h2 hW hS (hL.set rfl hl))
theorem z_astoreN {q : Nat} (dd : decode F.2.1 pc = .ok (.astore q, 2)) (hq : q < F.2.2.1) (kk : zV G F d (pc + 2) (L.set q (some (.null))) st h k n Q X) : zV G F d pc L (.null :: st) h k n Q X := by
  intro p l e R s m args below meth c H locs cells slots ls ec es C h1 h2 hW hS hL
  exact lv_astoreN C.2.1 C.2.2.1 dd (hL.has) hq rfl (fun ls' hl => kk p l e R s m args below meth c H locs cells slots ls' ec es C h1 h2 hW hS (hL.set rfl hl))
theorem z_iinc {q : Nat} {z : Int} {x v : Int32} (dd : decode F.2.1 pc = .ok (.iinc q z, 3)) (hl : L[q]? = some (some (.int x))) (hv : x + Int32.ofInt z = v) (kk : zV G F d (pc + 3) (L.set q (some (.int v))) st h k n Q X) : zV G F d pc L st h k n Q X := by
  intro p l e R s m args below meth c H locs cells slots ls ec es C h1 h2 hW hS hL
  obtain ⟨j, hj⟩ := List.mem_iff_getElem?.mp (zl_mem.mpr hl)
  exact lv_iinc C.2.1 C.2.2.1 dd hL.has hj hv (by rw [← hL.2.2.1]; exact (List.getElem?_eq_some_iff.mp hl).1) rfl (fun ls' hl' => kk p l e R s m args below meth c H locs cells slots ls' ec es C h1 h2 hW hS (hL.set rfl hl'))
theorem z_lookup {dflt : Int} {ps : Array (Int × Int)} {len : Nat} {x : Int32} {off : Int} {tgt : Nat} (dd : decode F.2.1 pc = .ok (.lookupswitch dflt ps, len)) (hp : (ps.toList.zip (ps.toList.drop 1)).all (fun (a, next) => a.1 < next.1) = true) (ho : Op.lookupswitch.offset ps.toList dflt x.toInt = off) (ht : (pc : Int) + off = (tgt : Int)) (kk : zV G F d tgt L st h k n Q X) : zV G F d pc L (.int x :: st) h k n Q X := by
  intro p l e R s m args below meth c H locs cells slots ls ec es C h1 h2 hW hS hL
  exact lv_lookup C.2.1 C.2.2.1 dd hp ho ht (kk p l e R s m args below meth c H locs cells slots ls ec es C h1 h2 hW hS hL)
theorem z_tableIn {dflt lo hi : Int} {offs : Array Int} {len : Nat} {x : Int32} {off : Int} {tgt : Nat} (dd : decode F.2.1 pc = .ok (.tableswitch dflt lo hi offs, len)) (g1 : ¬ x.toInt < lo) (g2 : ¬ hi < x.toInt) (ho : offs[(x.toInt - lo).toNat]? = some off) (ht : (pc : Int) + off = (tgt : Int)) (kk : zV G F d tgt L st h k n Q X) : zV G F d pc L (.int x :: st) h k n Q X := by
  intro p l e R s m args below meth c H locs cells slots ls ec es C h1 h2 hW hS hL
  exact lv_tableIn C.2.1 C.2.2.1 dd g1 g2 ho ht (kk p l e R s m args below meth c H locs cells slots ls ec es C h1 h2 hW hS hL)
theorem z_tableOut {dflt lo hi : Int} {offs : Array Int} {len : Nat} {x : Int32} {tgt : Nat} (dd : decode F.2.1 pc = .ok (.tableswitch dflt lo hi offs, len)) (g : x.toInt < lo ∨ hi < x.toInt) (ht : (pc : Int) + dflt = (tgt : Int)) (kk : zV G F d tgt L st h k n Q X) : zV G F d pc L (.int x :: st) h k n Q X := by
  intro p l e R s m args below meth c H locs cells slots ls ec es C h1 h2 hW hS hL
  exact lv_tableOut C.2.1 C.2.2.1 dd g ht (kk p l e R s m args below meth c H locs cells slots ls ec es C h1 h2 hW hS hL)
/-- ends -/
theorem z_ret {ty : FieldType} {x : Int32} (dd : decode F.2.1 pc = .ok (.ireturn, 1)) (hr : F.2.2.2.1 = some ty) (hn : narrow ty (.int x) = .int x) (hq : Q (some (.int x)) h) : zV G F d pc L [.int x] h k n Q X := by
  intro p l e R s m args below meth c H locs cells slots ls ec es C h1 h2 hW hS hL
  refine vx_ret (W.widen (k := ec) (n := es) (by omega) (by omega) ?_)
  exact W.zret C.2.1 C.2.2.1 (C.2.2.2.2.1.trans hr) hn (fun t ht _ => ⟨⟨_, h, rfl, hq, by rw [ht]; exact hW⟩, hS.F ht⟩) hS.2.2 dd C.2.2.2.2.2.1
theorem z_vret (dd : decode F.2.1 pc = .ok (.return_, 1)) (hr : F.2.2.2.1 = none) (hq : Q none h) : zV G F d pc L [] h k n Q X := by
  intro p l e R s m args below meth c H locs cells slots ls ec es C h1 h2 hW hS hL
  refine vx_ret (W.widen (k := ec) (n := es) (by omega) (by omega) ?_)
  exact W.vret C.2.1 C.2.2.1 (C.2.2.2.2.1.trans hr) (fun t ht _ => ⟨⟨_, h, rfl, hq, by rw [ht]; exact hW⟩, hS.F ht⟩) hS.2.2 dd C.2.2.2.2.2.1
theorem z_aret {rt : FieldType} {v : Value} (dd : decode F.2.1 pc = .ok (.areturn, 1)) (hr : F.2.2.2.1 = some rt) (hrt : (∃ nm, rt = .object nm) ∨ ∃ t, rt = .array t) (hv : v = .null ∨ ∃ a, v = .ref a) (hq : Q (some v) h) : zV G F d pc L [v] h k n Q X := by
  intro p l e R s m args below meth c H locs cells slots ls ec es C h1 h2 hW hS hL
  refine vx_ret (W.widen (k := ec) (n := es) (by omega) (by omega) ?_)
  exact W.aret C.2.1 C.2.2.1 (C.2.2.2.2.1.trans hr) hrt hv (fun t ht _ => ⟨⟨_, h, rfl, hq, by rw [ht]; exact hW⟩, hS.F ht⟩) hS.2.2 dd C.2.2.2.2.2.1
end Rows
theorem z_sl {as : List Value} (hc : ∀ v ∈ as, v.category = 1) : lg_sl as = as.map Slot.val := by
  induction as with
  | nil => rfl
  | cons v t ih =>
    have h1 := hc v List.mem_cons_self
    show (if v.category = 2 then [Slot.val v, .second] else [Slot.val v]) ++ lg_sl t = _
    rw [h1, ih (fun w hw => hc w (List.mem_cons_of_mem _ hw))]
    rfl
theorem z_args {as : List Value} (hc : ∀ v ∈ as, v.category = 1) : ∀ (i j : Nat) (v : Value), as[j]? = some v → (i + j, v) ∈ lv_args i as := by
  induction as with
  | nil => intro i j v h; simp at h
  | cons w t ih =>
    intro i j v h
    have h1 := hc w List.mem_cons_self
    show _ ∈ (i, w) :: lv_args (if w.category = 2 then i + 2 else i + 1) t
    rw [h1]
    cases j with
    | zero => simp at h; subst h; exact List.mem_cons_self
    | succ j =>
      refine List.mem_cons_of_mem _ ?_
      have h2 := ih (fun w hw => hc w (List.mem_cons_of_mem _ hw)) (i + 1) j v (by simpa using h)
      rw [show i + (j + 1) = i + 1 + j by omega]
      exact h2
theorem z_entry {as : List Value} {nL : Nat} (hc : ∀ v ∈ as, v.category = 1) (hn : as.length ≤ nL) : zLs ((lg_sl as ++ List.replicate (nL - (lg_sl as).length) Slot.unset).toArray) nL (as.map some ++ List.replicate (nL - as.length) none) := by
  have hl : (lg_sl as).length = as.length := by rw [z_sl hc, List.length_map]
  have h := lv_entry as (n := nL) (by omega)
  refine ⟨h.1, h.2.1, by simp; omega, fun i v hi => ?_⟩
  have h1 : as[i]? = some v := by
    rw [List.getElem?_append] at hi
    split at hi
    · rw [List.getElem?_map] at hi
      cases h9 : as[i]? with
      | none => rw [h9] at hi; cases hi
      | some w => rw [h9] at hi; cases hi; rfl
    · rw [List.getElem?_replicate] at hi
      split at hi
      · cases hi
      · cases hi
  refine ⟨h.2.2 (i, v) ?_, hc v (List.mem_of_getElem? h1)⟩
  have h2 := z_args hc 0 i v h1
  rw [Nat.zero_add] at h2
  exact h2
theorem zCon.of {G : zE} {F : zF} {d mc ms : Nat} {as : List Value} {h : zH} {Q : Option Value → zH → Prop} {X : String → zH → Prop} (hc : ∀ v ∈ as, v.category = 1) (hn : as.length ≤ F.2.2.1) (hp : plainName F.1.cls = true) (hh : F.2.2.2.2 = [])
    (kk : zV G F d 0 (as.map some ++ List.replicate (F.2.2.1 - as.length) none) [] h mc ms Q X) : zCon G F d mc ms as h Q X := by
  intro l hl
  refine vx_ofW (cc := F.2.1) (maxL := F.2.2.1) (ret := F.2.2.2.1) hp rfl ?_
  intro p e s m args below meth c s₁ B hml hne hv
  obtain ⟨rfl, hS, hW⟩ := hv
  have hts := atoms_spec (ws := zws F) B.pre
  rw [lg_entry_eq]
  have ht : c.exceptionTable.toList = tableOf F.2.2.2.2 := by
    rw [hh]
    exact List.eq_nil_iff_forall_not_mem.mpr hne
  exact kk p l e _ s m _ below meth c s.heap [] 0 0 _ mc ms ⟨hl, B.exec, B.bytes, hml, B.returns, B.notSynchronized, findClass_of_methodNamed B.named, (name_of_methodNamed B.named B.method).1, ht, fun w hw => hts w (List.mem_cons_of_mem _ hw), hS, Nat.le_refl _, Nat.le_refl _, Nat.le_refl _, Nat.le_refl _⟩ (by omega) (by omega) hW va_S.rf (z_entry hc hn)
theorem zConW.of {G : zE} {F : zF} {d mc ms : Nat} {as : List Value} {h : zH} {Q : Option Value → zH → Prop} {X : String → zH → Prop} (hc : ∀ v ∈ as, v.category = 1) (hn : as.length ≤ F.2.2.1) (hp : plainName F.1.cls = true)
    (kk : zV G F d 0 (as.map some ++ List.replicate (F.2.2.1 - as.length) none) [] h mc ms Q X) : zConW G F d mc ms as h Q X := by
  intro l hl
  refine vx_ofWH (cc := F.2.1) (maxL := F.2.2.1) (ret := F.2.2.2.1) (hh := F.2.2.2.2) hp rfl ?_
  intro p e s m args below meth c s₁ B hml hv
  obtain ⟨rfl, hS, hW⟩ := hv
  have hts := atoms_spec (ws := zwsW F) B.pre
  rw [lg_entry_eq]
  have ht : c.exceptionTable.toList = tableOf F.2.2.2.2 := vx_table (x := F.1) B (hts _ List.mem_cons_self)
  exact kk p l e _ s m _ below meth c s.heap [] 0 0 _ mc ms ⟨hl, B.exec, B.bytes, hml, B.returns, B.notSynchronized, findClass_of_methodNamed B.named, (name_of_methodNamed B.named B.method).1, ht, fun w hw => hts w (List.mem_cons_of_mem _ hw), hS, Nat.le_refl _, Nat.le_refl _, Nat.le_refl _, Nat.le_refl _⟩ (by omega) (by omega) hW va_S.rf (z_entry hc hn)
