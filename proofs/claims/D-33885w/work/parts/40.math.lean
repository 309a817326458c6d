/-! Math.min, Math.max -/
set_option maxRecDepth 100000
section
variable {G : zE} {F : zF} {d pc k n : Nat} {L : List (Option Value)} {st : List Value} {h : zH} {Q : Option Value → zH → Prop} {X : String → zH → Prop}
theorem z_min {index : Nat} {x y : Int32} (dd : decode F.2.1 pc = .ok (.invokestatic index, 3)) (hl0 : Cond.methodLink F.1.cls index Lib.Math.min.name ∈ lw_all) (hd : 1 ≤ d) (hst : (st.map fun v => v.category).sum ≤ 8)
    (kk : zV G F d (pc + 3) L (.int (if y < x then y else x) :: st) h k n Q X) : zV G F d pc L (.int y :: .int x :: st) h k n Q X := by
  intro p l e R s m args below meth c H locs cells slots ls ec es C h1 h2 hW hS hL
  have b1 := C.2.2.2.2.2.2.2.2.2.2.2.1
  have b2 := C.2.2.2.2.2.2.2.2.2.2.2.2.1
  have b3 := C.2.2.2.2.2.2.2.2.2.2.2.2.2.1
  have b4 := C.2.2.2.2.2.2.2.2.2.2.2.2.2.2
  have hw := C.2.2.2.2.2.2.2.2.2.1
  exact va_mmin C.2.1 C.2.2.1 (by rw [C.2.2.2.1]; exact hL.1.symm) C.2.2.2.2.2.2.1 (hw _ hl0) (hw _ q363) (hw _ q123) (hw _ q364) (by omega) (by omega) (by omega) (by omega) dd (kk p l e R s m args below meth c H locs cells slots ls ec es C h1 h2 hW hS hL)
theorem z_max {index : Nat} {x y : Int32} (dd : decode F.2.1 pc = .ok (.invokestatic index, 3)) (hl0 : Cond.methodLink F.1.cls index Lib.Math.max.name ∈ lw_all) (hd : 1 ≤ d) (hst : (st.map fun v => v.category).sum ≤ 8)
    (kk : zV G F d (pc + 3) L (.int (if x < y then y else x) :: st) h k n Q X) : zV G F d pc L (.int y :: .int x :: st) h k n Q X := by
  intro p l e R s m args below meth c H locs cells slots ls ec es C h1 h2 hW hS hL
  have b1 := C.2.2.2.2.2.2.2.2.2.2.2.1
  have b2 := C.2.2.2.2.2.2.2.2.2.2.2.2.1
  have b3 := C.2.2.2.2.2.2.2.2.2.2.2.2.2.1
  have b4 := C.2.2.2.2.2.2.2.2.2.2.2.2.2.2
  have hw := C.2.2.2.2.2.2.2.2.2.1
  exact va_mmax C.2.1 C.2.2.1 (by rw [C.2.2.2.1]; exact hL.1.symm) C.2.2.2.2.2.2.1 (hw _ hl0) (hw _ q345) (hw _ q123) (hw _ q346) (by omega) (by omega) (by omega) (by omega) dd (kk p l e R s m args below meth c H locs cells slots ls ec es C h1 h2 hW hS hL)
end
