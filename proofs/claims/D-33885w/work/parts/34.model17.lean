/-! THE REFERENCE, part 17: what was thrown; its making -/
set_option maxRecDepth 100000
theorem k_thrown {G : zE} {A : Nat → Nat} {s pa ke no f : Nat → Int32} {h0 : zH} {d : Nat} (hd : 1 ≤ d) : zCon G fX3_thrown d 0 0 [.ref (A 0)] (mdl G A s pa ke no f h0) (zA (.int (f 7)) (mdl G A s pa ke no f h0)) nX := by
  refine zCon.of9 (L := [some (.ref (A 0))]) (by simp [Value.category]) (Nat.le_of_ble_eq_true rfl) pX3 rfl rfl ?_
  refine z_aload_n dX3_thrown_0 rfl ?_
  refine zm_get 7 dX3_thrown_1 q1749 rfl rfl ?_
  exact z_ret dX3_thrown_4 rfl rfl ⟨rfl, rfl⟩
def zb_start  : Nat → Nat → (Nat → Int32) → (Nat → Int32)
  | 0, _, σ => σ
  | j + 1, K, σ => zb_start j (K + 1) (upd (upd (upd σ (7 + K) (5 + (7 * (nI K)))) (15 + K) 10) (23 + K) 20)
set_option maxHeartbeats 4000000 in
theorem l_start {G : zE} {A : Nat → Nat} (hA : zinj A 5) {s pa ke no f : Nat → Int32} {h0 : zH} {d k n : Nat} (hd : 1 ≤ d) {Q : Option Value → zH → Prop} {X : String → zH → Prop} : ∀ (j K : Nat) (σ : (Nat → Int32)), K + j = 8 → zV G fX3_init d 128 [some (.ref (A 0)), none] [] (mdl G A (zput 0 (zb_start j K σ) s) pa ke no f h0) k n Q X → zV G fX3_init d 79 [some (.ref (A 0)), some (.int (nI K))] [] (mdl G A (zput 0 σ s) pa ke no f h0) k n Q X := by
  intro j
  induction j with
  | zero =>
    intro K σ hK hx
    have hK9 : K = 8 := by omega
    subst hK9
    refine z_iload_n dX3_init_79 rfl ?_
    refine z_bipush dX3_init_80 (v := 8) rfl ?_
    refine z_icmp_ge (tgt := 128) dX3_init_82 (by decide) (fun hg => ?_) (fun hg => ?_)
    ·
      refine z_loc (L2 := [some (.ref (A 0)), none]) ⟨rfl, trivial⟩ ?_
      exact hx
    · exact absurd (by rw [zk 8]; exact Int32.le_refl _) hg
  | succ j ih =>
    intro K σ hK hx
    refine z_iload_n dX3_init_79 rfl ?_
    refine z_bipush dX3_init_80 (v := 8) rfl ?_
    refine z_icmp_ge (tgt := 128) dX3_init_82 (by decide) (fun hg => ?_) (fun hg => ?_)
    · exact absurd hg (by rw [zk 8]; exact nI_ge (by omega) (by omega))
    ·
      refine z_aload_n dX3_init_85 rfl ?_
      refine zm_get 0 dX3_init_86 q1742 rfl rfl ?_
      refine z_bipush dX3_init_89 (v := 7) rfl ?_
      refine z_iload_n dX3_init_91 rfl ?_
      refine z_iadd dX3_init_92 ?_
      refine z_iconst dX3_init_93 (v := 5) rfl ?_
      refine z_bipush dX3_init_94 (v := 7) rfl ?_
      refine z_iload_n dX3_init_96 rfl ?_
      refine z_imul dX3_init_97 ?_
      refine z_iadd dX3_init_98 ?_
      refine zm_st hA (by decide) (P := 0) (7 + K) dX3_init_99 (zn_to (zn_add (zk 7) rfl) (by omega)) (by omega) ?_
      refine z_aload_n dX3_init_100 rfl ?_
      refine zm_get 0 dX3_init_101 q1742 rfl rfl ?_
      refine z_bipush dX3_init_104 (v := 15) rfl ?_
      refine z_iload_n dX3_init_106 rfl ?_
      refine z_iadd dX3_init_107 ?_
      refine z_bipush dX3_init_108 (v := 10) rfl ?_
      refine zm_st hA (by decide) (P := 0) (15 + K) dX3_init_110 (zn_to (zn_add (zk 15) rfl) (by omega)) (by omega) ?_
      refine z_aload_n dX3_init_111 rfl ?_
      refine zm_get 0 dX3_init_112 q1742 rfl rfl ?_
      refine z_bipush dX3_init_115 (v := 23) rfl ?_
      refine z_iload_n dX3_init_117 rfl ?_
      refine z_iadd dX3_init_118 ?_
      refine z_bipush dX3_init_119 (v := 20) rfl ?_
      refine zm_st hA (by decide) (P := 0) (23 + K) dX3_init_121 (zn_to (zn_add (zk 23) rfl) (by omega)) (by omega) ?_
      refine z_iinc dX3_init_122 rfl (v := nI (K + 1)) (z_inc rfl) ?_
      refine z_goto (tgt := 79) dX3_init_125 (by decide) ?_
      refine z_loc (L2 := [some (.ref (A 0)), some (.int (nI (K + 1)))]) ⟨rfl, rfl, trivial⟩ ?_
      exact ih (K + 1) (upd (upd (upd σ (7 + K) (5 + (7 * (nI K)))) (15 + K) 10) (23 + K) 20) (by omega) hx
/-- the first row -/
def zrow0 : Nat → Int32 := zb_start 8 0 (upd (upd (upd (upd (upd (fun _ => 0) 1 8) 2 50) 3 2) 4 3) 5 7)
def zdf : List Value := [.null, .null, .int 0, .null, .int 0, .null, .int 0, .int 0, .int 0, .int 0, .int 0, .int 0, .int 0]
def zA5 (a b c e g : Nat) : Nat → Nat := fun i => if i = 0 then a else if i = 1 then b else if i = 2 then c else if i = 3 then e else g
theorem zput_00 {s : Nat → Int32} : zput 0 s s = s := by
  funext q
  unfold zput
  by_cases h : 0 ≤ q ∧ q < 0 + 287
  · rw [if_pos h, Nat.sub_zero]
  · rw [if_neg h]
theorem zinj5 {a b c e g : Nat} (h1 : a ≠ b) (h2 : a ≠ c) (h3 : a ≠ e) (h4 : a ≠ g) (h5 : b ≠ c) (h6 : b ≠ e) (h7 : b ≠ g) (h8 : c ≠ e) (h9 : c ≠ g) (h10 : e ≠ g) : zinj (zA5 a b c e g) 5 := by
  intro i j hi hj h
  match i, hi, j, hj with
  | 0, _, 0, _ => rfl
  | 1, _, 1, _ => rfl
  | 2, _, 2, _ => rfl
  | 3, _, 3, _ => rfl
  | 4, _, 4, _ => rfl
  | 0, _, 1, _ => exact absurd h h1
  | 0, _, 2, _ => exact absurd h h2
  | 0, _, 3, _ => exact absurd h h3
  | 0, _, 4, _ => exact absurd h h4
  | 1, _, 0, _ => exact absurd h.symm h1
  | 1, _, 2, _ => exact absurd h h5
  | 1, _, 3, _ => exact absurd h h6
  | 1, _, 4, _ => exact absurd h h7
  | 2, _, 0, _ => exact absurd h.symm h2
  | 2, _, 1, _ => exact absurd h.symm h5
  | 2, _, 3, _ => exact absurd h h8
  | 2, _, 4, _ => exact absurd h h9
  | 3, _, 0, _ => exact absurd h.symm h3
  | 3, _, 1, _ => exact absurd h.symm h6
  | 3, _, 2, _ => exact absurd h.symm h8
  | 3, _, 4, _ => exact absurd h h10
  | 4, _, 0, _ => exact absurd h.symm h4
  | 4, _, 1, _ => exact absurd h.symm h7
  | 4, _, 2, _ => exact absurd h.symm h9
  | 4, _, 3, _ => exact absurd h.symm h10
/-- the cells made, in the order of their making -/
theorem zmk_mdl {G : zE} {h : zH} {a b c e g : Nat} {x1 x2 x3 : va_E} (hA : zinj (zA5 a b c e g) 5) : zup (zup (zup (zup (zup (zup (zup (zup h b (zI G 574 (fun _ => 0))) a x1) c (zI G 1148 (fun _ => 0))) a x2) e (zI G 287 (fun _ => 0))) a x3) g (zI G 60 (fun _ => 0))) a (zO 7 (zmf (zA5 a b c e g) (fun _ => 0))) = mdl G (zA5 a b c e g) (fun _ => 0) (fun _ => 0) (fun _ => 0) (fun _ => 0) (fun _ => 0) h := by
  have n1 : b ≠ a := hA.ne 1 0 rfl rfl rfl
  have n2 : c ≠ a := hA.ne 2 0 rfl rfl rfl
  have n3 : e ≠ a := hA.ne 3 0 rfl rfl rfl
  have n4 : g ≠ a := hA.ne 4 0 rfl rfl rfl
  have n5 : c ≠ b := hA.ne 2 1 rfl rfl rfl
  have n6 : e ≠ b := hA.ne 3 1 rfl rfl rfl
  have n7 : g ≠ b := hA.ne 4 1 rfl rfl rfl
  have n8 : e ≠ c := hA.ne 3 2 rfl rfl rfl
  have n9 : g ≠ c := hA.ne 4 2 rfl rfl rfl
  have n10 : g ≠ e := hA.ne 4 3 rfl rfl rfl
  funext q
  show zup (zup (zup (zup (zup (zup (zup (zup h b (zI G 574 (fun _ => 0))) a x1) c (zI G 1148 (fun _ => 0))) a x2) e (zI G 287 (fun _ => 0))) a x3) g (zI G 60 (fun _ => 0))) a (zO 7 (zmf (zA5 a b c e g) (fun _ => 0))) q = if q = a then some (zO 7 (zmf (zA5 a b c e g) (fun _ => 0))) else if q = b then some (zI G 574 (fun _ => 0)) else if q = c then some (zI G 1148 (fun _ => 0)) else if q = e then some (zI G 287 (fun _ => 0)) else if q = g then some (zI G 60 (fun _ => 0)) else h q
  by_cases q0 : q = a
  · rw [if_pos q0, q0, zup_s]
  rw [if_neg q0, zup_n q0]
  by_cases q1 : q = b
  · rw [if_pos q1, q1, zup_n n7.symm, zup_n n1, zup_n n6.symm, zup_n n1, zup_n n5.symm, zup_n n1, zup_s]
  rw [if_neg q1]
  by_cases q2 : q = c
  · rw [if_pos q2, q2, zup_n n9.symm, zup_n n2, zup_n n8.symm, zup_n n2, zup_s]
  rw [if_neg q2]
  by_cases q3 : q = e
  · rw [if_pos q3, q3, zup_n n10.symm, zup_n n3, zup_s]
  rw [if_neg q3]
  by_cases q4 : q = g
  · rw [if_pos q4, q4, zup_s]
  rw [if_neg q4, zup_n q4, zup_n q0, zup_n q3, zup_n q0, zup_n q2, zup_n q0, zup_n q1]
set_option maxHeartbeats 4000000 in
theorem k_start {G : zE} {a : Nat} {h : zH} (ha : h a = some (zO 7 zdf)) {d : Nat} (hd : 2 ≤ d) : zCon G fX3_init d 4 2069 [.ref a] h (fun r h' => r = none ∧ ∃ A s, A 0 = a ∧ zinj A 5 ∧ h' = mdl G A (zput 0 zrow0 s) (fun _ => 0) (fun _ => 0) (fun _ => 0) (fun _ => 0) h) nX := by
  refine zCon.of9 (L := [some (.ref a), none]) (by simp [Value.category]) (Nat.le_of_ble_eq_true rfl) pX3 rfl rfl ?_
  refine z_aload_n dX3_init_0 rfl ?_
  refine z_objInit dX3_init_1 q1741 q141 q142 (by omega) (by decide) ?_
  refine z_aload_n dX3_init_4 rfl ?_
  refine z_sipush dX3_init_5 (v := 574) rfl ?_
  refine z_newI dX3_init_8 q238 (zk 574) (by decide) (by omega) (by omega) (fun b1 hn1 hb1 => ?_)
  have na1 : a ≠ b1 := fun q => by rw [← q, ha] at hn1; exact absurd hn1 (fun z => nomatch z)
  refine z_putfF zc7 0 dX3_init_10 q1742 (by decide) rfl rfl rfl rfl rfl ((zup_n na1).trans ha) (by simp [zdf]) ?_
  refine z_aload_n dX3_init_13 rfl ?_
  refine z_sipush dX3_init_14 (v := 1148) rfl ?_
  refine z_newI dX3_init_17 q238 (zk 1148) (by decide) (by omega) (by omega) (fun b2 hn2 hb2 => ?_)
  have na2 : a ≠ b2 := fun q => by rw [← q, zup_s] at hn2; exact absurd hn2 (fun z => nomatch z)
  refine z_putfF zc7 1 dX3_init_19 q1743 (by decide) rfl rfl rfl rfl rfl ((zup_n na2).trans zup_s) (by simp [zdf]) ?_
  refine z_aload_n dX3_init_22 rfl ?_
  refine z_sipush dX3_init_23 (v := 287) rfl ?_
  refine z_newI dX3_init_26 q238 (zk 287) (by decide) (by omega) (by omega) (fun b3 hn3 hb3 => ?_)
  have na3 : a ≠ b3 := fun q => by rw [← q, zup_s] at hn3; exact absurd hn3 (fun z => nomatch z)
  refine z_putfF zc7 3 dX3_init_28 q1745 (by decide) rfl rfl rfl rfl rfl ((zup_n na3).trans zup_s) (by simp [zdf]) ?_
  refine z_aload_n dX3_init_31 rfl ?_
  refine z_bipush dX3_init_32 (v := 60) rfl ?_
  refine z_newI dX3_init_34 q238 (zk 60) (by decide) (by omega) (by omega) (fun b4 hn4 hb4 => ?_)
  have na4 : a ≠ b4 := fun q => by rw [← q, zup_s] at hn4; exact absurd hn4 (fun z => nomatch z)
  refine z_putfF zc7 5 dX3_init_36 q1747 (by decide) rfl rfl rfl rfl rfl ((zup_n na4).trans zup_s) (by simp [zdf]) ?_
  have n12 : b1 ≠ b2 := fun q => by rw [← q, zup_n na1.symm, zup_s] at hn2; exact absurd hn2 (fun z => nomatch z)
  have n13 : b1 ≠ b3 := fun q => by rw [← q, zup_n na1.symm, zup_n n12, zup_n na1.symm, zup_s] at hn3; exact absurd hn3 (fun z => nomatch z)
  have n23 : b2 ≠ b3 := fun q => by rw [← q, zup_n na2.symm, zup_s] at hn3; exact absurd hn3 (fun z => nomatch z)
  have n14 : b1 ≠ b4 := fun q => by rw [← q, zup_n na1.symm, zup_n n13, zup_n na1.symm, zup_n n12, zup_n na1.symm, zup_s] at hn4; exact absurd hn4 (fun z => nomatch z)
  have n24 : b2 ≠ b4 := fun q => by rw [← q, zup_n na2.symm, zup_n n23, zup_n na2.symm, zup_s] at hn4; exact absurd hn4 (fun z => nomatch z)
  have n34 : b3 ≠ b4 := fun q => by rw [← q, zup_n na3.symm, zup_s] at hn4; exact absurd hn4 (fun z => nomatch z)
  have hA : zinj (zA5 a b1 b2 b3 b4) 5 := zinj5 na1 na2 na3 na4 n12 n13 n14 n23 n24 n34
  rw [show (Sum.inr (7, (((zdf.set 0 (.ref b1)).set 1 (.ref b2)).set 3 (.ref b3)).set 5 (.ref b4)) : va_E) = zO 7 (zmf (zA5 a b1 b2 b3 b4) (fun _ => 0)) from rfl, zmk_mdl hA]
  show zV G fX3_init d 39 [some (.ref (zA5 a b1 b2 b3 b4 0)), none] [] (mdl G (zA5 a b1 b2 b3 b4) (fun _ => 0) (fun _ => 0) (fun _ => 0) (fun _ => 0) (fun _ => 0) h) _ _ _ nX
  generalize hAA : zA5 a b1 b2 b3 b4 = A at hA ⊢
  have hA0 : A 0 = a := by rw [← hAA]; rfl
  rw [show mdl G A (fun _ => 0) (fun _ => 0) (fun _ => 0) (fun _ => 0) (fun _ => 0) h = mdl G A (zput 0 (fun _ => 0) (fun _ => 0)) (fun _ => 0) (fun _ => 0) (fun _ => 0) (fun _ => 0) h from by rw [zput_00]]
  refine z_aload_n dX3_init_39 rfl ?_
  refine zm_get 0 dX3_init_40 q1742 rfl rfl ?_
  refine z_iconst dX3_init_43 (v := 1) rfl ?_
  refine z_bipush dX3_init_44 (v := 8) rfl ?_
  refine zm_st hA (by decide) (P := 0) (1) dX3_init_46 (zn_to (zk 1) (by omega)) (by omega) ?_
  refine z_aload_n dX3_init_47 rfl ?_
  refine zm_get 0 dX3_init_48 q1742 rfl rfl ?_
  refine z_iconst dX3_init_51 (v := 2) rfl ?_
  refine z_bipush dX3_init_52 (v := 50) rfl ?_
  refine zm_st hA (by decide) (P := 0) (2) dX3_init_54 (zn_to (zk 2) (by omega)) (by omega) ?_
  refine z_aload_n dX3_init_55 rfl ?_
  refine zm_get 0 dX3_init_56 q1742 rfl rfl ?_
  refine z_iconst dX3_init_59 (v := 3) rfl ?_
  refine z_iconst dX3_init_60 (v := 2) rfl ?_
  refine zm_st hA (by decide) (P := 0) (3) dX3_init_61 (zn_to (zk 3) (by omega)) (by omega) ?_
  refine z_aload_n dX3_init_62 rfl ?_
  refine zm_get 0 dX3_init_63 q1742 rfl rfl ?_
  refine z_iconst dX3_init_66 (v := 4) rfl ?_
  refine z_iconst dX3_init_67 (v := 3) rfl ?_
  refine zm_st hA (by decide) (P := 0) (4) dX3_init_68 (zn_to (zk 4) (by omega)) (by omega) ?_
  refine z_aload_n dX3_init_69 rfl ?_
  refine zm_get 0 dX3_init_70 q1742 rfl rfl ?_
  refine z_iconst dX3_init_73 (v := 5) rfl ?_
  refine z_bipush dX3_init_74 (v := 7) rfl ?_
  refine zm_st hA (by decide) (P := 0) (5) dX3_init_76 (zn_to (zk 5) (by omega)) (by omega) ?_
  refine z_iconst dX3_init_77 (v := 0) rfl ?_
  refine z_istore_n dX3_init_78 (by decide) ?_
  refine l_start hA (by omega) 8 0 _ rfl ?_
  refine z_vret dX3_init_128 rfl ⟨rfl, A, _, hA0, hA, rfl⟩
