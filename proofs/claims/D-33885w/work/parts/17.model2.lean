/-! THE REFERENCE, part 2: shells and crabs, over a row σ at P -/
set_option maxRecDepth 100000
def zf_worn (σ : Nat → Int32) (b : Nat) : Int32 := if (σ (212 + 5 * b + 2)) = (-1) then ((-40) : Int32) else (zf_worthOf σ ((σ (212 + 5 * b + 2)).toNatClampNeg) b)
set_option maxHeartbeats 4000000 in
theorem k_worn {G : zE} {A : Nat → Nat} (hA : zinj A 5) {P : Nat} (hP : P ≤ 287) {σ s pa ke no f : Nat → Int32} {h0 : zH} {p : Int32} (hp : p = nI P) {NL NS NC : Nat} (hok : zok σ NL NS NC) {c : Int32} {b : Nat} (hb : c = nI b) (lb : b < NC) {d : Nat} (hd : 3 ≤ d) : zCon G fX3_worn d 0 0 [.ref (A 0), .int p, .int c] (mdl G A (zput P σ s) pa ke no f h0) (zA (.int (zf_worn σ b)) (mdl G A (zput P σ s) pa ke no f h0)) nX := by
  refine zCon.of9 (L := [some (.ref (A 0)), some (.int p), some (.int c), none]) (by simp [Value.category]) (Nat.le_of_ble_eq_true rfl) pX3 rfl rfl ?_
  obtain ⟨bL, bS, bC⟩ := hok.b
  refine z_aload_n dX3_worn_0 rfl ?_
  refine zm_get 0 dX3_worn_1 q1742 rfl rfl ?_
  refine z_iload_n dX3_worn_4 rfl ?_
  refine z_iload_n dX3_worn_5 rfl ?_
  refine z_cS mX3_crab (k_crab (d := d - 1) hp hb (by omega)) dX3_worn_6 q1819 (by omega) rfl (Nat.le_of_ble_eq_true rfl) rfl ?_
  refine z_iconst dX3_worn_9 (v := 2) rfl ?_
  refine z_iadd dX3_worn_10 ?_
  refine zm_ld hA hP (P := P) (212 + 5 * b + 2) (v := σ (212 + 5 * b + 2)) dX3_worn_11 (zn_to (zn_add rfl (zk 2)) (by omega)) (by omega) (rfl) ?_
  refine z_istore_n dX3_worn_12 (by decide) ?_
  refine z_iload_n dX3_worn_13 rfl ?_
  refine z_iconst dX3_worn_14 (v := (-1)) rfl ?_
  refine z_join 30 (.int (if (σ (212 + 5 * b + 2)) = (-1) then ((-40) : Int32) else (zf_worthOf σ ((σ (212 + 5 * b + 2)).toNatClampNeg) b))) 2 ?_ (fun hJ => ?_)
  rotate_left
  ·
    refine z_icmp_ne (tgt := 23) dX3_worn_15 (by decide) (fun c_1 => ?_) (fun c_1 => ?_)
    ·
      refine z_aload_n dX3_worn_23 rfl ?_
      refine z_iload_n dX3_worn_24 rfl ?_
      refine z_iload_n dX3_worn_25 rfl ?_
      refine z_iload_n dX3_worn_26 rfl ?_
      have lb_2 := (hok.cw (k := b) (by omega) c_1).2
      refine z_cV zc7 mX3_worthOf (k_worthOf (d := d - 1) hA (P := P) hP hp ((hok.cw (k := b) (by omega) c_1).1) hb (by omega) (by omega) (by omega)) dX3_worn_27 q1921 (by omega) rfl (Nat.le_of_ble_eq_true rfl) rfl mdl_0 rfl ?_
      exact z_jv (by simp only [if_neg c_1] <;> rfl) hJ
    ·
      refine z_bipush dX3_worn_18 (v := (-40)) rfl ?_
      refine z_goto (tgt := 30) dX3_worn_20 (by decide) ?_
      exact z_jv (by simp only [if_pos c_1] <;> rfl) hJ
  refine z_ret dX3_worn_30 rfl rfl ⟨rfl, rfl⟩
abbrev zf_isTight (σ : Nat → Int32) (b : Nat) : Prop := ¬ ((σ (212 + 5 * b + 2)) = (-1)) ∧ (¬ ((σ (212 + 5 * b)) ≤ (σ (133 + 3 * ((σ (212 + 5 * b + 2)).toNatClampNeg)))))
set_option maxHeartbeats 4000000 in
theorem k_isTight {G : zE} {A : Nat → Nat} (hA : zinj A 5) {P : Nat} (hP : P ≤ 287) {σ s pa ke no f : Nat → Int32} {h0 : zH} {p : Int32} (hp : p = nI P) {NL NS NC : Nat} (hok : zok σ NL NS NC) {c : Int32} {b : Nat} (hb : c = nI b) (lb : b < NC) {d : Nat} (hd : 2 ≤ d) : zCon G fX3_isTight d 0 0 [.ref (A 0), .int p, .int c] (mdl G A (zput P σ s) pa ke no f h0) (zA (.int (if zf_isTight σ b then (1 : Int32) else 0)) (mdl G A (zput P σ s) pa ke no f h0)) nX := by
  refine zCon.of9 (L := [some (.ref (A 0)), some (.int p), some (.int c), none]) (by simp [Value.category]) (Nat.le_of_ble_eq_true rfl) pX3 rfl rfl ?_
  obtain ⟨bL, bS, bC⟩ := hok.b
  refine z_aload_n dX3_isTight_0 rfl ?_
  refine zm_get 0 dX3_isTight_1 q1742 rfl rfl ?_
  refine z_iload_n dX3_isTight_4 rfl ?_
  refine z_iload_n dX3_isTight_5 rfl ?_
  refine z_cS mX3_crab (k_crab (d := d - 1) hp hb (by omega)) dX3_isTight_6 q1819 (by omega) rfl (Nat.le_of_ble_eq_true rfl) rfl ?_
  refine z_iconst dX3_isTight_9 (v := 2) rfl ?_
  refine z_iadd dX3_isTight_10 ?_
  refine zm_ld hA hP (P := P) (212 + 5 * b + 2) (v := σ (212 + 5 * b + 2)) dX3_isTight_11 (zn_to (zn_add rfl (zk 2)) (by omega)) (by omega) (rfl) ?_
  refine z_istore_n dX3_isTight_12 (by decide) ?_
  refine z_iload_n dX3_isTight_13 rfl ?_
  refine z_iconst dX3_isTight_14 (v := (-1)) rfl ?_
  refine z_join 46 (.int (if ¬ ((σ (212 + 5 * b + 2)) = (-1)) ∧ (¬ ((σ (212 + 5 * b)) ≤ (σ (133 + 3 * ((σ (212 + 5 * b + 2)).toNatClampNeg))))) then (1 : Int32) else 0)) 2 ?_ (fun hJ => ?_)
  rotate_left
  ·
    refine z_icmp_eq (tgt := 45) dX3_isTight_15 (by decide) (fun c_1 => ?_) (fun c_1 => ?_)
    ·
      refine z_iconst dX3_isTight_45 (v := 0) rfl ?_
      exact z_jv (if_neg (fun z => z.1 c_1)) hJ
    ·
      refine z_aload_n dX3_isTight_18 rfl ?_
      refine zm_get 0 dX3_isTight_19 q1742 rfl rfl ?_
      refine z_iload_n dX3_isTight_22 rfl ?_
      refine z_iload_n dX3_isTight_23 rfl ?_
      have lb_2 := (hok.cw (k := b) (by omega) c_1).2
      refine z_cS mX3_shell (k_shell (d := d - 1) hp ((hok.cw (k := b) (by omega) c_1).1) (by omega)) dX3_isTight_24 q1834 (by omega) rfl (Nat.le_of_ble_eq_true rfl) rfl ?_
      refine zm_ld hA hP (P := P) (133 + 3 * ((σ (212 + 5 * b + 2)).toNatClampNeg)) (v := σ (133 + 3 * ((σ (212 + 5 * b + 2)).toNatClampNeg))) dX3_isTight_27 (zn_to (rfl) (by omega)) (by omega) (rfl) ?_
      refine z_aload_n dX3_isTight_28 rfl ?_
      refine zm_get 0 dX3_isTight_29 q1742 rfl rfl ?_
      refine z_iload_n dX3_isTight_32 rfl ?_
      refine z_iload_n dX3_isTight_33 rfl ?_
      refine z_cS mX3_crab (k_crab (d := d - 1) hp hb (by omega)) dX3_isTight_34 q1819 (by omega) rfl (Nat.le_of_ble_eq_true rfl) rfl ?_
      refine zm_ld hA hP (P := P) (212 + 5 * b) (v := σ (212 + 5 * b)) dX3_isTight_37 (zn_to (rfl) (by omega)) (by omega) (rfl) ?_
      refine z_icmp_ge (tgt := 45) dX3_isTight_38 (by decide) (fun c_3 => ?_) (fun c_3 => ?_)
      ·
        refine z_iconst dX3_isTight_45 (v := 0) rfl ?_
        exact z_jv (if_neg (fun z => (fun z => z c_3) z.2)) hJ
      ·
        refine z_iconst dX3_isTight_41 (v := 1) rfl ?_
        refine z_goto (tgt := 46) dX3_isTight_42 (by decide) ?_
        exact z_jv (if_pos (⟨c_1, c_3⟩)) hJ
  refine z_ret dX3_isTight_46 rfl z_bool ⟨rfl, rfl⟩
def zb_better (σ : Nat → Int32) (b : Nat) (pool : Int32) : Nat → Nat → Int32 → Int32 → Int32 × Int32
  | 0, _, x, y => (x, y)
  | j + 1, K, x, y => zb_better σ b pool j (K + 1) (if ((σ (133 + 3 * K + 2)) = (-1)) ∧ (((σ (133 + 3 * K + 1)) = pool) ∧ (¬ ((zf_worthOf σ K b) ≤ y))) then (nI K) else x) (if ((σ (133 + 3 * K + 2)) = (-1)) ∧ (((σ (133 + 3 * K + 1)) = pool) ∧ (¬ ((zf_worthOf σ K b) ≤ y))) then (zf_worthOf σ K b) else y)
set_option maxHeartbeats 4000000 in
theorem l_better {G : zE} {A : Nat → Nat} (hA : zinj A 5) {P : Nat} (hP : P ≤ 287) {σ s pa ke no f : Nat → Int32} {h0 : zH} {p : Int32} (hp : p = nI P) {NL NS NC : Nat} (hok : zok σ NL NS NC) {c : Int32} {b : Nat} (hb : c = nI b) (lb : b < NC) {pool : Int32} {d k n : Nat} (hd : 3 ≤ d) {Q : Option Value → zH → Prop} {X : String → zH → Prop} : ∀ (j K : Nat) (x : Int32) (y : Int32), K + j = NS → zV G fX3_better d 123 [some (.ref (A 0)), some (.int p), some (.int c), some (.int pool), some (.int ((zb_better σ b pool j K x y).1)), some (.int ((zb_better σ b pool j K x y).2)), none, none, none] [] (mdl G A (zput P σ s) pa ke no f h0) k n Q X → zV G fX3_better d 14 [some (.ref (A 0)), some (.int p), some (.int c), some (.int pool), some (.int x), some (.int y), some (.int (nI K)), none, none] [] (mdl G A (zput P σ s) pa ke no f h0) k n Q X := by
  intro j
  induction j with
  | zero =>
    intro K x y hK hx
    have hK9 : K = NS := by omega
    subst hK9
    refine z_iload dX3_better_14 rfl ?_
    refine z_aload_n dX3_better_16 rfl ?_
    refine zm_get 0 dX3_better_17 q1742 rfl rfl ?_
    refine z_iload_n dX3_better_20 rfl ?_
    refine z_sipush dX3_better_21 (v := 132) rfl ?_
    refine z_iadd dX3_better_24 ?_
    refine zm_ld hA hP (P := P) (132) (v := σ 132) dX3_better_25 (zn_to (zn_add hp (zk 132)) (by omega)) (by omega) (rfl) ?_
    refine z_icmp_ge (tgt := 123) dX3_better_26 (by decide) (fun hg => ?_) (fun hg => ?_)
    ·
      refine z_loc (L2 := [some (.ref (A 0)), some (.int p), some (.int c), some (.int pool), some (.int x), some (.int y), none, none, none]) ⟨rfl, rfl, rfl, rfl, rfl, rfl, trivial⟩ ?_
      exact hx
    · exact absurd (by rw [hok.ns]; exact Int32.le_refl _) hg
  | succ j ih =>
    intro K x y hK hx
    obtain ⟨bL, bS, bC⟩ := hok.b
    refine z_iload dX3_better_14 rfl ?_
    refine z_aload_n dX3_better_16 rfl ?_
    refine zm_get 0 dX3_better_17 q1742 rfl rfl ?_
    refine z_iload_n dX3_better_20 rfl ?_
    refine z_sipush dX3_better_21 (v := 132) rfl ?_
    refine z_iadd dX3_better_24 ?_
    refine zm_ld hA hP (P := P) (132) (v := σ 132) dX3_better_25 (zn_to (zn_add hp (zk 132)) (by omega)) (by omega) (rfl) ?_
    refine z_icmp_ge (tgt := 123) dX3_better_26 (by decide) (fun hg => ?_) (fun hg => ?_)
    · exact absurd hg (by rw [hok.ns]; exact nI_ge (by omega) (by omega))
    ·
      refine z_iload_n dX3_better_29 rfl ?_
      refine z_iload dX3_better_30 rfl ?_
      refine z_cS mX3_shell (k_shell (d := d - 1) hp rfl (by omega)) dX3_better_32 q1834 (by omega) rfl (Nat.le_of_ble_eq_true rfl) rfl ?_
      refine z_istore dX3_better_35 (by decide) ?_
      refine z_aload_n dX3_better_37 rfl ?_
      refine zm_get 0 dX3_better_38 q1742 rfl rfl ?_
      refine z_iload dX3_better_41 rfl ?_
      refine z_iconst dX3_better_43 (v := 2) rfl ?_
      refine z_iadd dX3_better_44 ?_
      refine zm_ld hA hP (P := P) (133 + 3 * K + 2) (v := σ (133 + 3 * K + 2)) dX3_better_45 (zn_to (zn_add rfl (zk 2)) (by omega)) (by omega) (rfl) ?_
      refine z_iconst dX3_better_46 (v := (-1)) rfl ?_
      refine z_join 81 (.int (if ((σ (133 + 3 * K + 2)) = (-1)) ∧ (((σ (133 + 3 * K + 1)) = pool) ∧ (¬ ((zf_worthOf σ K b) ≤ y))) then (1 : Int32) else 0)) 2 ?_ (fun hJ => ?_)
      rotate_left
      ·
        refine z_icmp_ne (tgt := 80) dX3_better_47 (by decide) (fun c_1 => ?_) (fun c_1 => ?_)
        ·
          refine z_iconst dX3_better_80 (v := 0) rfl ?_
          exact z_jv (if_neg (fun z => c_1 z.1)) hJ
        ·
          refine z_aload_n dX3_better_50 rfl ?_
          refine zm_get 0 dX3_better_51 q1742 rfl rfl ?_
          refine z_iload dX3_better_54 rfl ?_
          refine z_iconst dX3_better_56 (v := 1) rfl ?_
          refine z_iadd dX3_better_57 ?_
          refine zm_ld hA hP (P := P) (133 + 3 * K + 1) (v := σ (133 + 3 * K + 1)) dX3_better_58 (zn_to (zn_add rfl (zk 1)) (by omega)) (by omega) (rfl) ?_
          refine z_iload_n dX3_better_59 rfl ?_
          refine z_icmp_ne (tgt := 80) dX3_better_60 (by decide) (fun c_2 => ?_) (fun c_2 => ?_)
          ·
            refine z_iconst dX3_better_80 (v := 0) rfl ?_
            exact z_jv (if_neg (fun z => (fun z => c_2 z.1) z.2)) hJ
          ·
            refine z_aload_n dX3_better_63 rfl ?_
            refine z_iload_n dX3_better_64 rfl ?_
            refine z_iload dX3_better_65 rfl ?_
            refine z_iload_n dX3_better_67 rfl ?_
            refine z_cV zc7 mX3_worthOf (k_worthOf (d := d - 1) hA (P := P) hP hp rfl hb (by omega) (by omega) (by omega)) dX3_better_68 q1921 (by omega) rfl (Nat.le_of_ble_eq_true rfl) rfl mdl_0 rfl ?_
            refine z_iload dX3_better_71 rfl ?_
            refine z_icmp_le (tgt := 80) dX3_better_73 (by decide) (fun c_3 => ?_) (fun c_3 => ?_)
            ·
              refine z_iconst dX3_better_80 (v := 0) rfl ?_
              exact z_jv (if_neg (fun z => (fun z => (fun z => z c_3) z.2) z.2)) hJ
            ·
              refine z_iconst dX3_better_76 (v := 1) rfl ?_
              refine z_goto (tgt := 81) dX3_better_77 (by decide) ?_
              exact z_jv (if_pos (⟨c_1, ⟨c_2, c_3⟩⟩)) hJ
      refine z_istore dX3_better_81 (by decide) ?_
      refine z_iload dX3_better_83 rfl ?_
      refine z_join 95 (.int (if ((σ (133 + 3 * K + 2)) = (-1)) ∧ (((σ (133 + 3 * K + 1)) = pool) ∧ (¬ ((zf_worthOf σ K b) ≤ y))) then (nI K) else x)) 1 ?_ (fun hJ => ?_)
      rotate_left
      ·
        refine z_ifB_eq (tgt := 93) dX3_better_85 (by decide) (fun c_4 => ?_) (fun c_4 => ?_)
        ·
          refine z_iload dX3_better_93 rfl ?_
          exact z_jv (by simp only [if_neg c_4] <;> rfl) hJ
        ·
          refine z_iload dX3_better_88 rfl ?_
          refine z_goto (tgt := 95) dX3_better_90 (by decide) ?_
          exact z_jv (by simp only [if_pos c_4] <;> rfl) hJ
      refine z_istore dX3_better_95 (by decide) ?_
      refine z_iload dX3_better_97 rfl ?_
      refine z_join 115 (.int (if ((σ (133 + 3 * K + 2)) = (-1)) ∧ (((σ (133 + 3 * K + 1)) = pool) ∧ (¬ ((zf_worthOf σ K b) ≤ y))) then (zf_worthOf σ K b) else y)) 1 ?_ (fun hJ => ?_)
      rotate_left
      ·
        refine z_ifB_eq (tgt := 113) dX3_better_99 (by decide) (fun c_5 => ?_) (fun c_5 => ?_)
        ·
          refine z_iload dX3_better_113 rfl ?_
          exact z_jv (by simp only [if_neg c_5] <;> rfl) hJ
        ·
          refine z_aload_n dX3_better_102 rfl ?_
          refine z_iload_n dX3_better_103 rfl ?_
          refine z_iload dX3_better_104 rfl ?_
          refine z_iload_n dX3_better_106 rfl ?_
          refine z_cV zc7 mX3_worthOf (k_worthOf (d := d - 1) hA (P := P) hP hp rfl hb (by omega) (by omega) (by omega)) dX3_better_107 q1921 (by omega) rfl (Nat.le_of_ble_eq_true rfl) rfl mdl_0 rfl ?_
          refine z_goto (tgt := 115) dX3_better_110 (by decide) ?_
          exact z_jv (by simp only [if_pos c_5] <;> rfl) hJ
      refine z_istore dX3_better_115 (by decide) ?_
      refine z_iinc dX3_better_117 rfl (v := nI (K + 1)) (z_inc rfl) ?_
      refine z_goto (tgt := 14) dX3_better_120 (by decide) ?_
      refine z_loc (L2 := [some (.ref (A 0)), some (.int p), some (.int c), some (.int pool), some (.int (if ((σ (133 + 3 * K + 2)) = (-1)) ∧ (((σ (133 + 3 * K + 1)) = pool) ∧ (¬ ((zf_worthOf σ K b) ≤ y))) then (nI K) else x)), some (.int (if ((σ (133 + 3 * K + 2)) = (-1)) ∧ (((σ (133 + 3 * K + 1)) = pool) ∧ (¬ ((zf_worthOf σ K b) ≤ y))) then (zf_worthOf σ K b) else y)), some (.int (nI (K + 1))), none, none]) ⟨rfl, rfl, rfl, rfl, rfl, rfl, rfl, trivial⟩ ?_
      exact ih (K + 1) (if ((σ (133 + 3 * K + 2)) = (-1)) ∧ (((σ (133 + 3 * K + 1)) = pool) ∧ (¬ ((zf_worthOf σ K b) ≤ y))) then (nI K) else x) (if ((σ (133 + 3 * K + 2)) = (-1)) ∧ (((σ (133 + 3 * K + 1)) = pool) ∧ (¬ ((zf_worthOf σ K b) ≤ y))) then (zf_worthOf σ K b) else y) (by omega) hx
def zf_better (σ : Nat → Int32) (b NS : Nat) (pool : Int32) : Int32 := (zb_better σ b pool NS 0 ((-1) : Int32) (zf_worn σ b)).1
set_option maxHeartbeats 4000000 in
theorem k_better {G : zE} {A : Nat → Nat} (hA : zinj A 5) {P : Nat} (hP : P ≤ 287) {σ s pa ke no f : Nat → Int32} {h0 : zH} {p : Int32} (hp : p = nI P) {NL NS NC : Nat} (hok : zok σ NL NS NC) {c : Int32} {b : Nat} (hb : c = nI b) (lb : b < NC) {pool : Int32} {d : Nat} (hd : 4 ≤ d) : zCon G fX3_better d 0 0 [.ref (A 0), .int p, .int c, .int pool] (mdl G A (zput P σ s) pa ke no f h0) (zA (.int (zf_better σ b NS pool)) (mdl G A (zput P σ s) pa ke no f h0)) nX := by
  refine zCon.of9 (L := [some (.ref (A 0)), some (.int p), some (.int c), some (.int pool), none, none, none, none, none]) (by simp [Value.category]) (Nat.le_of_ble_eq_true rfl) pX3 rfl rfl ?_
  obtain ⟨bL, bS, bC⟩ := hok.b
  refine z_iconst dX3_better_0 (v := (-1)) rfl ?_
  refine z_istore dX3_better_1 (by decide) ?_
  refine z_aload_n dX3_better_3 rfl ?_
  refine z_iload_n dX3_better_4 rfl ?_
  refine z_iload_n dX3_better_5 rfl ?_
  refine z_cV zc7 mX3_worn (k_worn (d := d - 1) hA (P := P) hP hp hok hb (by omega) (by omega)) dX3_better_6 q1917 (by omega) rfl (Nat.le_of_ble_eq_true rfl) rfl mdl_0 rfl ?_
  refine z_istore dX3_better_9 (by decide) ?_
  refine z_iconst dX3_better_11 (v := 0) rfl ?_
  refine z_istore dX3_better_12 (by decide) ?_
  refine z_loc (L2 := [some (.ref (A 0)), some (.int p), some (.int c), some (.int pool), some (.int (-1)), some (.int (zf_worn σ b)), some (.int 0), none, none]) ⟨rfl, rfl, rfl, rfl, rfl, rfl, rfl, trivial⟩ ?_
  refine l_better hA hP hp hok hb lb (by omega) NS 0 ((-1) : Int32) (zf_worn σ b) (by omega) ?_
  refine z_iload dX3_better_123 rfl ?_
  refine z_ret dX3_better_125 rfl rfl ⟨rfl, rfl⟩
