/-! THE REFERENCE, part 9: counting, floods; what would be -/
set_option maxRecDepth 100000
/-- as zA, but whatever lies beside the row -/
def zAe (w : Value) (g : (Nat → Int32) → zH) : Option Value → zH → Prop := fun r h => r = some w ∧ ∃ s, h = g s
section
variable {G : zE} {F : zF} {d pc k n : Nat} {L : List (Option Value)} {st : List Value} {h : zH} {X : String → zH → Prop}
theorem z_qa {w1 w2 : Value} {g1 g2 : zH} (kk : zV G F d pc L st h k n (zA w1 g1) X) (e : some w1 = some w2 ∧ g1 = g2) : zV G F d pc L st h k n (zA w2 g2) X := by
  obtain ⟨e1, e2⟩ := e
  cases e1
  cases e2
  exact kk
theorem z_qe {w1 w2 : Value} {g : (Nat → Int32) → zH} (kk : zV G F d pc L st h k n (zAe w1 g) X) (e : some w1 = some w2) : zV G F d pc L st h k n (zAe w2 g) X := by
  cases e
  exact kk
end
theorem zs0 {σ s : Nat → Int32} : zput 0 σ s 0 = σ 0 := zput_at (P := 0) (j := 0) (by decide)
theorem zs1 {σ τ s : Nat → Int32} : zput 287 τ (zput 0 σ s) 0 = σ 0 := by
  unfold zput
  rw [if_neg (by decide)]
  exact zs0
theorem zs2 {σ τ s : Nat → Int32} {j : Nat} (hj : j < 287) : zput 287 τ (zput 0 σ s) j = σ j := by
  have e := zput_at (P := 0) (σ := σ) (s := s) hj
  rw [Nat.zero_add] at e
  rw [← e]
  exact if_neg (by omega)
def zho (T H : Nat) : Nat := if 999 - T < H then 999 - T else H
theorem zho_le {T H : Nat} : zho T H ≤ H ∧ zho T H ≤ 999 - T := by
  unfold zho
  by_cases h : 999 - T < H
  · rw [if_pos h]; omega
  · rw [if_neg h]; omega
theorem zho_nI {T H : Nat} {t : Int32} (ht : t = nI T) (lT : T ≤ 999) {x : Int32} (hx : x = nI H) (hH : H < 2 ^ 31) : (if x ≤ 999 - t then x else 999 - t) = nI (zho T H) := by
  rw [ht, hx, show (999 : Int32) - nI T = nI (999 - T) from zn_sub (a := 999) (zk 999) rfl lT]
  unfold zho
  by_cases h : 999 - T < H
  · rw [if_pos h, if_neg (fun q => absurd ((nI_leI hH (by omega)).mp q) (by omega))]
  · rw [if_neg h, if_pos (nI_le (by omega) (by omega))]
def zb_floodedPools (σ : Nat → Int32) : Nat → Nat → Int32 → Int32
  | 0, _, x => x
  | j + 1, K, x => zb_floodedPools σ j (K + 1) (x + (if zf_isWet σ K then (1 : Int32) else 0))
set_option maxHeartbeats 4000000 in
theorem l_floodedPools {G : zE} {A : Nat → Nat} (hA : zinj A 5) {σ s pa ke no f : Nat → Int32} {h0 : zH} {NL NS NC : Nat} (hok : zok σ NL NS NC) {d k n : Nat} (hd : 3 ≤ d) {Q : Option Value → zH → Prop} {X : String → zH → Prop} : ∀ (j K : Nat) (x : Int32), K + j = 8 → zV G fX3_floodedPools d 38 [some (.ref (A 0)), some (.int (zb_floodedPools σ j K x)), none] [] (mdl G A (zput 0 σ s) pa ke no f h0) k n Q X → zV G fX3_floodedPools d 9 [some (.ref (A 0)), some (.int x), some (.int (nI K))] [] (mdl G A (zput 0 σ s) pa ke no f h0) k n Q X := by
  intro j
  induction j with
  | zero =>
    intro K x hK hx
    have hK9 : K = 8 := by omega
    subst hK9
    refine z_iload_n dX3_floodedPools_9 rfl ?_
    refine z_bipush dX3_floodedPools_10 (v := 8) rfl ?_
    refine z_icmp_ge (tgt := 38) dX3_floodedPools_12 (by decide) (fun hg => ?_) (fun hg => ?_)
    ·
      refine z_loc (L2 := [some (.ref (A 0)), some (.int x), none]) ⟨rfl, rfl, trivial⟩ ?_
      exact hx
    · exact absurd (by rw [zk 8]; exact Int32.le_refl _) hg
  | succ j ih =>
    intro K x hK hx
    obtain ⟨bL, bS, bC⟩ := hok.b
    refine z_iload_n dX3_floodedPools_9 rfl ?_
    refine z_bipush dX3_floodedPools_10 (v := 8) rfl ?_
    refine z_icmp_ge (tgt := 38) dX3_floodedPools_12 (by decide) (fun hg => ?_) (fun hg => ?_)
    · exact absurd hg (by rw [zk 8]; exact nI_ge (by omega) (by omega))
    ·
      refine z_iload_n dX3_floodedPools_15 rfl ?_
      refine z_aload_n dX3_floodedPools_16 rfl ?_
      refine z_iconst dX3_floodedPools_17 (v := 0) rfl ?_
      refine z_iload_n dX3_floodedPools_18 rfl ?_
      refine z_cV zc7 mX3_isWet (k_isWet (d := d - 1) hA (P := 0) (by decide) (zk 0) rfl (by omega) (by omega)) dX3_floodedPools_19 q1885 (by omega) rfl (Nat.le_of_ble_eq_true rfl) rfl mdl_0 rfl ?_
      refine z_join 30 (.int (if zf_isWet σ K then (1 : Int32) else 0)) 1 ?_ (fun hJ => ?_)
      rotate_left
      ·
        refine z_ifB_eq (tgt := 29) dX3_floodedPools_22 (by decide) (fun c_1 => ?_) (fun c_1 => ?_)
        ·
          refine z_iconst dX3_floodedPools_29 (v := 0) rfl ?_
          exact z_jv (if_neg c_1) hJ
        ·
          refine z_iconst dX3_floodedPools_25 (v := 1) rfl ?_
          refine z_goto (tgt := 30) dX3_floodedPools_26 (by decide) ?_
          exact z_jv (if_pos c_1) hJ
      refine z_iadd dX3_floodedPools_30 ?_
      refine z_istore_n dX3_floodedPools_31 (by decide) ?_
      refine z_iinc dX3_floodedPools_32 rfl (v := nI (K + 1)) (z_inc rfl) ?_
      refine z_goto (tgt := 9) dX3_floodedPools_35 (by decide) ?_
      refine z_loc (L2 := [some (.ref (A 0)), some (.int (x + (if zf_isWet σ K then (1 : Int32) else 0))), some (.int (nI (K + 1)))]) ⟨rfl, rfl, rfl, trivial⟩ ?_
      exact ih (K + 1) (x + (if zf_isWet σ K then (1 : Int32) else 0)) (by omega) hx
def zf_floodedPools (σ : Nat → Int32) : Int32 := zb_floodedPools σ 8 0 (0 : Int32)
set_option maxHeartbeats 4000000 in
theorem k_floodedPools {G : zE} {A : Nat → Nat} (hA : zinj A 5) {σ s pa ke no f : Nat → Int32} {h0 : zH} {NL NS NC : Nat} (hok : zok σ NL NS NC) {d : Nat} (hd : 4 ≤ d) : zCon G fX3_floodedPools d 0 0 [.ref (A 0)] (mdl G A (zput 0 σ s) pa ke no f h0) (zA (.int (zf_floodedPools σ)) (mdl G A (zput 0 σ s) pa ke no (upd f 7 0) h0)) nX := by
  refine zCon.of9 (L := [some (.ref (A 0)), none, none]) (by simp [Value.category]) (Nat.le_of_ble_eq_true rfl) pX3 rfl rfl ?_
  obtain ⟨bL, bS, bC⟩ := hok.b
  refine z_aload_n dX3_floodedPools_0 rfl ?_
  refine z_iconst dX3_floodedPools_1 (v := 0) rfl ?_
  refine zm_put 7 dX3_floodedPools_2 q1749 rfl rfl rfl rfl rfl ?_
  refine z_iconst dX3_floodedPools_5 (v := 0) rfl ?_
  refine z_istore_n dX3_floodedPools_6 (by decide) ?_
  refine z_iconst dX3_floodedPools_7 (v := 0) rfl ?_
  refine z_istore_n dX3_floodedPools_8 (by decide) ?_
  refine z_loc (L2 := [some (.ref (A 0)), some (.int 0), some (.int 0)]) ⟨rfl, rfl, rfl, trivial⟩ ?_
  refine l_floodedPools hA hok (by omega) 8 0 (0 : Int32) (by omega) ?_
  refine z_iload_n dX3_floodedPools_38 rfl ?_
  refine z_ret dX3_floodedPools_39 rfl rfl ⟨rfl, rfl⟩
def zb_wornByShells (σ : Nat → Int32) : Nat → Nat → Int32 → Int32
  | 0, _, x => x
  | j + 1, K, x => zb_wornByShells σ j (K + 1) (x + (if ¬ ((σ (133 + 3 * K + 2)) = (-1)) then (1 : Int32) else 0))
set_option maxHeartbeats 4000000 in
theorem l_wornByShells {G : zE} {A : Nat → Nat} (hA : zinj A 5) {σ s pa ke no f : Nat → Int32} {h0 : zH} {NL NS NC : Nat} (hok : zok σ NL NS NC) {d k n : Nat} (hd : 2 ≤ d) {Q : Option Value → zH → Prop} {X : String → zH → Prop} : ∀ (j K : Nat) (x : Int32), K + j = NS → zV G fX3_wornByShells d 51 [some (.ref (A 0)), some (.int (zb_wornByShells σ j K x)), none] [] (mdl G A (zput 0 σ s) pa ke no f h0) k n Q X → zV G fX3_wornByShells d 9 [some (.ref (A 0)), some (.int x), some (.int (nI K))] [] (mdl G A (zput 0 σ s) pa ke no f h0) k n Q X := by
  intro j
  induction j with
  | zero =>
    intro K x hK hx
    have hK9 : K = NS := by omega
    subst hK9
    refine z_iload_n dX3_wornByShells_9 rfl ?_
    refine z_aload_n dX3_wornByShells_10 rfl ?_
    refine zm_get 0 dX3_wornByShells_11 q1742 rfl rfl ?_
    refine z_sipush dX3_wornByShells_14 (v := 132) rfl ?_
    refine zm_ld hA (by decide) (P := 0) (132) (v := σ 132) dX3_wornByShells_17 (zn_to (zk 132) (by omega)) (by omega) (rfl) ?_
    refine z_icmp_ge (tgt := 51) dX3_wornByShells_18 (by decide) (fun hg => ?_) (fun hg => ?_)
    ·
      refine z_loc (L2 := [some (.ref (A 0)), some (.int x), none]) ⟨rfl, rfl, trivial⟩ ?_
      exact hx
    · exact absurd (by rw [hok.ns]; exact Int32.le_refl _) hg
  | succ j ih =>
    intro K x hK hx
    obtain ⟨bL, bS, bC⟩ := hok.b
    refine z_iload_n dX3_wornByShells_9 rfl ?_
    refine z_aload_n dX3_wornByShells_10 rfl ?_
    refine zm_get 0 dX3_wornByShells_11 q1742 rfl rfl ?_
    refine z_sipush dX3_wornByShells_14 (v := 132) rfl ?_
    refine zm_ld hA (by decide) (P := 0) (132) (v := σ 132) dX3_wornByShells_17 (zn_to (zk 132) (by omega)) (by omega) (rfl) ?_
    refine z_icmp_ge (tgt := 51) dX3_wornByShells_18 (by decide) (fun hg => ?_) (fun hg => ?_)
    · exact absurd hg (by rw [hok.ns]; exact nI_ge (by omega) (by omega))
    ·
      refine z_iload_n dX3_wornByShells_21 rfl ?_
      refine z_aload_n dX3_wornByShells_22 rfl ?_
      refine zm_get 0 dX3_wornByShells_23 q1742 rfl rfl ?_
      refine z_iconst dX3_wornByShells_26 (v := 0) rfl ?_
      refine z_iload_n dX3_wornByShells_27 rfl ?_
      refine z_cS mX3_shell (k_shell (d := d - 1) (zk 0) rfl (by omega)) dX3_wornByShells_28 q1834 (by omega) rfl (Nat.le_of_ble_eq_true rfl) rfl ?_
      refine z_iconst dX3_wornByShells_31 (v := 2) rfl ?_
      refine z_iadd dX3_wornByShells_32 ?_
      refine zm_ld hA (by decide) (P := 0) (133 + 3 * K + 2) (v := σ (133 + 3 * K + 2)) dX3_wornByShells_33 (zn_to (zn_add rfl (zk 2)) (by omega)) (by omega) (rfl) ?_
      refine z_iconst dX3_wornByShells_34 (v := (-1)) rfl ?_
      refine z_join 43 (.int (if ¬ ((σ (133 + 3 * K + 2)) = (-1)) then (1 : Int32) else 0)) 2 ?_ (fun hJ => ?_)
      rotate_left
      ·
        refine z_icmp_ne (tgt := 42) dX3_wornByShells_35 (by decide) (fun c_1 => ?_) (fun c_1 => ?_)
        ·
          refine z_iconst dX3_wornByShells_42 (v := 1) rfl ?_
          exact z_jv (if_pos c_1) hJ
        ·
          refine z_iconst dX3_wornByShells_38 (v := 0) rfl ?_
          refine z_goto (tgt := 43) dX3_wornByShells_39 (by decide) ?_
          exact z_jv (if_neg (fun z => z c_1)) hJ
      refine z_iadd dX3_wornByShells_43 ?_
      refine z_istore_n dX3_wornByShells_44 (by decide) ?_
      refine z_iinc dX3_wornByShells_45 rfl (v := nI (K + 1)) (z_inc rfl) ?_
      refine z_goto (tgt := 9) dX3_wornByShells_48 (by decide) ?_
      refine z_loc (L2 := [some (.ref (A 0)), some (.int (x + (if ¬ ((σ (133 + 3 * K + 2)) = (-1)) then (1 : Int32) else 0))), some (.int (nI (K + 1)))]) ⟨rfl, rfl, rfl, trivial⟩ ?_
      exact ih (K + 1) (x + (if ¬ ((σ (133 + 3 * K + 2)) = (-1)) then (1 : Int32) else 0)) (by omega) hx
def zf_wornByShells (σ : Nat → Int32) (NS : Nat) : Int32 := zb_wornByShells σ NS 0 (0 : Int32)
set_option maxHeartbeats 4000000 in
theorem k_wornByShells {G : zE} {A : Nat → Nat} (hA : zinj A 5) {σ s pa ke no f : Nat → Int32} {h0 : zH} {NL NS NC : Nat} (hok : zok σ NL NS NC) {d : Nat} (hd : 3 ≤ d) : zCon G fX3_wornByShells d 0 0 [.ref (A 0)] (mdl G A (zput 0 σ s) pa ke no f h0) (zA (.int (zf_wornByShells σ NS)) (mdl G A (zput 0 σ s) pa ke no (upd f 7 0) h0)) nX := by
  refine zCon.of9 (L := [some (.ref (A 0)), none, none]) (by simp [Value.category]) (Nat.le_of_ble_eq_true rfl) pX3 rfl rfl ?_
  obtain ⟨bL, bS, bC⟩ := hok.b
  refine z_aload_n dX3_wornByShells_0 rfl ?_
  refine z_iconst dX3_wornByShells_1 (v := 0) rfl ?_
  refine zm_put 7 dX3_wornByShells_2 q1749 rfl rfl rfl rfl rfl ?_
  refine z_iconst dX3_wornByShells_5 (v := 0) rfl ?_
  refine z_istore_n dX3_wornByShells_6 (by decide) ?_
  refine z_iconst dX3_wornByShells_7 (v := 0) rfl ?_
  refine z_istore_n dX3_wornByShells_8 (by decide) ?_
  refine z_loc (L2 := [some (.ref (A 0)), some (.int 0), some (.int 0)]) ⟨rfl, rfl, rfl, trivial⟩ ?_
  refine l_wornByShells hA hok (by omega) NS 0 (0 : Int32) (by omega) ?_
  refine z_iload_n dX3_wornByShells_51 rfl ?_
  refine z_ret dX3_wornByShells_52 rfl rfl ⟨rfl, rfl⟩
def zb_wornByCrabs (σ : Nat → Int32) : Nat → Nat → Int32 → Int32
  | 0, _, x => x
  | j + 1, K, x => zb_wornByCrabs σ j (K + 1) (x + (if ¬ ((σ (212 + 5 * K + 2)) = (-1)) then (1 : Int32) else 0))
set_option maxHeartbeats 4000000 in
theorem l_wornByCrabs {G : zE} {A : Nat → Nat} (hA : zinj A 5) {σ s pa ke no f : Nat → Int32} {h0 : zH} {NL NS NC : Nat} (hok : zok σ NL NS NC) {d k n : Nat} (hd : 2 ≤ d) {Q : Option Value → zH → Prop} {X : String → zH → Prop} : ∀ (j K : Nat) (x : Int32), K + j = NC → zV G fX3_wornByCrabs d 51 [some (.ref (A 0)), some (.int (zb_wornByCrabs σ j K x)), none] [] (mdl G A (zput 0 σ s) pa ke no f h0) k n Q X → zV G fX3_wornByCrabs d 9 [some (.ref (A 0)), some (.int x), some (.int (nI K))] [] (mdl G A (zput 0 σ s) pa ke no f h0) k n Q X := by
  intro j
  induction j with
  | zero =>
    intro K x hK hx
    have hK9 : K = NC := by omega
    subst hK9
    refine z_iload_n dX3_wornByCrabs_9 rfl ?_
    refine z_aload_n dX3_wornByCrabs_10 rfl ?_
    refine zm_get 0 dX3_wornByCrabs_11 q1742 rfl rfl ?_
    refine z_sipush dX3_wornByCrabs_14 (v := 211) rfl ?_
    refine zm_ld hA (by decide) (P := 0) (211) (v := σ 211) dX3_wornByCrabs_17 (zn_to (zk 211) (by omega)) (by omega) (rfl) ?_
    refine z_icmp_ge (tgt := 51) dX3_wornByCrabs_18 (by decide) (fun hg => ?_) (fun hg => ?_)
    ·
      refine z_loc (L2 := [some (.ref (A 0)), some (.int x), none]) ⟨rfl, rfl, trivial⟩ ?_
      exact hx
    · exact absurd (by rw [hok.nc]; exact Int32.le_refl _) hg
  | succ j ih =>
    intro K x hK hx
    obtain ⟨bL, bS, bC⟩ := hok.b
    refine z_iload_n dX3_wornByCrabs_9 rfl ?_
    refine z_aload_n dX3_wornByCrabs_10 rfl ?_
    refine zm_get 0 dX3_wornByCrabs_11 q1742 rfl rfl ?_
    refine z_sipush dX3_wornByCrabs_14 (v := 211) rfl ?_
    refine zm_ld hA (by decide) (P := 0) (211) (v := σ 211) dX3_wornByCrabs_17 (zn_to (zk 211) (by omega)) (by omega) (rfl) ?_
    refine z_icmp_ge (tgt := 51) dX3_wornByCrabs_18 (by decide) (fun hg => ?_) (fun hg => ?_)
    · exact absurd hg (by rw [hok.nc]; exact nI_ge (by omega) (by omega))
    ·
      refine z_iload_n dX3_wornByCrabs_21 rfl ?_
      refine z_aload_n dX3_wornByCrabs_22 rfl ?_
      refine zm_get 0 dX3_wornByCrabs_23 q1742 rfl rfl ?_
      refine z_iconst dX3_wornByCrabs_26 (v := 0) rfl ?_
      refine z_iload_n dX3_wornByCrabs_27 rfl ?_
      refine z_cS mX3_crab (k_crab (d := d - 1) (zk 0) rfl (by omega)) dX3_wornByCrabs_28 q1819 (by omega) rfl (Nat.le_of_ble_eq_true rfl) rfl ?_
      refine z_iconst dX3_wornByCrabs_31 (v := 2) rfl ?_
      refine z_iadd dX3_wornByCrabs_32 ?_
      refine zm_ld hA (by decide) (P := 0) (212 + 5 * K + 2) (v := σ (212 + 5 * K + 2)) dX3_wornByCrabs_33 (zn_to (zn_add rfl (zk 2)) (by omega)) (by omega) (rfl) ?_
      refine z_iconst dX3_wornByCrabs_34 (v := (-1)) rfl ?_
      refine z_join 43 (.int (if ¬ ((σ (212 + 5 * K + 2)) = (-1)) then (1 : Int32) else 0)) 2 ?_ (fun hJ => ?_)
      rotate_left
      ·
        refine z_icmp_ne (tgt := 42) dX3_wornByCrabs_35 (by decide) (fun c_1 => ?_) (fun c_1 => ?_)
        ·
          refine z_iconst dX3_wornByCrabs_42 (v := 1) rfl ?_
          exact z_jv (if_pos c_1) hJ
        ·
          refine z_iconst dX3_wornByCrabs_38 (v := 0) rfl ?_
          refine z_goto (tgt := 43) dX3_wornByCrabs_39 (by decide) ?_
          exact z_jv (if_neg (fun z => z c_1)) hJ
      refine z_iadd dX3_wornByCrabs_43 ?_
      refine z_istore_n dX3_wornByCrabs_44 (by decide) ?_
      refine z_iinc dX3_wornByCrabs_45 rfl (v := nI (K + 1)) (z_inc rfl) ?_
      refine z_goto (tgt := 9) dX3_wornByCrabs_48 (by decide) ?_
      refine z_loc (L2 := [some (.ref (A 0)), some (.int (x + (if ¬ ((σ (212 + 5 * K + 2)) = (-1)) then (1 : Int32) else 0))), some (.int (nI (K + 1)))]) ⟨rfl, rfl, rfl, trivial⟩ ?_
      exact ih (K + 1) (x + (if ¬ ((σ (212 + 5 * K + 2)) = (-1)) then (1 : Int32) else 0)) (by omega) hx
def zf_wornByCrabs (σ : Nat → Int32) (NC : Nat) : Int32 := zb_wornByCrabs σ NC 0 (0 : Int32)
set_option maxHeartbeats 4000000 in
theorem k_wornByCrabs {G : zE} {A : Nat → Nat} (hA : zinj A 5) {σ s pa ke no f : Nat → Int32} {h0 : zH} {NL NS NC : Nat} (hok : zok σ NL NS NC) {d : Nat} (hd : 3 ≤ d) : zCon G fX3_wornByCrabs d 0 0 [.ref (A 0)] (mdl G A (zput 0 σ s) pa ke no f h0) (zA (.int (zf_wornByCrabs σ NC)) (mdl G A (zput 0 σ s) pa ke no (upd f 7 0) h0)) nX := by
  refine zCon.of9 (L := [some (.ref (A 0)), none, none]) (by simp [Value.category]) (Nat.le_of_ble_eq_true rfl) pX3 rfl rfl ?_
  obtain ⟨bL, bS, bC⟩ := hok.b
  refine z_aload_n dX3_wornByCrabs_0 rfl ?_
  refine z_iconst dX3_wornByCrabs_1 (v := 0) rfl ?_
  refine zm_put 7 dX3_wornByCrabs_2 q1749 rfl rfl rfl rfl rfl ?_
  refine z_iconst dX3_wornByCrabs_5 (v := 0) rfl ?_
  refine z_istore_n dX3_wornByCrabs_6 (by decide) ?_
  refine z_iconst dX3_wornByCrabs_7 (v := 0) rfl ?_
  refine z_istore_n dX3_wornByCrabs_8 (by decide) ?_
  refine z_loc (L2 := [some (.ref (A 0)), some (.int 0), some (.int 0)]) ⟨rfl, rfl, rfl, trivial⟩ ?_
  refine l_wornByCrabs hA hok (by omega) NC 0 (0 : Int32) (by omega) ?_
  refine z_iload_n dX3_wornByCrabs_51 rfl ?_
  refine z_ret dX3_wornByCrabs_52 rfl rfl ⟨rfl, rfl⟩
def zb_driest (σ : Nat → Int32) : Nat → Nat → Int32 → Int32 → Int32 × Int32
  | 0, _, x, y => (x, y)
  | j + 1, K, x, y => zb_driest σ j (K + 1) (if ((σ (32 + 5 * K + 4)) = 0) ∧ ((x = (-1)) ∨ (¬ (y ≤ ((100 * (σ (32 + 5 * K + 1))) + (σ (32 + 5 * K + 2)))))) then (nI K) else x) (if ((σ (32 + 5 * K + 4)) = 0) ∧ ((x = (-1)) ∨ (¬ (y ≤ ((100 * (σ (32 + 5 * K + 1))) + (σ (32 + 5 * K + 2)))))) then ((100 * (σ (32 + 5 * K + 1))) + (σ (32 + 5 * K + 2))) else y)
set_option maxHeartbeats 4000000 in
theorem l_driest {G : zE} {A : Nat → Nat} (hA : zinj A 5) {σ s pa ke no f : Nat → Int32} {h0 : zH} {NL NS NC : Nat} (hok : zok σ NL NS NC) {d k n : Nat} (hd : 2 ≤ d) {Q : Option Value → zH → Prop} {X : String → zH → Prop} : ∀ (j K : Nat) (x : Int32) (y : Int32), K + j = NL → zV G fX3_driest d 114 [some (.ref (A 0)), some (.int ((zb_driest σ j K x y).1)), some (.int ((zb_driest σ j K x y).2)), none, none, none] [] (mdl G A (zput 0 σ s) pa ke no f h0) k n Q X → zV G fX3_driest d 11 [some (.ref (A 0)), some (.int x), some (.int y), some (.int (nI K)), none, none] [] (mdl G A (zput 0 σ s) pa ke no f h0) k n Q X := by
  intro j
  induction j with
  | zero =>
    intro K x y hK hx
    have hK9 : K = NL := by omega
    subst hK9
    refine z_iload_n dX3_driest_11 rfl ?_
    refine z_aload_n dX3_driest_12 rfl ?_
    refine zm_get 0 dX3_driest_13 q1742 rfl rfl ?_
    refine z_bipush dX3_driest_16 (v := 31) rfl ?_
    refine zm_ld hA (by decide) (P := 0) (31) (v := σ 31) dX3_driest_18 (zn_to (zk 31) (by omega)) (by omega) (rfl) ?_
    refine z_icmp_ge (tgt := 114) dX3_driest_19 (by decide) (fun hg => ?_) (fun hg => ?_)
    ·
      refine z_loc (L2 := [some (.ref (A 0)), some (.int x), some (.int y), none, none, none]) ⟨rfl, rfl, rfl, trivial⟩ ?_
      exact hx
    · exact absurd (by rw [hok.nl]; exact Int32.le_refl _) hg
  | succ j ih =>
    intro K x y hK hx
    obtain ⟨bL, bS, bC⟩ := hok.b
    refine z_iload_n dX3_driest_11 rfl ?_
    refine z_aload_n dX3_driest_12 rfl ?_
    refine zm_get 0 dX3_driest_13 q1742 rfl rfl ?_
    refine z_bipush dX3_driest_16 (v := 31) rfl ?_
    refine zm_ld hA (by decide) (P := 0) (31) (v := σ 31) dX3_driest_18 (zn_to (zk 31) (by omega)) (by omega) (rfl) ?_
    refine z_icmp_ge (tgt := 114) dX3_driest_19 (by decide) (fun hg => ?_) (fun hg => ?_)
    · exact absurd hg (by rw [hok.nl]; exact nI_ge (by omega) (by omega))
    ·
      refine z_bipush dX3_driest_22 (v := 100) rfl ?_
      refine z_aload_n dX3_driest_24 rfl ?_
      refine zm_get 0 dX3_driest_25 q1742 rfl rfl ?_
      refine z_iconst dX3_driest_28 (v := 0) rfl ?_
      refine z_iload_n dX3_driest_29 rfl ?_
      refine z_cS mX3_limpet (k_limpet (d := d - 1) (zk 0) rfl (by omega)) dX3_driest_30 q1808 (by omega) rfl (Nat.le_of_ble_eq_true rfl) rfl ?_
      refine z_iconst dX3_driest_33 (v := 1) rfl ?_
      refine z_iadd dX3_driest_34 ?_
      refine zm_ld hA (by decide) (P := 0) (32 + 5 * K + 1) (v := σ (32 + 5 * K + 1)) dX3_driest_35 (zn_to (zn_add rfl (zk 1)) (by omega)) (by omega) (rfl) ?_
      refine z_imul dX3_driest_36 ?_
      refine z_aload_n dX3_driest_37 rfl ?_
      refine zm_get 0 dX3_driest_38 q1742 rfl rfl ?_
      refine z_iconst dX3_driest_41 (v := 0) rfl ?_
      refine z_iload_n dX3_driest_42 rfl ?_
      refine z_cS mX3_limpet (k_limpet (d := d - 1) (zk 0) rfl (by omega)) dX3_driest_43 q1808 (by omega) rfl (Nat.le_of_ble_eq_true rfl) rfl ?_
      refine z_iconst dX3_driest_46 (v := 2) rfl ?_
      refine z_iadd dX3_driest_47 ?_
      refine zm_ld hA (by decide) (P := 0) (32 + 5 * K + 2) (v := σ (32 + 5 * K + 2)) dX3_driest_48 (zn_to (zn_add rfl (zk 2)) (by omega)) (by omega) (rfl) ?_
      refine z_iadd dX3_driest_49 ?_
      refine z_istore dX3_driest_50 (by decide) ?_
      refine z_aload_n dX3_driest_52 rfl ?_
      refine zm_get 0 dX3_driest_53 q1742 rfl rfl ?_
      refine z_iconst dX3_driest_56 (v := 0) rfl ?_
      refine z_iload_n dX3_driest_57 rfl ?_
      refine z_cS mX3_limpet (k_limpet (d := d - 1) (zk 0) rfl (by omega)) dX3_driest_58 q1808 (by omega) rfl (Nat.le_of_ble_eq_true rfl) rfl ?_
      refine z_iconst dX3_driest_61 (v := 4) rfl ?_
      refine z_iadd dX3_driest_62 ?_
      refine zm_ld hA (by decide) (P := 0) (32 + 5 * K + 4) (v := σ (32 + 5 * K + 4)) dX3_driest_63 (zn_to (zn_add rfl (zk 4)) (by omega)) (by omega) (rfl) ?_
      refine z_join 83 (.int (if ((σ (32 + 5 * K + 4)) = 0) ∧ ((x = (-1)) ∨ (¬ (y ≤ ((100 * (σ (32 + 5 * K + 1))) + (σ (32 + 5 * K + 2)))))) then (1 : Int32) else 0)) 1 ?_ (fun hJ => ?_)
      rotate_left
      ·
        refine z_if_ne (tgt := 82) dX3_driest_64 (by decide) (fun c_1 => ?_) (fun c_1 => ?_)
        ·
          refine z_iconst dX3_driest_82 (v := 0) rfl ?_
          exact z_jv (if_neg (fun z => c_1 z.1)) hJ
        ·
          refine z_iload_n dX3_driest_67 rfl ?_
          refine z_iconst dX3_driest_68 (v := (-1)) rfl ?_
          refine z_icmp_eq (tgt := 78) dX3_driest_69 (by decide) (fun c_2 => ?_) (fun c_2 => ?_)
          ·
            refine z_iconst dX3_driest_78 (v := 1) rfl ?_
            refine z_goto (tgt := 83) dX3_driest_79 (by decide) ?_
            exact z_jv (if_pos (⟨c_1, (Or.inl c_2)⟩)) hJ
          ·
            refine z_iload dX3_driest_72 rfl ?_
            refine z_iload_n dX3_driest_74 rfl ?_
            refine z_icmp_ge (tgt := 82) dX3_driest_75 (by decide) (fun c_3 => ?_) (fun c_3 => ?_)
            ·
              refine z_iconst dX3_driest_82 (v := 0) rfl ?_
              exact z_jv (if_neg (fun z => (fun z => z.elim c_2 (fun z => z c_3)) z.2)) hJ
            ·
              refine z_iconst dX3_driest_78 (v := 1) rfl ?_
              refine z_goto (tgt := 83) dX3_driest_79 (by decide) ?_
              exact z_jv (if_pos (⟨c_1, (Or.inr c_3)⟩)) hJ
      refine z_istore dX3_driest_83 (by decide) ?_
      refine z_iload dX3_driest_85 rfl ?_
      refine z_join 95 (.int (if ((σ (32 + 5 * K + 4)) = 0) ∧ ((x = (-1)) ∨ (¬ (y ≤ ((100 * (σ (32 + 5 * K + 1))) + (σ (32 + 5 * K + 2)))))) then (nI K) else x)) 1 ?_ (fun hJ => ?_)
      rotate_left
      ·
        refine z_ifB_eq (tgt := 94) dX3_driest_87 (by decide) (fun c_4 => ?_) (fun c_4 => ?_)
        ·
          refine z_iload_n dX3_driest_94 rfl ?_
          exact z_jv (by simp only [if_neg c_4] <;> rfl) hJ
        ·
          refine z_iload_n dX3_driest_90 rfl ?_
          refine z_goto (tgt := 95) dX3_driest_91 (by decide) ?_
          exact z_jv (by simp only [if_pos c_4] <;> rfl) hJ
      refine z_istore_n dX3_driest_95 (by decide) ?_
      refine z_iload dX3_driest_96 rfl ?_
      refine z_join 107 (.int (if ((σ (32 + 5 * K + 4)) = 0) ∧ ((x = (-1)) ∨ (¬ (y ≤ ((100 * (σ (32 + 5 * K + 1))) + (σ (32 + 5 * K + 2)))))) then ((100 * (σ (32 + 5 * K + 1))) + (σ (32 + 5 * K + 2))) else y)) 1 ?_ (fun hJ => ?_)
      rotate_left
      ·
        refine z_ifB_eq (tgt := 106) dX3_driest_98 (by decide) (fun c_5 => ?_) (fun c_5 => ?_)
        ·
          refine z_iload_n dX3_driest_106 rfl ?_
          exact z_jv (by simp only [if_neg c_5] <;> rfl) hJ
        ·
          refine z_iload dX3_driest_101 rfl ?_
          refine z_goto (tgt := 107) dX3_driest_103 (by decide) ?_
          exact z_jv (by simp only [if_pos c_5] <;> rfl) hJ
      refine z_istore_n dX3_driest_107 (by decide) ?_
      refine z_iinc dX3_driest_108 rfl (v := nI (K + 1)) (z_inc rfl) ?_
      refine z_goto (tgt := 11) dX3_driest_111 (by decide) ?_
      refine z_loc (L2 := [some (.ref (A 0)), some (.int (if ((σ (32 + 5 * K + 4)) = 0) ∧ ((x = (-1)) ∨ (¬ (y ≤ ((100 * (σ (32 + 5 * K + 1))) + (σ (32 + 5 * K + 2)))))) then (nI K) else x)), some (.int (if ((σ (32 + 5 * K + 4)) = 0) ∧ ((x = (-1)) ∨ (¬ (y ≤ ((100 * (σ (32 + 5 * K + 1))) + (σ (32 + 5 * K + 2)))))) then ((100 * (σ (32 + 5 * K + 1))) + (σ (32 + 5 * K + 2))) else y)), some (.int (nI (K + 1))), none, none]) ⟨rfl, rfl, rfl, rfl, trivial⟩ ?_
      exact ih (K + 1) (if ((σ (32 + 5 * K + 4)) = 0) ∧ ((x = (-1)) ∨ (¬ (y ≤ ((100 * (σ (32 + 5 * K + 1))) + (σ (32 + 5 * K + 2)))))) then (nI K) else x) (if ((σ (32 + 5 * K + 4)) = 0) ∧ ((x = (-1)) ∨ (¬ (y ≤ ((100 * (σ (32 + 5 * K + 1))) + (σ (32 + 5 * K + 2)))))) then ((100 * (σ (32 + 5 * K + 1))) + (σ (32 + 5 * K + 2))) else y) (by omega) hx
def zf_driest (σ : Nat → Int32) (NL : Nat) : Int32 := (zb_driest σ NL 0 ((-1) : Int32) (0 : Int32)).1
set_option maxHeartbeats 4000000 in
theorem k_driest {G : zE} {A : Nat → Nat} (hA : zinj A 5) {σ s pa ke no f : Nat → Int32} {h0 : zH} {NL NS NC : Nat} (hok : zok σ NL NS NC) {d : Nat} (hd : 3 ≤ d) : zCon G fX3_driest d 0 0 [.ref (A 0)] (mdl G A (zput 0 σ s) pa ke no f h0) (zA (.int (zf_driest σ NL)) (mdl G A (zput 0 σ s) pa ke no (upd f 7 0) h0)) nX := by
  refine zCon.of9 (L := [some (.ref (A 0)), none, none, none, none, none]) (by simp [Value.category]) (Nat.le_of_ble_eq_true rfl) pX3 rfl rfl ?_
  obtain ⟨bL, bS, bC⟩ := hok.b
  refine z_aload_n dX3_driest_0 rfl ?_
  refine z_iconst dX3_driest_1 (v := 0) rfl ?_
  refine zm_put 7 dX3_driest_2 q1749 rfl rfl rfl rfl rfl ?_
  refine z_iconst dX3_driest_5 (v := (-1)) rfl ?_
  refine z_istore_n dX3_driest_6 (by decide) ?_
  refine z_iconst dX3_driest_7 (v := 0) rfl ?_
  refine z_istore_n dX3_driest_8 (by decide) ?_
  refine z_iconst dX3_driest_9 (v := 0) rfl ?_
  refine z_istore_n dX3_driest_10 (by decide) ?_
  refine z_loc (L2 := [some (.ref (A 0)), some (.int (-1)), some (.int 0), some (.int 0), none, none]) ⟨rfl, rfl, rfl, rfl, trivial⟩ ?_
  refine l_driest hA hok (by omega) NL 0 ((-1) : Int32) (0 : Int32) (by omega) ?_
  refine z_iload_n dX3_driest_114 rfl ?_
  refine z_ret dX3_driest_115 rfl rfl ⟨rfl, rfl⟩
def zb_floodHoursByCounting (σ : Nat → Int32) (b : Nat) : Nat → Nat → Int32 → Int32
  | 0, _, x => x
  | j + 1, K, x => zb_floodHoursByCounting σ b j (K + 1) (x + (if ¬ ((zf_tideOf σ (nI K)) < (σ (7 + b))) then (1 : Int32) else 0))
set_option maxHeartbeats 4000000 in
theorem l_floodHoursByCounting {G : zE} {A : Nat → Nat} (hA : zinj A 5) {σ s pa ke no f : Nat → Int32} {h0 : zH} {NL NS NC : Nat} (hok : zok σ NL NS NC) {pool : Int32} {b : Nat} (hb : pool = nI b) (lb : b < 8) {d k n : Nat} (hd : 2 ≤ d) {Q : Option Value → zH → Prop} {X : String → zH → Prop} : ∀ (j K : Nat) (x : Int32), K + j = 12 → zV G fX3_floodHoursByCounting d 63 [some (.ref (A 0)), some (.int pool), some (.int (zb_floodHoursByCounting σ b j K x)), none] [] (mdl G A (zput 0 σ s) pa ke no f h0) k n Q X → zV G fX3_floodHoursByCounting d 25 [some (.ref (A 0)), some (.int pool), some (.int x), some (.int (nI K))] [] (mdl G A (zput 0 σ s) pa ke no f h0) k n Q X := by
  intro j
  induction j with
  | zero =>
    intro K x hK hx
    have hK9 : K = 12 := by omega
    subst hK9
    refine z_iload_n dX3_floodHoursByCounting_25 rfl ?_
    refine z_bipush dX3_floodHoursByCounting_26 (v := 12) rfl ?_
    refine z_icmp_ge (tgt := 63) dX3_floodHoursByCounting_28 (by decide) (fun hg => ?_) (fun hg => ?_)
    ·
      refine z_loc (L2 := [some (.ref (A 0)), some (.int pool), some (.int x), none]) ⟨rfl, rfl, rfl, trivial⟩ ?_
      exact hx
    · exact absurd (by rw [zk 12]; exact Int32.le_refl _) hg
  | succ j ih =>
    intro K x hK hx
    obtain ⟨bL, bS, bC⟩ := hok.b
    refine z_iload_n dX3_floodHoursByCounting_25 rfl ?_
    refine z_bipush dX3_floodHoursByCounting_26 (v := 12) rfl ?_
    refine z_icmp_ge (tgt := 63) dX3_floodHoursByCounting_28 (by decide) (fun hg => ?_) (fun hg => ?_)
    · exact absurd hg (by rw [zk 12]; exact nI_ge (by omega) (by omega))
    ·
      refine z_iload_n dX3_floodHoursByCounting_31 rfl ?_
      refine z_aload_n dX3_floodHoursByCounting_32 rfl ?_
      refine z_iconst dX3_floodHoursByCounting_33 (v := 0) rfl ?_
      refine z_iload_n dX3_floodHoursByCounting_34 rfl ?_
      refine z_cV zc7 mX3_tideOf (k_tideOf (d := d - 1) hA (P := 0) (by decide) (zk 0) (by omega)) dX3_floodHoursByCounting_35 q1857 (by omega) rfl (Nat.le_of_ble_eq_true rfl) rfl mdl_0 rfl ?_
      refine z_aload_n dX3_floodHoursByCounting_38 rfl ?_
      refine zm_get 0 dX3_floodHoursByCounting_39 q1742 rfl rfl ?_
      refine z_bipush dX3_floodHoursByCounting_42 (v := 7) rfl ?_
      refine z_iload_n dX3_floodHoursByCounting_44 rfl ?_
      refine z_iadd dX3_floodHoursByCounting_45 ?_
      refine zm_ld hA (by decide) (P := 0) (7 + b) (v := σ (7 + b)) dX3_floodHoursByCounting_46 (zn_to (zn_add (zk 7) hb) (by omega)) (by omega) (rfl) ?_
      refine z_join 55 (.int (if ¬ ((zf_tideOf σ (nI K)) < (σ (7 + b))) then (1 : Int32) else 0)) 2 ?_ (fun hJ => ?_)
      rotate_left
      ·
        refine z_icmp_lt (tgt := 54) dX3_floodHoursByCounting_47 (by decide) (fun c_1 => ?_) (fun c_1 => ?_)
        ·
          refine z_iconst dX3_floodHoursByCounting_54 (v := 0) rfl ?_
          exact z_jv (if_neg (fun z => z c_1)) hJ
        ·
          refine z_iconst dX3_floodHoursByCounting_50 (v := 1) rfl ?_
          refine z_goto (tgt := 55) dX3_floodHoursByCounting_51 (by decide) ?_
          exact z_jv (if_pos c_1) hJ
      refine z_iadd dX3_floodHoursByCounting_55 ?_
      refine z_istore_n dX3_floodHoursByCounting_56 (by decide) ?_
      refine z_iinc dX3_floodHoursByCounting_57 rfl (v := nI (K + 1)) (z_inc rfl) ?_
      refine z_goto (tgt := 25) dX3_floodHoursByCounting_60 (by decide) ?_
      refine z_loc (L2 := [some (.ref (A 0)), some (.int pool), some (.int (x + (if ¬ ((zf_tideOf σ (nI K)) < (σ (7 + b))) then (1 : Int32) else 0))), some (.int (nI (K + 1)))]) ⟨rfl, rfl, rfl, rfl, trivial⟩ ?_
      exact ih (K + 1) (x + (if ¬ ((zf_tideOf σ (nI K)) < (σ (7 + b))) then (1 : Int32) else 0)) (by omega) hx
def zf_floodHoursByCounting (σ : Nat → Int32) (pool : Int32) : Int32 := if ¬ ((if ¬ (zf_isPool pool) then (1 : Int32) else 0) ≤ 0) then (0 : Int32) else (zb_floodHoursByCounting σ pool.toNatClampNeg 12 0 (0 : Int32))
set_option maxHeartbeats 4000000 in
theorem k_floodHoursByCounting {G : zE} {A : Nat → Nat} (hA : zinj A 5) {σ s pa ke no f : Nat → Int32} {h0 : zH} {NL NS NC : Nat} (hok : zok σ NL NS NC) {pool : Int32} {d : Nat} (hd : 3 ≤ d) : zCon G fX3_floodHoursByCounting d 0 0 [.ref (A 0), .int pool] (mdl G A (zput 0 σ s) pa ke no f h0) (zA (.int (zf_floodHoursByCounting σ pool)) (mdl G A (zput 0 σ s) pa ke no (upd f 7 (if ¬ (zf_isPool pool) then (1 : Int32) else 0)) h0)) nX := by
  refine zCon.of9 (L := [some (.ref (A 0)), some (.int pool), none, none]) (by simp [Value.category]) (Nat.le_of_ble_eq_true rfl) pX3 rfl rfl ?_
  obtain ⟨bL, bS, bC⟩ := hok.b
  refine z_aload_n dX3_floodHoursByCounting_0 rfl ?_
  refine z_iload_n dX3_floodHoursByCounting_1 rfl ?_
  refine z_cS mX3_isPool (k_isPool (d := d - 1) (by omega)) dX3_floodHoursByCounting_2 q1790 (by omega) rfl (Nat.le_of_ble_eq_true rfl) rfl ?_
  refine z_join 13 (.int (if ¬ (zf_isPool pool) then (1 : Int32) else 0)) 1 ?_ (fun hJ => ?_)
  rotate_left
  ·
    refine z_ifB_eq (tgt := 12) dX3_floodHoursByCounting_5 (by decide) (fun c_1 => ?_) (fun c_1 => ?_)
    ·
      refine z_iconst dX3_floodHoursByCounting_12 (v := 1) rfl ?_
      exact z_jv (if_pos c_1) hJ
    ·
      refine z_iconst dX3_floodHoursByCounting_8 (v := 0) rfl ?_
      refine z_goto (tgt := 13) dX3_floodHoursByCounting_9 (by decide) ?_
      exact z_jv (if_neg (fun z => z c_1)) hJ
  refine z_cV zc7 mX3_throwsAt (k_throwsAt (d := d - 1) (by omega)) dX3_floodHoursByCounting_13 q1796 (by omega) rfl (Nat.le_of_ble_eq_true rfl) rfl mdl_0 rfl ?_
  refine z_ifB_eq (tgt := 21) dX3_floodHoursByCounting_16 (by decide) (fun c_2 => ?_) (fun c_2 => ?_)
  ·
    refine z_iconst dX3_floodHoursByCounting_21 (v := 0) rfl ?_
    refine z_istore_n dX3_floodHoursByCounting_22 (by decide) ?_
    refine z_iconst dX3_floodHoursByCounting_23 (v := 0) rfl ?_
    refine z_istore_n dX3_floodHoursByCounting_24 (by decide) ?_
    refine z_loc (L2 := [some (.ref (A 0)), some (.int pool), some (.int 0), some (.int 0)]) ⟨rfl, rfl, rfl, rfl, trivial⟩ ?_
    have lb_3 := (zin_ix (n := 7) (by omega) rfl (by decide) (Decidable.not_not.mp ((zth2 ((Decidable.not_not.mp c_2)) (by decide)).1))).2
    refine l_floodHoursByCounting hA hok ((zin_ix (n := 7) (by omega) rfl (by decide) (Decidable.not_not.mp ((zth2 ((Decidable.not_not.mp c_2)) (by decide)).1))).1) (by omega) (by omega) 12 0 (0 : Int32) (by omega) ?_
    refine z_iload_n dX3_floodHoursByCounting_63 rfl ?_
    refine z_ret dX3_floodHoursByCounting_64 rfl rfl ⟨by simp only [zf_floodHoursByCounting, if_neg c_2], rfl⟩
  ·
    refine z_iconst dX3_floodHoursByCounting_19 (v := 0) rfl ?_
    refine z_ret dX3_floodHoursByCounting_20 rfl rfl ⟨by simp only [zf_floodHoursByCounting, if_pos c_2], rfl⟩
def zb_hoursToFlood (σ : Nat → Int32) (b : Nat) : Nat → Nat → Int32
  | 0, K => (-1)
  | j + 1, K => if (zf_tideOf σ ((σ 0) + (nI K))) < (σ (7 + b)) then (zb_hoursToFlood σ b j (K + 1)) else (nI K)
set_option maxHeartbeats 4000000 in
theorem l_hoursToFlood {G : zE} {A : Nat → Nat} (hA : zinj A 5) {σ s pa ke no f : Nat → Int32} {h0 : zH} {NL NS NC : Nat} (hok : zok σ NL NS NC) {pool : Int32} {b : Nat} (hb : pool = nI b) (lb : b < 8) {d k n : Nat} (hd : 2 ≤ d) : ∀ (j K : Nat), K + j = 13 → zV G fX3_hoursToFlood d 23 [some (.ref (A 0)), some (.int pool), some (.int (nI K))] [] (mdl G A (zput 0 σ s) pa ke no f h0) k n (zA (.int (zb_hoursToFlood σ b j K)) (mdl G A (zput 0 σ s) pa ke no f h0)) nX := by
  intro j
  induction j with
  | zero =>
    intro K  hK
    have hK9 : K = 13 := by omega
    subst hK9
    obtain ⟨bL, bS, bC⟩ := hok.b
    refine z_iload_n dX3_hoursToFlood_23 rfl ?_
    refine z_bipush dX3_hoursToFlood_24 (v := 13) rfl ?_
    refine z_icmp_ge (tgt := 62) dX3_hoursToFlood_26 (by decide) (fun hg => ?_) (fun hg => ?_)
    ·
      refine z_iconst dX3_hoursToFlood_62 (v := (-1)) rfl ?_
      refine z_ret dX3_hoursToFlood_63 rfl rfl ⟨rfl, rfl⟩
    · exact absurd (by rw [zk 13]; exact Int32.le_refl _) hg
  | succ j ih =>
    intro K  hK
    obtain ⟨bL, bS, bC⟩ := hok.b
    refine z_iload_n dX3_hoursToFlood_23 rfl ?_
    refine z_bipush dX3_hoursToFlood_24 (v := 13) rfl ?_
    refine z_icmp_ge (tgt := 62) dX3_hoursToFlood_26 (by decide) (fun hg => ?_) (fun hg => ?_)
    · exact absurd hg (by rw [zk 13]; exact nI_ge (by omega) (by omega))
    ·
      refine z_aload_n dX3_hoursToFlood_29 rfl ?_
      refine z_iconst dX3_hoursToFlood_30 (v := 0) rfl ?_
      refine z_aload_n dX3_hoursToFlood_31 rfl ?_
      refine zm_get 0 dX3_hoursToFlood_32 q1742 rfl rfl ?_
      refine z_iconst dX3_hoursToFlood_35 (v := 0) rfl ?_
      refine zm_ld hA (by decide) (P := 0) (0) (v := σ 0) dX3_hoursToFlood_36 (zn_to (zk 0) (by omega)) (by omega) (rfl) ?_
      refine z_iload_n dX3_hoursToFlood_37 rfl ?_
      refine z_iadd dX3_hoursToFlood_38 ?_
      refine z_cV zc7 mX3_tideOf (k_tideOf (d := d - 1) hA (P := 0) (by decide) (zk 0) (by omega)) dX3_hoursToFlood_39 q1857 (by omega) rfl (Nat.le_of_ble_eq_true rfl) rfl mdl_0 rfl ?_
      refine z_aload_n dX3_hoursToFlood_42 rfl ?_
      refine zm_get 0 dX3_hoursToFlood_43 q1742 rfl rfl ?_
      refine z_bipush dX3_hoursToFlood_46 (v := 7) rfl ?_
      refine z_iload_n dX3_hoursToFlood_48 rfl ?_
      refine z_iadd dX3_hoursToFlood_49 ?_
      refine zm_ld hA (by decide) (P := 0) (7 + b) (v := σ (7 + b)) dX3_hoursToFlood_50 (zn_to (zn_add (zk 7) hb) (by omega)) (by omega) (rfl) ?_
      refine z_icmp_lt (tgt := 56) dX3_hoursToFlood_51 (by decide) (fun c_1 => ?_) (fun c_1 => ?_)
      ·
        refine z_iinc dX3_hoursToFlood_56 rfl (v := nI (K + 1)) (z_inc rfl) ?_
        refine z_goto (tgt := 23) dX3_hoursToFlood_59 (by decide) ?_
        refine z_loc (L2 := [some (.ref (A 0)), some (.int pool), some (.int (nI (K + 1)))]) ⟨rfl, rfl, rfl, trivial⟩ ?_
        have h9 := ih (K + 1)  (by omega)
        simp only [zb_hoursToFlood, if_pos c_1]
        exact h9
      ·
        refine z_iload_n dX3_hoursToFlood_54 rfl ?_
        refine z_ret dX3_hoursToFlood_55 rfl rfl ⟨by simp only [zb_hoursToFlood, if_neg c_1], rfl⟩
def zf_hoursToFlood (σ : Nat → Int32) (pool : Int32) : Int32 := if ¬ ((if ¬ (zf_isPool pool) then (1 : Int32) else 0) ≤ 0) then (0 : Int32) else (zb_hoursToFlood σ pool.toNatClampNeg 13 0)
set_option maxHeartbeats 4000000 in
theorem k_hoursToFlood {G : zE} {A : Nat → Nat} (hA : zinj A 5) {σ s pa ke no f : Nat → Int32} {h0 : zH} {NL NS NC : Nat} (hok : zok σ NL NS NC) {pool : Int32} {d : Nat} (hd : 3 ≤ d) : zCon G fX3_hoursToFlood d 0 0 [.ref (A 0), .int pool] (mdl G A (zput 0 σ s) pa ke no f h0) (zA (.int (zf_hoursToFlood σ pool)) (mdl G A (zput 0 σ s) pa ke no (upd f 7 (if ¬ (zf_isPool pool) then (1 : Int32) else 0)) h0)) nX := by
  refine zCon.of9 (L := [some (.ref (A 0)), some (.int pool), none]) (by simp [Value.category]) (Nat.le_of_ble_eq_true rfl) pX3 rfl rfl ?_
  obtain ⟨bL, bS, bC⟩ := hok.b
  refine z_aload_n dX3_hoursToFlood_0 rfl ?_
  refine z_iload_n dX3_hoursToFlood_1 rfl ?_
  refine z_cS mX3_isPool (k_isPool (d := d - 1) (by omega)) dX3_hoursToFlood_2 q1790 (by omega) rfl (Nat.le_of_ble_eq_true rfl) rfl ?_
  refine z_join 13 (.int (if ¬ (zf_isPool pool) then (1 : Int32) else 0)) 1 ?_ (fun hJ => ?_)
  rotate_left
  ·
    refine z_ifB_eq (tgt := 12) dX3_hoursToFlood_5 (by decide) (fun c_1 => ?_) (fun c_1 => ?_)
    ·
      refine z_iconst dX3_hoursToFlood_12 (v := 1) rfl ?_
      exact z_jv (if_pos c_1) hJ
    ·
      refine z_iconst dX3_hoursToFlood_8 (v := 0) rfl ?_
      refine z_goto (tgt := 13) dX3_hoursToFlood_9 (by decide) ?_
      exact z_jv (if_neg (fun z => z c_1)) hJ
  refine z_cV zc7 mX3_throwsAt (k_throwsAt (d := d - 1) (by omega)) dX3_hoursToFlood_13 q1796 (by omega) rfl (Nat.le_of_ble_eq_true rfl) rfl mdl_0 rfl ?_
  refine z_ifB_eq (tgt := 21) dX3_hoursToFlood_16 (by decide) (fun c_2 => ?_) (fun c_2 => ?_)
  ·
    refine z_iconst dX3_hoursToFlood_21 (v := 0) rfl ?_
    refine z_istore_n dX3_hoursToFlood_22 (by decide) ?_
    refine z_loc (L2 := [some (.ref (A 0)), some (.int pool), some (.int 0)]) ⟨rfl, rfl, rfl, trivial⟩ ?_
    have lb_3 := (zin_ix (n := 7) (by omega) rfl (by decide) (Decidable.not_not.mp ((zth2 ((Decidable.not_not.mp c_2)) (by decide)).1))).2
    exact z_qa (l_hoursToFlood hA hok ((zin_ix (n := 7) (by omega) rfl (by decide) (Decidable.not_not.mp ((zth2 ((Decidable.not_not.mp c_2)) (by decide)).1))).1) (by omega) (by omega) 13 0 (by omega)) ⟨by simp only [zf_hoursToFlood, if_neg c_2], rfl⟩
  ·
    refine z_iconst dX3_hoursToFlood_19 (v := 0) rfl ?_
    refine z_ret dX3_hoursToFlood_20 rfl rfl ⟨by simp only [zf_hoursToFlood, if_pos c_2], rfl⟩
def zb_floodHours (σ : Nat → Int32) (b : Nat) : Nat → Nat → Int32
  | 0, K => if (nI K) = 0 then (12 : Int32) else (if (nI K) = 7 then (0 : Int32) else (13 - (2 * (nI K))))
  | j + 1, K => if (σ (7 + b)) ≤ (zf_tideOf σ (nI K)) then (if (nI K) = 0 then (12 : Int32) else (if (nI K) = 7 then (0 : Int32) else (13 - (2 * (nI K))))) else (zb_floodHours σ b j (K + 1))
set_option maxHeartbeats 4000000 in
theorem l_floodHours {G : zE} {A : Nat → Nat} (hA : zinj A 5) {σ s pa ke no f : Nat → Int32} {h0 : zH} {NL NS NC : Nat} (hok : zok σ NL NS NC) {pool : Int32} {b : Nat} (hb : pool = nI b) (lb : b < 8) {d k n : Nat} (hd : 2 ≤ d) : ∀ (j K : Nat), K + j = 7 → zV G fX3_floodHours d 23 [some (.ref (A 0)), some (.int pool), some (.int (nI K))] [] (mdl G A (zput 0 σ s) pa ke no f h0) k n (zA (.int (zb_floodHours σ b j K)) (mdl G A (zput 0 σ s) pa ke no f h0)) nX := by
  intro j
  induction j with
  | zero =>
    intro K  hK
    have hK9 : K = 7 := by omega
    subst hK9
    obtain ⟨bL, bS, bC⟩ := hok.b
    refine z_iload_n dX3_floodHours_23 rfl ?_
    refine z_bipush dX3_floodHours_24 (v := 7) rfl ?_
    refine z_icmp_ge (tgt := 53) dX3_floodHours_26 (by decide) (fun hg => ?_) (fun hg => ?_)
    ·
      refine z_iload_n dX3_floodHours_53 rfl ?_
      refine z_join 78 (.int (if (nI 7) = 0 then (12 : Int32) else (if (nI 7) = 7 then (0 : Int32) else (13 - (2 * (nI 7)))))) 1 ?_ (fun hJ => ?_)
      rotate_left
      ·
        refine z_if_ne (tgt := 62) dX3_floodHours_54 (by decide) (fun c_1 => ?_) (fun c_1 => ?_)
        ·
          refine z_iload_n dX3_floodHours_62 rfl ?_
          refine z_bipush dX3_floodHours_63 (v := 7) rfl ?_
          refine z_icmp_ne (tgt := 72) dX3_floodHours_65 (by decide) (fun c_2 => ?_) (fun c_2 => ?_)
          ·
            refine z_bipush dX3_floodHours_72 (v := 13) rfl ?_
            refine z_iconst dX3_floodHours_74 (v := 2) rfl ?_
            refine z_iload_n dX3_floodHours_75 rfl ?_
            refine z_imul dX3_floodHours_76 ?_
            refine z_isub dX3_floodHours_77 ?_
            exact z_jv (by simp only [if_neg c_1, if_neg c_2] <;> rfl) hJ
          ·
            refine z_iconst dX3_floodHours_68 (v := 0) rfl ?_
            refine z_goto (tgt := 78) dX3_floodHours_69 (by decide) ?_
            exact z_jv (by simp only [if_neg c_1, if_pos c_2] <;> rfl) hJ
        ·
          refine z_bipush dX3_floodHours_57 (v := 12) rfl ?_
          refine z_goto (tgt := 78) dX3_floodHours_59 (by decide) ?_
          exact z_jv (by simp only [if_pos c_1] <;> rfl) hJ
      refine z_ret dX3_floodHours_78 rfl rfl ⟨rfl, rfl⟩
    · exact absurd (by rw [zk 7]; exact Int32.le_refl _) hg
  | succ j ih =>
    intro K  hK
    obtain ⟨bL, bS, bC⟩ := hok.b
    refine z_iload_n dX3_floodHours_23 rfl ?_
    refine z_bipush dX3_floodHours_24 (v := 7) rfl ?_
    refine z_icmp_ge (tgt := 53) dX3_floodHours_26 (by decide) (fun hg => ?_) (fun hg => ?_)
    · exact absurd hg (by rw [zk 7]; exact nI_ge (by omega) (by omega))
    ·
      refine z_aload_n dX3_floodHours_29 rfl ?_
      refine z_iconst dX3_floodHours_30 (v := 0) rfl ?_
      refine z_iload_n dX3_floodHours_31 rfl ?_
      refine z_cV zc7 mX3_tideOf (k_tideOf (d := d - 1) hA (P := 0) (by decide) (zk 0) (by omega)) dX3_floodHours_32 q1857 (by omega) rfl (Nat.le_of_ble_eq_true rfl) rfl mdl_0 rfl ?_
      refine z_aload_n dX3_floodHours_35 rfl ?_
      refine zm_get 0 dX3_floodHours_36 q1742 rfl rfl ?_
      refine z_bipush dX3_floodHours_39 (v := 7) rfl ?_
      refine z_iload_n dX3_floodHours_41 rfl ?_
      refine z_iadd dX3_floodHours_42 ?_
      refine zm_ld hA (by decide) (P := 0) (7 + b) (v := σ (7 + b)) dX3_floodHours_43 (zn_to (zn_add (zk 7) hb) (by omega)) (by omega) (rfl) ?_
      refine z_icmp_ge (tgt := 53) dX3_floodHours_44 (by decide) (fun c_1 => ?_) (fun c_1 => ?_)
      ·
        refine z_iload_n dX3_floodHours_53 rfl ?_
        refine z_join 78 (.int (if (nI K) = 0 then (12 : Int32) else (if (nI K) = 7 then (0 : Int32) else (13 - (2 * (nI K)))))) 1 ?_ (fun hJ => ?_)
        rotate_left
        ·
          refine z_if_ne (tgt := 62) dX3_floodHours_54 (by decide) (fun c_2 => ?_) (fun c_2 => ?_)
          ·
            refine z_iload_n dX3_floodHours_62 rfl ?_
            refine z_bipush dX3_floodHours_63 (v := 7) rfl ?_
            refine z_icmp_ne (tgt := 72) dX3_floodHours_65 (by decide) (fun c_3 => ?_) (fun c_3 => ?_)
            ·
              refine z_bipush dX3_floodHours_72 (v := 13) rfl ?_
              refine z_iconst dX3_floodHours_74 (v := 2) rfl ?_
              refine z_iload_n dX3_floodHours_75 rfl ?_
              refine z_imul dX3_floodHours_76 ?_
              refine z_isub dX3_floodHours_77 ?_
              exact z_jv (by simp only [if_neg c_2, if_neg c_3] <;> rfl) hJ
            ·
              refine z_iconst dX3_floodHours_68 (v := 0) rfl ?_
              refine z_goto (tgt := 78) dX3_floodHours_69 (by decide) ?_
              exact z_jv (by simp only [if_neg c_2, if_pos c_3] <;> rfl) hJ
          ·
            refine z_bipush dX3_floodHours_57 (v := 12) rfl ?_
            refine z_goto (tgt := 78) dX3_floodHours_59 (by decide) ?_
            exact z_jv (by simp only [if_pos c_2] <;> rfl) hJ
        refine z_ret dX3_floodHours_78 rfl rfl ⟨by simp only [zb_floodHours, if_pos c_1], rfl⟩
      ·
        refine z_iinc dX3_floodHours_47 rfl (v := nI (K + 1)) (z_inc rfl) ?_
        refine z_goto (tgt := 23) dX3_floodHours_50 (by decide) ?_
        refine z_loc (L2 := [some (.ref (A 0)), some (.int pool), some (.int (nI (K + 1)))]) ⟨rfl, rfl, rfl, trivial⟩ ?_
        have h9 := ih (K + 1)  (by omega)
        simp only [zb_floodHours, if_neg c_1]
        exact h9
def zf_floodHours (σ : Nat → Int32) (pool : Int32) : Int32 := if ¬ ((if ¬ (zf_isPool pool) then (1 : Int32) else 0) ≤ 0) then (0 : Int32) else (zb_floodHours σ pool.toNatClampNeg 7 0)
set_option maxHeartbeats 4000000 in
theorem k_floodHours {G : zE} {A : Nat → Nat} (hA : zinj A 5) {σ s pa ke no f : Nat → Int32} {h0 : zH} {NL NS NC : Nat} (hok : zok σ NL NS NC) {pool : Int32} {d : Nat} (hd : 3 ≤ d) : zCon G fX3_floodHours d 0 0 [.ref (A 0), .int pool] (mdl G A (zput 0 σ s) pa ke no f h0) (zA (.int (zf_floodHours σ pool)) (mdl G A (zput 0 σ s) pa ke no (upd f 7 (if ¬ (zf_isPool pool) then (1 : Int32) else 0)) h0)) nX := by
  refine zCon.of9 (L := [some (.ref (A 0)), some (.int pool), none]) (by simp [Value.category]) (Nat.le_of_ble_eq_true rfl) pX3 rfl rfl ?_
  obtain ⟨bL, bS, bC⟩ := hok.b
  refine z_aload_n dX3_floodHours_0 rfl ?_
  refine z_iload_n dX3_floodHours_1 rfl ?_
  refine z_cS mX3_isPool (k_isPool (d := d - 1) (by omega)) dX3_floodHours_2 q1790 (by omega) rfl (Nat.le_of_ble_eq_true rfl) rfl ?_
  refine z_join 13 (.int (if ¬ (zf_isPool pool) then (1 : Int32) else 0)) 1 ?_ (fun hJ => ?_)
  rotate_left
  ·
    refine z_ifB_eq (tgt := 12) dX3_floodHours_5 (by decide) (fun c_1 => ?_) (fun c_1 => ?_)
    ·
      refine z_iconst dX3_floodHours_12 (v := 1) rfl ?_
      exact z_jv (if_pos c_1) hJ
    ·
      refine z_iconst dX3_floodHours_8 (v := 0) rfl ?_
      refine z_goto (tgt := 13) dX3_floodHours_9 (by decide) ?_
      exact z_jv (if_neg (fun z => z c_1)) hJ
  refine z_cV zc7 mX3_throwsAt (k_throwsAt (d := d - 1) (by omega)) dX3_floodHours_13 q1796 (by omega) rfl (Nat.le_of_ble_eq_true rfl) rfl mdl_0 rfl ?_
  refine z_ifB_eq (tgt := 21) dX3_floodHours_16 (by decide) (fun c_2 => ?_) (fun c_2 => ?_)
  ·
    refine z_iconst dX3_floodHours_21 (v := 0) rfl ?_
    refine z_istore_n dX3_floodHours_22 (by decide) ?_
    refine z_loc (L2 := [some (.ref (A 0)), some (.int pool), some (.int 0)]) ⟨rfl, rfl, rfl, trivial⟩ ?_
    have lb_3 := (zin_ix (n := 7) (by omega) rfl (by decide) (Decidable.not_not.mp ((zth2 ((Decidable.not_not.mp c_2)) (by decide)).1))).2
    exact z_qa (l_floodHours hA hok ((zin_ix (n := 7) (by omega) rfl (by decide) (Decidable.not_not.mp ((zth2 ((Decidable.not_not.mp c_2)) (by decide)).1))).1) (by omega) (by omega) 7 0 (by omega)) ⟨by simp only [zf_floodHours, if_neg c_2], rfl⟩
  ·
    refine z_iconst dX3_floodHours_19 (v := 0) rfl ?_
    refine z_ret dX3_floodHours_20 rfl rfl ⟨by simp only [zf_floodHours, if_pos c_2], rfl⟩
