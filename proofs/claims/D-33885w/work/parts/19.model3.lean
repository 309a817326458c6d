/-! THE REFERENCE, part 3: an hour, in a row -/
set_option maxRecDepth 100000
def zb_warms  : Nat → Nat → (Nat → Int32) → (Nat → Int32)
  | 0, _, σ => σ
  | j + 1, K, σ => zb_warms j (K + 1) (upd (upd σ (15 + K) (if zf_isWet σ K then (10 : Int32) else (if ((σ (15 + K)) + (σ 3)) ≤ 40 then ((σ (15 + K)) + (σ 3)) else (40 : Int32)))) (23 + K) (if ((σ (23 + K)) + (if zf_isWet σ K then (3 : Int32) else (1 : Int32))) ≤ 99 then ((σ (23 + K)) + (if zf_isWet σ K then (3 : Int32) else (1 : Int32))) else (99 : Int32)))
theorem zokb_warms  {NL NS NC : Nat} : ∀ (j K : Nat) (σ : (Nat → Int32)), K + j = 8 → zok σ NL NS NC → zok (zb_warms j K σ) NL NS NC := by
  intro j
  induction j with
  | zero => intro K σ _ hok; exact hok
  | succ j ih =>
    intro K σ hK hok
    obtain ⟨bL, bS, bC⟩ := hok.b
    show zok (zb_warms j (K + 1) (upd (upd σ (15 + K) (if zf_isWet σ K then (10 : Int32) else (if ((σ (15 + K)) + (σ 3)) ≤ 40 then ((σ (15 + K)) + (σ 3)) else (40 : Int32)))) (23 + K) (if ((σ (23 + K)) + (if zf_isWet σ K then (3 : Int32) else (1 : Int32))) ≤ 99 then ((σ (23 + K)) + (if zf_isWet σ K then (3 : Int32) else (1 : Int32))) else (99 : Int32)))) NL NS NC
    exact ih (K + 1) (upd (upd σ (15 + K) (if zf_isWet σ K then (10 : Int32) else (if ((σ (15 + K)) + (σ 3)) ≤ 40 then ((σ (15 + K)) + (σ 3)) else (40 : Int32)))) (23 + K) (if ((σ (23 + K)) + (if zf_isWet σ K then (3 : Int32) else (1 : Int32))) ≤ 99 then ((σ (23 + K)) + (if zf_isWet σ K then (3 : Int32) else (1 : Int32))) else (99 : Int32))) (by omega) ((hok.frP (by omega)).frP (by omega))
set_option maxHeartbeats 4000000 in
theorem l_warms {G : zE} {A : Nat → Nat} (hA : zinj A 5) {P : Nat} (hP : P ≤ 287) {s pa ke no f : Nat → Int32} {h0 : zH} {p : Int32} (hp : p = nI P) {d k n : Nat} (hd : 3 ≤ d) {Q : Option Value → zH → Prop} {X : String → zH → Prop} : ∀ (j K : Nat) (σ : (Nat → Int32)), K + j = 8 → zV G fX3_warms d 125 [some (.ref (A 0)), some (.int p), none, none, none, none] [] (mdl G A (zput P (zb_warms j K σ) s) pa ke no f h0) k n Q X → zV G fX3_warms d 2 [some (.ref (A 0)), some (.int p), some (.int (nI K)), none, none, none] [] (mdl G A (zput P σ s) pa ke no f h0) k n Q X := by
  intro j
  induction j with
  | zero =>
    intro K σ hK hx
    have hK9 : K = 8 := by omega
    subst hK9
    refine z_iload_n dX3_warms_2 rfl ?_
    refine z_bipush dX3_warms_3 (v := 8) rfl ?_
    refine z_icmp_ge (tgt := 125) dX3_warms_5 (by decide) (fun hg => ?_) (fun hg => ?_)
    ·
      refine z_loc (L2 := [some (.ref (A 0)), some (.int p), none, none, none, none]) ⟨rfl, rfl, trivial⟩ ?_
      exact hx
    · exact absurd (by rw [zk 8]; exact Int32.le_refl _) hg
  | succ j ih =>
    intro K σ hK hx
    refine z_iload_n dX3_warms_2 rfl ?_
    refine z_bipush dX3_warms_3 (v := 8) rfl ?_
    refine z_icmp_ge (tgt := 125) dX3_warms_5 (by decide) (fun hg => ?_) (fun hg => ?_)
    · exact absurd hg (by rw [zk 8]; exact nI_ge (by omega) (by omega))
    ·
      refine z_aload_n dX3_warms_8 rfl ?_
      refine z_iload_n dX3_warms_9 rfl ?_
      refine z_iload_n dX3_warms_10 rfl ?_
      refine z_cV zc7 mX3_isWet (k_isWet (d := d - 1) hA (P := P) hP hp rfl (by omega) (by omega)) dX3_warms_11 q1885 (by omega) rfl (Nat.le_of_ble_eq_true rfl) rfl mdl_0 rfl ?_
      refine z_istore_n dX3_warms_14 (by decide) ?_
      refine z_aload_n dX3_warms_15 rfl ?_
      refine zm_get 0 dX3_warms_16 q1742 rfl rfl ?_
      refine z_iload_n dX3_warms_19 rfl ?_
      refine z_bipush dX3_warms_20 (v := 15) rfl ?_
      refine z_iadd dX3_warms_22 ?_
      refine z_iload_n dX3_warms_23 rfl ?_
      refine z_iadd dX3_warms_24 ?_
      refine zm_ld hA hP (P := P) (15 + K) (v := σ (15 + K)) dX3_warms_25 (zn_to (zn_add (zn_add hp (zk 15)) rfl) (by omega)) (by omega) (rfl) ?_
      refine z_aload_n dX3_warms_26 rfl ?_
      refine zm_get 0 dX3_warms_27 q1742 rfl rfl ?_
      refine z_iload_n dX3_warms_30 rfl ?_
      refine z_iconst dX3_warms_31 (v := 3) rfl ?_
      refine z_iadd dX3_warms_32 ?_
      refine zm_ld hA hP (P := P) (3) (v := σ 3) dX3_warms_33 (zn_to (zn_add hp (zk 3)) (by omega)) (by omega) (rfl) ?_
      refine z_iadd dX3_warms_34 ?_
      refine z_istore dX3_warms_35 (by decide) ?_
      refine z_aload_n dX3_warms_37 rfl ?_
      refine zm_get 0 dX3_warms_38 q1742 rfl rfl ?_
      refine z_iload_n dX3_warms_41 rfl ?_
      refine z_bipush dX3_warms_42 (v := 23) rfl ?_
      refine z_iadd dX3_warms_44 ?_
      refine z_iload_n dX3_warms_45 rfl ?_
      refine z_iadd dX3_warms_46 ?_
      refine zm_ld hA hP (P := P) (23 + K) (v := σ (23 + K)) dX3_warms_47 (zn_to (zn_add (zn_add hp (zk 23)) rfl) (by omega)) (by omega) (rfl) ?_
      refine z_iload_n dX3_warms_48 rfl ?_
      refine z_join 57 (.int (if zf_isWet σ K then (3 : Int32) else (1 : Int32))) 1 ?_ (fun hJ => ?_)
      rotate_left
      ·
        refine z_ifB_eq (tgt := 56) dX3_warms_49 (by decide) (fun c_1 => ?_) (fun c_1 => ?_)
        ·
          refine z_iconst dX3_warms_56 (v := 1) rfl ?_
          exact z_jv (by simp only [if_neg c_1] <;> rfl) hJ
        ·
          refine z_iconst dX3_warms_52 (v := 3) rfl ?_
          refine z_goto (tgt := 57) dX3_warms_53 (by decide) ?_
          exact z_jv (by simp only [if_pos c_1] <;> rfl) hJ
      refine z_iadd dX3_warms_57 ?_
      refine z_istore dX3_warms_58 (by decide) ?_
      refine z_aload_n dX3_warms_60 rfl ?_
      refine zm_get 0 dX3_warms_61 q1742 rfl rfl ?_
      refine z_iload_n dX3_warms_64 rfl ?_
      refine z_bipush dX3_warms_65 (v := 15) rfl ?_
      refine z_iadd dX3_warms_67 ?_
      refine z_iload_n dX3_warms_68 rfl ?_
      refine z_iadd dX3_warms_69 ?_
      refine z_iload_n dX3_warms_70 rfl ?_
      refine z_join 93 (.int (if zf_isWet σ K then (10 : Int32) else (if ((σ (15 + K)) + (σ 3)) ≤ 40 then ((σ (15 + K)) + (σ 3)) else (40 : Int32)))) 1 ?_ (fun hJ => ?_)
      rotate_left
      ·
        refine z_ifB_eq (tgt := 79) dX3_warms_71 (by decide) (fun c_2 => ?_) (fun c_2 => ?_)
        ·
          refine z_iload dX3_warms_79 rfl ?_
          refine z_bipush dX3_warms_81 (v := 40) rfl ?_
          refine z_icmp_le (tgt := 91) dX3_warms_83 (by decide) (fun c_3 => ?_) (fun c_3 => ?_)
          ·
            refine z_iload dX3_warms_91 rfl ?_
            exact z_jv (by simp only [if_neg c_2, if_pos c_3] <;> rfl) hJ
          ·
            refine z_bipush dX3_warms_86 (v := 40) rfl ?_
            refine z_goto (tgt := 93) dX3_warms_88 (by decide) ?_
            exact z_jv (by simp only [if_neg c_2, if_neg c_3] <;> rfl) hJ
        ·
          refine z_bipush dX3_warms_74 (v := 10) rfl ?_
          refine z_goto (tgt := 93) dX3_warms_76 (by decide) ?_
          exact z_jv (by simp only [if_pos c_2] <;> rfl) hJ
      refine zm_st hA hP (P := P) (15 + K) dX3_warms_93 (zn_to (zn_add (zn_add hp (zk 15)) rfl) (by omega)) (by omega) ?_
      refine z_aload_n dX3_warms_94 rfl ?_
      refine zm_get 0 dX3_warms_95 q1742 rfl rfl ?_
      refine z_iload_n dX3_warms_98 rfl ?_
      refine z_bipush dX3_warms_99 (v := 23) rfl ?_
      refine z_iadd dX3_warms_101 ?_
      refine z_iload_n dX3_warms_102 rfl ?_
      refine z_iadd dX3_warms_103 ?_
      refine z_iload dX3_warms_104 rfl ?_
      refine z_bipush dX3_warms_106 (v := 99) rfl ?_
      refine z_join 118 (.int (if ((σ (23 + K)) + (if zf_isWet σ K then (3 : Int32) else (1 : Int32))) ≤ 99 then ((σ (23 + K)) + (if zf_isWet σ K then (3 : Int32) else (1 : Int32))) else (99 : Int32))) 2 ?_ (fun hJ => ?_)
      rotate_left
      ·
        refine z_icmp_le (tgt := 116) dX3_warms_108 (by decide) (fun c_4 => ?_) (fun c_4 => ?_)
        ·
          refine z_iload dX3_warms_116 rfl ?_
          exact z_jv (by simp only [if_pos c_4] <;> rfl) hJ
        ·
          refine z_bipush dX3_warms_111 (v := 99) rfl ?_
          refine z_goto (tgt := 118) dX3_warms_113 (by decide) ?_
          exact z_jv (by simp only [if_neg c_4] <;> rfl) hJ
      refine zm_st hA hP (P := P) (23 + K) dX3_warms_118 (zn_to (zn_add (zn_add hp (zk 23)) rfl) (by omega)) (by omega) ?_
      refine z_iinc dX3_warms_119 rfl (v := nI (K + 1)) (z_inc rfl) ?_
      refine z_goto (tgt := 2) dX3_warms_122 (by decide) ?_
      refine z_loc (L2 := [some (.ref (A 0)), some (.int p), some (.int (nI (K + 1))), none, none, none]) ⟨rfl, rfl, rfl, trivial⟩ ?_
      exact ih (K + 1) (upd (upd σ (15 + K) (if zf_isWet σ K then (10 : Int32) else (if ((σ (15 + K)) + (σ 3)) ≤ 40 then ((σ (15 + K)) + (σ 3)) else (40 : Int32)))) (23 + K) (if ((σ (23 + K)) + (if zf_isWet σ K then (3 : Int32) else (1 : Int32))) ≤ 99 then ((σ (23 + K)) + (if zf_isWet σ K then (3 : Int32) else (1 : Int32))) else (99 : Int32))) (by omega) hx
def zr_warms (σ : Nat → Int32) : Nat → Int32 := zb_warms  8 0 σ
theorem zok_warms {σ : Nat → Int32} {NL NS NC : Nat} (hok : zok σ NL NS NC) : zok (zr_warms σ) NL NS NC := by
  obtain ⟨bL, bS, bC⟩ := hok.b
  unfold zr_warms
  exact (zokb_warms _ _ _ (by omega) hok)
set_option maxHeartbeats 4000000 in
theorem k_warms {G : zE} {A : Nat → Nat} (hA : zinj A 5) {P : Nat} (hP : P ≤ 287) {σ s pa ke no f : Nat → Int32} {h0 : zH} {p : Int32} (hp : p = nI P) {d : Nat} (hd : 4 ≤ d) : zCon G fX3_warms d 0 0 [.ref (A 0), .int p] (mdl G A (zput P σ s) pa ke no f h0) (zAv (mdl G A (zput P (zr_warms σ) s) pa ke no f h0)) nX := by
  refine zCon.of9 (L := [some (.ref (A 0)), some (.int p), none, none, none, none]) (by simp [Value.category]) (Nat.le_of_ble_eq_true rfl) pX3 rfl rfl ?_
  refine z_iconst dX3_warms_0 (v := 0) rfl ?_
  refine z_istore_n dX3_warms_1 (by decide) ?_
  refine z_loc (L2 := [some (.ref (A 0)), some (.int p), some (.int 0), none, none, none]) ⟨rfl, rfl, rfl, trivial⟩ ?_
  refine l_warms hA hP hp (by omega) 8 0 σ (by omega) ?_
  refine z_vret dX3_warms_125 rfl ⟨rfl, rfl⟩
def zr_feeds_164 (σ : Nat → Int32) (a : Nat) : Nat → Int32 := if 0 < (σ (32 + 5 * a + 3)) then (upd (upd (upd (upd σ (32 + 5 * a + 1) 12) (32 + 5 * a + 3) (if (σ (32 + 5 * a + 3)) = 3 then (3 : Int32) else ((σ (32 + 5 * a + 3)) + 1))) (23 + ((σ (32 + 5 * a)).toNatClampNeg)) ((σ (23 + ((σ (32 + 5 * a)).toNatClampNeg))) - (if (σ (23 + ((σ (32 + 5 * a)).toNatClampNeg))) ≤ 2 then (σ (23 + ((σ (32 + 5 * a)).toNatClampNeg))) else (2 : Int32)))) (32 + 5 * a + 2) (if ((σ (32 + 5 * a + 2)) + (if (σ (23 + ((σ (32 + 5 * a)).toNatClampNeg))) ≤ 2 then (σ (23 + ((σ (32 + 5 * a)).toNatClampNeg))) else (2 : Int32))) ≤ 20 then ((σ (32 + 5 * a + 2)) + (if (σ (23 + ((σ (32 + 5 * a)).toNatClampNeg))) ≤ 2 then (σ (23 + ((σ (32 + 5 * a)).toNatClampNeg))) else (2 : Int32))) else (20 : Int32))) else (if (σ (23 + ((σ (32 + 5 * a)).toNatClampNeg))) ≤ 0 then (upd σ (32 + 5 * a + 1) 12) else (upd (upd (upd (upd σ (32 + 5 * a + 1) 12) (32 + 5 * a + 3) (if (σ (32 + 5 * a + 3)) = 3 then (3 : Int32) else ((σ (32 + 5 * a + 3)) + 1))) (23 + ((σ (32 + 5 * a)).toNatClampNeg)) ((σ (23 + ((σ (32 + 5 * a)).toNatClampNeg))) - (if (σ (23 + ((σ (32 + 5 * a)).toNatClampNeg))) ≤ 2 then (σ (23 + ((σ (32 + 5 * a)).toNatClampNeg))) else (2 : Int32)))) (32 + 5 * a + 2) (if ((σ (32 + 5 * a + 2)) + (if (σ (23 + ((σ (32 + 5 * a)).toNatClampNeg))) ≤ 2 then (σ (23 + ((σ (32 + 5 * a)).toNatClampNeg))) else (2 : Int32))) ≤ 20 then ((σ (32 + 5 * a + 2)) + (if (σ (23 + ((σ (32 + 5 * a)).toNatClampNeg))) ≤ 2 then (σ (23 + ((σ (32 + 5 * a)).toNatClampNeg))) else (2 : Int32))) else (20 : Int32))))
theorem zok_feeds_164 {σ : Nat → Int32} {a : Nat} {NL NS NC : Nat} (hok : zok σ NL NS NC) (la : a < NL) : zok (zr_feeds_164 σ a) NL NS NC := by
  obtain ⟨bL, bS, bC⟩ := hok.b
  have lb := (hok.lp (k := a) la).2
  unfold zr_feeds_164
  exact zok_ite (fun hc0 => ((((hok.lw (k := a) (by omega) (by omega)).lw (k := a) (by omega) (by omega)).frP (by omega)).lw (k := a) (by omega) (by omega))) (fun hc0 => zok_ite (fun hc1 => (hok.lw (k := a) (by omega) (by omega))) (fun hc1 => ((((hok.lw (k := a) (by omega) (by omega)).lw (k := a) (by omega) (by omega)).frP (by omega)).lw (k := a) (by omega) (by omega))))
def zr_feeds (σ : Nat → Int32) (a : Nat) : Nat → Int32 := zr_feeds_164 σ a
theorem zok_feeds {σ : Nat → Int32} {a : Nat} {NL NS NC : Nat} (hok : zok σ NL NS NC) (la : a < NL) : zok (zr_feeds σ a) NL NS NC := by
  obtain ⟨bL, bS, bC⟩ := hok.b
  unfold zr_feeds
  exact (zok_feeds_164 hok (by omega))
set_option maxHeartbeats 4000000 in
theorem k_feeds {G : zE} {A : Nat → Nat} (hA : zinj A 5) {P : Nat} (hP : P ≤ 287) {σ s pa ke no f : Nat → Int32} {h0 : zH} {p : Int32} (hp : p = nI P) {NL NS NC : Nat} (hok : zok σ NL NS NC) {pl : Int32} {a : Nat} (hat : pl = nI (P + (32 + 5 * a))) (la : a < NL) {d : Nat} (hd : 1 ≤ d) : zCon G fX3_feeds d 0 0 [.ref (A 0), .int p, .int pl] (mdl G A (zput P σ s) pa ke no f h0) (zAv (mdl G A (zput P (zr_feeds σ a) s) pa ke no f h0)) nX := by
  refine zCon.of9 (L := [some (.ref (A 0)), some (.int p), some (.int pl), none, none]) (by simp [Value.category]) (Nat.le_of_ble_eq_true rfl) pX3 rfl rfl ?_
  obtain ⟨bL, bS, bC⟩ := hok.b
  refine z_aload_n dX3_feeds_0 rfl ?_
  refine zm_get 0 dX3_feeds_1 q1742 rfl rfl ?_
  refine z_iload_n dX3_feeds_4 rfl ?_
  refine zm_ld hA hP (P := P) (32 + 5 * a) (v := σ (32 + 5 * a)) dX3_feeds_5 (zn_to (hat) (by omega)) (by omega) (rfl) ?_
  refine z_istore_n dX3_feeds_6 (by decide) ?_
  refine z_aload_n dX3_feeds_7 rfl ?_
  refine zm_get 0 dX3_feeds_8 q1742 rfl rfl ?_
  refine z_iload_n dX3_feeds_11 rfl ?_
  refine z_iconst dX3_feeds_12 (v := 1) rfl ?_
  refine z_iadd dX3_feeds_13 ?_
  refine z_bipush dX3_feeds_14 (v := 12) rfl ?_
  refine zm_st hA hP (P := P) (32 + 5 * a + 1) dX3_feeds_16 (zn_to (zn_add hat (zk 1)) (by omega)) (by omega) ?_
  refine z_aload_n dX3_feeds_17 rfl ?_
  refine zm_get 0 dX3_feeds_18 q1742 rfl rfl ?_
  refine z_iload_n dX3_feeds_21 rfl ?_
  refine z_iconst dX3_feeds_22 (v := 3) rfl ?_
  refine z_iadd dX3_feeds_23 ?_
  refine zm_ld hA hP (P := P) (32 + 5 * a + 3) (v := σ (32 + 5 * a + 3)) dX3_feeds_24 (zn_to (zn_add hat (zk 3)) (by omega)) (by omega) ((pk_un (by omega)).trans (rfl)) ?_
  refine z_joinH 164 [some (.ref (A 0)), some (.int p), some (.int pl), some (.int (σ (32 + 5 * a))), none] (mdl G A (zput P (zr_feeds_164 σ a) s) pa ke no f h0) 1 ?_ (fun hJ => ?_)
  rotate_left
  ·
    refine z_if_gt (tgt := 42) dX3_feeds_25 (by decide) (fun c_1 => ?_) (fun c_1 => ?_)
    ·
      refine z_aload_n dX3_feeds_42 rfl ?_
      refine zm_get 0 dX3_feeds_43 q1742 rfl rfl ?_
      refine z_iload_n dX3_feeds_46 rfl ?_
      refine z_bipush dX3_feeds_47 (v := 23) rfl ?_
      refine z_iadd dX3_feeds_49 ?_
      refine z_iload_n dX3_feeds_50 rfl ?_
      have lb_2 := (hok.lp (k := a) (by omega)).2
      refine z_iadd dX3_feeds_51 ?_
      refine zm_ld hA hP (P := P) (23 + ((σ (32 + 5 * a)).toNatClampNeg)) (v := σ (23 + ((σ (32 + 5 * a)).toNatClampNeg))) dX3_feeds_52 (zn_to (zn_add (zn_add hp (zk 23)) ((hok.lp (k := a) (by omega)).1)) (by omega)) (by omega) ((pk_un (by omega)).trans (rfl)) ?_
      refine z_iconst dX3_feeds_53 (v := 2) rfl ?_
      refine z_join 72 (.int (if (σ (23 + ((σ (32 + 5 * a)).toNatClampNeg))) ≤ 2 then (σ (23 + ((σ (32 + 5 * a)).toNatClampNeg))) else (2 : Int32))) 2 ?_ (fun hJ => ?_)
      rotate_left
      ·
        refine z_icmp_le (tgt := 61) dX3_feeds_54 (by decide) (fun c_3 => ?_) (fun c_3 => ?_)
        ·
          refine z_aload_n dX3_feeds_61 rfl ?_
          refine zm_get 0 dX3_feeds_62 q1742 rfl rfl ?_
          refine z_iload_n dX3_feeds_65 rfl ?_
          refine z_bipush dX3_feeds_66 (v := 23) rfl ?_
          refine z_iadd dX3_feeds_68 ?_
          refine z_iload_n dX3_feeds_69 rfl ?_
          refine z_iadd dX3_feeds_70 ?_
          refine zm_ld hA hP (P := P) (23 + ((σ (32 + 5 * a)).toNatClampNeg)) (v := σ (23 + ((σ (32 + 5 * a)).toNatClampNeg))) dX3_feeds_71 (zn_to (zn_add (zn_add hp (zk 23)) ((hok.lp (k := a) (by omega)).1)) (by omega)) (by omega) ((pk_un (by omega)).trans (rfl)) ?_
          exact z_jv (by simp only [if_pos c_3] <;> rfl) hJ
        ·
          refine z_iconst dX3_feeds_57 (v := 2) rfl ?_
          refine z_goto (tgt := 72) dX3_feeds_58 (by decide) ?_
          exact z_jv (by simp only [if_neg c_3] <;> rfl) hJ
      refine z_istore dX3_feeds_72 (by decide) ?_
      refine z_aload_n dX3_feeds_74 rfl ?_
      refine zm_get 0 dX3_feeds_75 q1742 rfl rfl ?_
      refine z_iload_n dX3_feeds_78 rfl ?_
      refine z_iconst dX3_feeds_79 (v := 3) rfl ?_
      refine z_iadd dX3_feeds_80 ?_
      refine z_aload_n dX3_feeds_81 rfl ?_
      refine zm_get 0 dX3_feeds_82 q1742 rfl rfl ?_
      refine z_iload_n dX3_feeds_85 rfl ?_
      refine z_iconst dX3_feeds_86 (v := 3) rfl ?_
      refine z_iadd dX3_feeds_87 ?_
      refine zm_ld hA hP (P := P) (32 + 5 * a + 3) (v := σ (32 + 5 * a + 3)) dX3_feeds_88 (zn_to (zn_add hat (zk 3)) (by omega)) (by omega) ((pk_un (by omega)).trans (rfl)) ?_
      refine z_iconst dX3_feeds_89 (v := 3) rfl ?_
      refine z_join 107 (.int (if (σ (32 + 5 * a + 3)) = 3 then (3 : Int32) else ((σ (32 + 5 * a + 3)) + 1))) 2 ?_ (fun hJ => ?_)
      rotate_left
      ·
        refine z_icmp_ne (tgt := 97) dX3_feeds_90 (by decide) (fun c_4 => ?_) (fun c_4 => ?_)
        ·
          refine z_aload_n dX3_feeds_97 rfl ?_
          refine zm_get 0 dX3_feeds_98 q1742 rfl rfl ?_
          refine z_iload_n dX3_feeds_101 rfl ?_
          refine z_iconst dX3_feeds_102 (v := 3) rfl ?_
          refine z_iadd dX3_feeds_103 ?_
          refine zm_ld hA hP (P := P) (32 + 5 * a + 3) (v := σ (32 + 5 * a + 3)) dX3_feeds_104 (zn_to (zn_add hat (zk 3)) (by omega)) (by omega) ((pk_un (by omega)).trans (rfl)) ?_
          refine z_iconst dX3_feeds_105 (v := 1) rfl ?_
          refine z_iadd dX3_feeds_106 ?_
          exact z_jv (by simp only [if_neg c_4] <;> rfl) hJ
        ·
          refine z_iconst dX3_feeds_93 (v := 3) rfl ?_
          refine z_goto (tgt := 107) dX3_feeds_94 (by decide) ?_
          exact z_jv (by simp only [if_pos c_4] <;> rfl) hJ
      refine zm_st hA hP (P := P) (32 + 5 * a + 3) dX3_feeds_107 (zn_to (zn_add hat (zk 3)) (by omega)) (by omega) ?_
      refine z_aload_n dX3_feeds_108 rfl ?_
      refine zm_get 0 dX3_feeds_109 q1742 rfl rfl ?_
      refine z_iload_n dX3_feeds_112 rfl ?_
      refine z_bipush dX3_feeds_113 (v := 23) rfl ?_
      refine z_iadd dX3_feeds_115 ?_
      refine z_iload_n dX3_feeds_116 rfl ?_
      refine z_iadd dX3_feeds_117 ?_
      refine z_dup2 dX3_feeds_118 rfl rfl ?_
      refine zm_ld hA hP (P := P) (23 + ((σ (32 + 5 * a)).toNatClampNeg)) (v := σ (23 + ((σ (32 + 5 * a)).toNatClampNeg))) dX3_feeds_119 (zn_to (zn_add (zn_add hp (zk 23)) ((hok.lp (k := a) (by omega)).1)) (by omega)) (by omega) ((pk_un (by omega)).trans ((pk_un (by omega)).trans (rfl))) ?_
      refine z_iload dX3_feeds_120 rfl ?_
      refine z_isub dX3_feeds_122 ?_
      refine zm_st hA hP (P := P) (23 + ((σ (32 + 5 * a)).toNatClampNeg)) dX3_feeds_123 (zn_to (zn_add (zn_add hp (zk 23)) ((hok.lp (k := a) (by omega)).1)) (by omega)) (by omega) ?_
      refine z_aload_n dX3_feeds_124 rfl ?_
      refine zm_get 0 dX3_feeds_125 q1742 rfl rfl ?_
      refine z_iload_n dX3_feeds_128 rfl ?_
      refine z_iconst dX3_feeds_129 (v := 2) rfl ?_
      refine z_iadd dX3_feeds_130 ?_
      refine z_aload_n dX3_feeds_131 rfl ?_
      refine zm_get 0 dX3_feeds_132 q1742 rfl rfl ?_
      refine z_iload_n dX3_feeds_135 rfl ?_
      refine z_iconst dX3_feeds_136 (v := 2) rfl ?_
      refine z_iadd dX3_feeds_137 ?_
      refine zm_ld hA hP (P := P) (32 + 5 * a + 2) (v := σ (32 + 5 * a + 2)) dX3_feeds_138 (zn_to (zn_add hat (zk 2)) (by omega)) (by omega) ((pk_un (by omega)).trans ((pk_un (by omega)).trans ((pk_un (by omega)).trans (rfl)))) ?_
      refine z_iload dX3_feeds_139 rfl ?_
      refine z_iadd dX3_feeds_141 ?_
      refine z_bipush dX3_feeds_142 (v := 20) rfl ?_
      refine z_join 163 (.int (if ((σ (32 + 5 * a + 2)) + (if (σ (23 + ((σ (32 + 5 * a)).toNatClampNeg))) ≤ 2 then (σ (23 + ((σ (32 + 5 * a)).toNatClampNeg))) else (2 : Int32))) ≤ 20 then ((σ (32 + 5 * a + 2)) + (if (σ (23 + ((σ (32 + 5 * a)).toNatClampNeg))) ≤ 2 then (σ (23 + ((σ (32 + 5 * a)).toNatClampNeg))) else (2 : Int32))) else (20 : Int32))) 2 ?_ (fun hJ => ?_)
      rotate_left
      ·
        refine z_icmp_le (tgt := 152) dX3_feeds_144 (by decide) (fun c_5 => ?_) (fun c_5 => ?_)
        ·
          refine z_aload_n dX3_feeds_152 rfl ?_
          refine zm_get 0 dX3_feeds_153 q1742 rfl rfl ?_
          refine z_iload_n dX3_feeds_156 rfl ?_
          refine z_iconst dX3_feeds_157 (v := 2) rfl ?_
          refine z_iadd dX3_feeds_158 ?_
          refine zm_ld hA hP (P := P) (32 + 5 * a + 2) (v := σ (32 + 5 * a + 2)) dX3_feeds_159 (zn_to (zn_add hat (zk 2)) (by omega)) (by omega) ((pk_un (by omega)).trans ((pk_un (by omega)).trans ((pk_un (by omega)).trans (rfl)))) ?_
          refine z_iload dX3_feeds_160 rfl ?_
          refine z_iadd dX3_feeds_162 ?_
          exact z_jv (by simp only [if_pos c_5] <;> rfl) hJ
        ·
          refine z_bipush dX3_feeds_147 (v := 20) rfl ?_
          refine z_goto (tgt := 163) dX3_feeds_149 (by decide) ?_
          exact z_jv (by simp only [if_neg c_5] <;> rfl) hJ
      refine zm_st hA hP (P := P) (32 + 5 * a + 2) dX3_feeds_163 (zn_to (zn_add hat (zk 2)) (by omega)) (by omega) ?_
      refine z_loc (L2 := [some (.ref (A 0)), some (.int p), some (.int pl), some (.int (σ (32 + 5 * a))), none]) ⟨rfl, rfl, rfl, rfl, trivial⟩ ?_
      exact z_jH (by first | rfl | (simp only [if_pos c_1] <;> rfl)) (by simp only [zr_feeds_164, if_pos c_1]) hJ
    ·
      refine z_aload_n dX3_feeds_28 rfl ?_
      refine zm_get 0 dX3_feeds_29 q1742 rfl rfl ?_
      refine z_iload_n dX3_feeds_32 rfl ?_
      refine z_bipush dX3_feeds_33 (v := 23) rfl ?_
      refine z_iadd dX3_feeds_35 ?_
      refine z_iload_n dX3_feeds_36 rfl ?_
      have lb_6 := (hok.lp (k := a) (by omega)).2
      refine z_iadd dX3_feeds_37 ?_
      refine zm_ld hA hP (P := P) (23 + ((σ (32 + 5 * a)).toNatClampNeg)) (v := σ (23 + ((σ (32 + 5 * a)).toNatClampNeg))) dX3_feeds_38 (zn_to (zn_add (zn_add hp (zk 23)) ((hok.lp (k := a) (by omega)).1)) (by omega)) (by omega) ((pk_un (by omega)).trans (rfl)) ?_
      refine z_if_le (tgt := 164) dX3_feeds_39 (by decide) (fun c_7 => ?_) (fun c_7 => ?_)
      ·
        exact z_jH (by first | rfl | (simp only [if_neg c_1, if_pos c_7] <;> rfl)) (by simp only [zr_feeds_164, if_neg c_1, if_pos c_7]) hJ
      ·
        refine z_aload_n dX3_feeds_42 rfl ?_
        refine zm_get 0 dX3_feeds_43 q1742 rfl rfl ?_
        refine z_iload_n dX3_feeds_46 rfl ?_
        refine z_bipush dX3_feeds_47 (v := 23) rfl ?_
        refine z_iadd dX3_feeds_49 ?_
        refine z_iload_n dX3_feeds_50 rfl ?_
        refine z_iadd dX3_feeds_51 ?_
        refine zm_ld hA hP (P := P) (23 + ((σ (32 + 5 * a)).toNatClampNeg)) (v := σ (23 + ((σ (32 + 5 * a)).toNatClampNeg))) dX3_feeds_52 (zn_to (zn_add (zn_add hp (zk 23)) ((hok.lp (k := a) (by omega)).1)) (by omega)) (by omega) ((pk_un (by omega)).trans (rfl)) ?_
        refine z_iconst dX3_feeds_53 (v := 2) rfl ?_
        refine z_join 72 (.int (if (σ (23 + ((σ (32 + 5 * a)).toNatClampNeg))) ≤ 2 then (σ (23 + ((σ (32 + 5 * a)).toNatClampNeg))) else (2 : Int32))) 2 ?_ (fun hJ => ?_)
        rotate_left
        ·
          refine z_icmp_le (tgt := 61) dX3_feeds_54 (by decide) (fun c_8 => ?_) (fun c_8 => ?_)
          ·
            refine z_aload_n dX3_feeds_61 rfl ?_
            refine zm_get 0 dX3_feeds_62 q1742 rfl rfl ?_
            refine z_iload_n dX3_feeds_65 rfl ?_
            refine z_bipush dX3_feeds_66 (v := 23) rfl ?_
            refine z_iadd dX3_feeds_68 ?_
            refine z_iload_n dX3_feeds_69 rfl ?_
            refine z_iadd dX3_feeds_70 ?_
            refine zm_ld hA hP (P := P) (23 + ((σ (32 + 5 * a)).toNatClampNeg)) (v := σ (23 + ((σ (32 + 5 * a)).toNatClampNeg))) dX3_feeds_71 (zn_to (zn_add (zn_add hp (zk 23)) ((hok.lp (k := a) (by omega)).1)) (by omega)) (by omega) ((pk_un (by omega)).trans (rfl)) ?_
            exact z_jv (by simp only [if_pos c_8] <;> rfl) hJ
          ·
            refine z_iconst dX3_feeds_57 (v := 2) rfl ?_
            refine z_goto (tgt := 72) dX3_feeds_58 (by decide) ?_
            exact z_jv (by simp only [if_neg c_8] <;> rfl) hJ
        refine z_istore dX3_feeds_72 (by decide) ?_
        refine z_aload_n dX3_feeds_74 rfl ?_
        refine zm_get 0 dX3_feeds_75 q1742 rfl rfl ?_
        refine z_iload_n dX3_feeds_78 rfl ?_
        refine z_iconst dX3_feeds_79 (v := 3) rfl ?_
        refine z_iadd dX3_feeds_80 ?_
        refine z_aload_n dX3_feeds_81 rfl ?_
        refine zm_get 0 dX3_feeds_82 q1742 rfl rfl ?_
        refine z_iload_n dX3_feeds_85 rfl ?_
        refine z_iconst dX3_feeds_86 (v := 3) rfl ?_
        refine z_iadd dX3_feeds_87 ?_
        refine zm_ld hA hP (P := P) (32 + 5 * a + 3) (v := σ (32 + 5 * a + 3)) dX3_feeds_88 (zn_to (zn_add hat (zk 3)) (by omega)) (by omega) ((pk_un (by omega)).trans (rfl)) ?_
        refine z_iconst dX3_feeds_89 (v := 3) rfl ?_
        refine z_join 107 (.int (if (σ (32 + 5 * a + 3)) = 3 then (3 : Int32) else ((σ (32 + 5 * a + 3)) + 1))) 2 ?_ (fun hJ => ?_)
        rotate_left
        ·
          refine z_icmp_ne (tgt := 97) dX3_feeds_90 (by decide) (fun c_9 => ?_) (fun c_9 => ?_)
          ·
            refine z_aload_n dX3_feeds_97 rfl ?_
            refine zm_get 0 dX3_feeds_98 q1742 rfl rfl ?_
            refine z_iload_n dX3_feeds_101 rfl ?_
            refine z_iconst dX3_feeds_102 (v := 3) rfl ?_
            refine z_iadd dX3_feeds_103 ?_
            refine zm_ld hA hP (P := P) (32 + 5 * a + 3) (v := σ (32 + 5 * a + 3)) dX3_feeds_104 (zn_to (zn_add hat (zk 3)) (by omega)) (by omega) ((pk_un (by omega)).trans (rfl)) ?_
            refine z_iconst dX3_feeds_105 (v := 1) rfl ?_
            refine z_iadd dX3_feeds_106 ?_
            exact z_jv (by simp only [if_neg c_9] <;> rfl) hJ
          ·
            refine z_iconst dX3_feeds_93 (v := 3) rfl ?_
            refine z_goto (tgt := 107) dX3_feeds_94 (by decide) ?_
            exact z_jv (by simp only [if_pos c_9] <;> rfl) hJ
        refine zm_st hA hP (P := P) (32 + 5 * a + 3) dX3_feeds_107 (zn_to (zn_add hat (zk 3)) (by omega)) (by omega) ?_
        refine z_aload_n dX3_feeds_108 rfl ?_
        refine zm_get 0 dX3_feeds_109 q1742 rfl rfl ?_
        refine z_iload_n dX3_feeds_112 rfl ?_
        refine z_bipush dX3_feeds_113 (v := 23) rfl ?_
        refine z_iadd dX3_feeds_115 ?_
        refine z_iload_n dX3_feeds_116 rfl ?_
        refine z_iadd dX3_feeds_117 ?_
        refine z_dup2 dX3_feeds_118 rfl rfl ?_
        refine zm_ld hA hP (P := P) (23 + ((σ (32 + 5 * a)).toNatClampNeg)) (v := σ (23 + ((σ (32 + 5 * a)).toNatClampNeg))) dX3_feeds_119 (zn_to (zn_add (zn_add hp (zk 23)) ((hok.lp (k := a) (by omega)).1)) (by omega)) (by omega) ((pk_un (by omega)).trans ((pk_un (by omega)).trans (rfl))) ?_
        refine z_iload dX3_feeds_120 rfl ?_
        refine z_isub dX3_feeds_122 ?_
        refine zm_st hA hP (P := P) (23 + ((σ (32 + 5 * a)).toNatClampNeg)) dX3_feeds_123 (zn_to (zn_add (zn_add hp (zk 23)) ((hok.lp (k := a) (by omega)).1)) (by omega)) (by omega) ?_
        refine z_aload_n dX3_feeds_124 rfl ?_
        refine zm_get 0 dX3_feeds_125 q1742 rfl rfl ?_
        refine z_iload_n dX3_feeds_128 rfl ?_
        refine z_iconst dX3_feeds_129 (v := 2) rfl ?_
        refine z_iadd dX3_feeds_130 ?_
        refine z_aload_n dX3_feeds_131 rfl ?_
        refine zm_get 0 dX3_feeds_132 q1742 rfl rfl ?_
        refine z_iload_n dX3_feeds_135 rfl ?_
        refine z_iconst dX3_feeds_136 (v := 2) rfl ?_
        refine z_iadd dX3_feeds_137 ?_
        refine zm_ld hA hP (P := P) (32 + 5 * a + 2) (v := σ (32 + 5 * a + 2)) dX3_feeds_138 (zn_to (zn_add hat (zk 2)) (by omega)) (by omega) ((pk_un (by omega)).trans ((pk_un (by omega)).trans ((pk_un (by omega)).trans (rfl)))) ?_
        refine z_iload dX3_feeds_139 rfl ?_
        refine z_iadd dX3_feeds_141 ?_
        refine z_bipush dX3_feeds_142 (v := 20) rfl ?_
        refine z_join 163 (.int (if ((σ (32 + 5 * a + 2)) + (if (σ (23 + ((σ (32 + 5 * a)).toNatClampNeg))) ≤ 2 then (σ (23 + ((σ (32 + 5 * a)).toNatClampNeg))) else (2 : Int32))) ≤ 20 then ((σ (32 + 5 * a + 2)) + (if (σ (23 + ((σ (32 + 5 * a)).toNatClampNeg))) ≤ 2 then (σ (23 + ((σ (32 + 5 * a)).toNatClampNeg))) else (2 : Int32))) else (20 : Int32))) 2 ?_ (fun hJ => ?_)
        rotate_left
        ·
          refine z_icmp_le (tgt := 152) dX3_feeds_144 (by decide) (fun c_10 => ?_) (fun c_10 => ?_)
          ·
            refine z_aload_n dX3_feeds_152 rfl ?_
            refine zm_get 0 dX3_feeds_153 q1742 rfl rfl ?_
            refine z_iload_n dX3_feeds_156 rfl ?_
            refine z_iconst dX3_feeds_157 (v := 2) rfl ?_
            refine z_iadd dX3_feeds_158 ?_
            refine zm_ld hA hP (P := P) (32 + 5 * a + 2) (v := σ (32 + 5 * a + 2)) dX3_feeds_159 (zn_to (zn_add hat (zk 2)) (by omega)) (by omega) ((pk_un (by omega)).trans ((pk_un (by omega)).trans ((pk_un (by omega)).trans (rfl)))) ?_
            refine z_iload dX3_feeds_160 rfl ?_
            refine z_iadd dX3_feeds_162 ?_
            exact z_jv (by simp only [if_pos c_10] <;> rfl) hJ
          ·
            refine z_bipush dX3_feeds_147 (v := 20) rfl ?_
            refine z_goto (tgt := 163) dX3_feeds_149 (by decide) ?_
            exact z_jv (by simp only [if_neg c_10] <;> rfl) hJ
        refine zm_st hA hP (P := P) (32 + 5 * a + 2) dX3_feeds_163 (zn_to (zn_add hat (zk 2)) (by omega)) (by omega) ?_
        refine z_loc (L2 := [some (.ref (A 0)), some (.int p), some (.int pl), some (.int (σ (32 + 5 * a))), none]) ⟨rfl, rfl, rfl, rfl, trivial⟩ ?_
        exact z_jH (by first | rfl | (simp only [if_neg c_1, if_neg c_7] <;> rfl)) (by simp only [zr_feeds_164, if_neg c_1, if_neg c_7]) hJ
  refine z_vret dX3_feeds_164 rfl ⟨rfl, rfl⟩
def zr_dries (σ : Nat → Int32) (a : Nat) : Nat → Int32 := upd (upd (upd σ (32 + 5 * a + 3) (if (σ (32 + 5 * a + 3)) = 0 then (0 : Int32) else ((σ (32 + 5 * a + 3)) - 1))) (32 + 5 * a + 1) ((σ (32 + 5 * a + 1)) - ((if (if (σ (32 + 5 * a + 3)) = 0 then (0 : Int32) else ((σ (32 + 5 * a + 3)) - 1)) = 0 then (1 : Int32) else (4 : Int32)) + (if ¬ ((σ (15 + ((σ (32 + 5 * a)).toNatClampNeg))) < 25) then (1 : Int32) else 0)))) (32 + 5 * a + 1) (if 0 ≤ ((σ (32 + 5 * a + 1)) - ((if (if (σ (32 + 5 * a + 3)) = 0 then (0 : Int32) else ((σ (32 + 5 * a + 3)) - 1)) = 0 then (1 : Int32) else (4 : Int32)) + (if ¬ ((σ (15 + ((σ (32 + 5 * a)).toNatClampNeg))) < 25) then (1 : Int32) else 0))) then ((σ (32 + 5 * a + 1)) - ((if (if (σ (32 + 5 * a + 3)) = 0 then (0 : Int32) else ((σ (32 + 5 * a + 3)) - 1)) = 0 then (1 : Int32) else (4 : Int32)) + (if ¬ ((σ (15 + ((σ (32 + 5 * a)).toNatClampNeg))) < 25) then (1 : Int32) else 0))) else (0 : Int32))
theorem zok_dries {σ : Nat → Int32} {a : Nat} {NL NS NC : Nat} (hok : zok σ NL NS NC) (la : a < NL) : zok (zr_dries σ a) NL NS NC := by
  obtain ⟨bL, bS, bC⟩ := hok.b
  unfold zr_dries
  exact (((hok.lw (k := a) (by omega) (by omega)).lw (k := a) (by omega) (by omega)).lw (k := a) (by omega) (by omega))
set_option maxHeartbeats 4000000 in
theorem k_dries {G : zE} {A : Nat → Nat} (hA : zinj A 5) {P : Nat} (hP : P ≤ 287) {σ s pa ke no f : Nat → Int32} {h0 : zH} {p : Int32} (hp : p = nI P) {NL NS NC : Nat} (hok : zok σ NL NS NC) {pl : Int32} {a : Nat} (hat : pl = nI (P + (32 + 5 * a))) (la : a < NL) {d : Nat} (hd : 1 ≤ d) : zCon G fX3_dries d 0 0 [.ref (A 0), .int p, .int pl] (mdl G A (zput P σ s) pa ke no f h0) (zAv (mdl G A (zput P (zr_dries σ a) s) pa ke no f h0)) nX := by
  refine zCon.of9 (L := [some (.ref (A 0)), some (.int p), some (.int pl)]) (by simp [Value.category]) (Nat.le_of_ble_eq_true rfl) pX3 rfl rfl ?_
  obtain ⟨bL, bS, bC⟩ := hok.b
  refine z_aload_n dX3_dries_0 rfl ?_
  refine zm_get 0 dX3_dries_1 q1742 rfl rfl ?_
  refine z_iload_n dX3_dries_4 rfl ?_
  refine z_iconst dX3_dries_5 (v := 3) rfl ?_
  refine z_iadd dX3_dries_6 ?_
  refine z_aload_n dX3_dries_7 rfl ?_
  refine zm_get 0 dX3_dries_8 q1742 rfl rfl ?_
  refine z_iload_n dX3_dries_11 rfl ?_
  refine z_iconst dX3_dries_12 (v := 3) rfl ?_
  refine z_iadd dX3_dries_13 ?_
  refine zm_ld hA hP (P := P) (32 + 5 * a + 3) (v := σ (32 + 5 * a + 3)) dX3_dries_14 (zn_to (zn_add hat (zk 3)) (by omega)) (by omega) (rfl) ?_
  refine z_join 32 (.int (if (σ (32 + 5 * a + 3)) = 0 then (0 : Int32) else ((σ (32 + 5 * a + 3)) - 1))) 1 ?_ (fun hJ => ?_)
  rotate_left
  ·
    refine z_if_ne (tgt := 22) dX3_dries_15 (by decide) (fun c_1 => ?_) (fun c_1 => ?_)
    ·
      refine z_aload_n dX3_dries_22 rfl ?_
      refine zm_get 0 dX3_dries_23 q1742 rfl rfl ?_
      refine z_iload_n dX3_dries_26 rfl ?_
      refine z_iconst dX3_dries_27 (v := 3) rfl ?_
      refine z_iadd dX3_dries_28 ?_
      refine zm_ld hA hP (P := P) (32 + 5 * a + 3) (v := σ (32 + 5 * a + 3)) dX3_dries_29 (zn_to (zn_add hat (zk 3)) (by omega)) (by omega) (rfl) ?_
      refine z_iconst dX3_dries_30 (v := 1) rfl ?_
      refine z_isub dX3_dries_31 ?_
      exact z_jv (by simp only [if_neg c_1] <;> rfl) hJ
    ·
      refine z_iconst dX3_dries_18 (v := 0) rfl ?_
      refine z_goto (tgt := 32) dX3_dries_19 (by decide) ?_
      exact z_jv (by simp only [if_pos c_1] <;> rfl) hJ
  refine zm_st hA hP (P := P) (32 + 5 * a + 3) dX3_dries_32 (zn_to (zn_add hat (zk 3)) (by omega)) (by omega) ?_
  refine z_aload_n dX3_dries_33 rfl ?_
  refine zm_get 0 dX3_dries_34 q1742 rfl rfl ?_
  refine z_iload_n dX3_dries_37 rfl ?_
  refine z_iconst dX3_dries_38 (v := 1) rfl ?_
  refine z_iadd dX3_dries_39 ?_
  refine z_dup2 dX3_dries_40 rfl rfl ?_
  refine zm_ld hA hP (P := P) (32 + 5 * a + 1) (v := σ (32 + 5 * a + 1)) dX3_dries_41 (zn_to (zn_add hat (zk 1)) (by omega)) (by omega) ((pk_un (by omega)).trans (rfl)) ?_
  refine z_aload_n dX3_dries_42 rfl ?_
  refine zm_get 0 dX3_dries_43 q1742 rfl rfl ?_
  refine z_iload_n dX3_dries_46 rfl ?_
  refine z_iconst dX3_dries_47 (v := 3) rfl ?_
  refine z_iadd dX3_dries_48 ?_
  refine zm_ld hA hP (P := P) (32 + 5 * a + 3) (v := if (σ (32 + 5 * a + 3)) = 0 then (0 : Int32) else ((σ (32 + 5 * a + 3)) - 1)) dX3_dries_49 (zn_to (zn_add hat (zk 3)) (by omega)) (by omega) (pk_us) ?_
  refine z_join 58 (.int (if (if (σ (32 + 5 * a + 3)) = 0 then (0 : Int32) else ((σ (32 + 5 * a + 3)) - 1)) = 0 then (1 : Int32) else (4 : Int32))) 1 ?_ (fun hJ => ?_)
  rotate_left
  ·
    refine z_if_ne (tgt := 57) dX3_dries_50 (by decide) (fun c_2 => ?_) (fun c_2 => ?_)
    ·
      refine z_iconst dX3_dries_57 (v := 4) rfl ?_
      exact z_jv (by simp only [if_neg c_2] <;> rfl) hJ
    ·
      refine z_iconst dX3_dries_53 (v := 1) rfl ?_
      refine z_goto (tgt := 58) dX3_dries_54 (by decide) ?_
      exact z_jv (by simp only [if_pos c_2] <;> rfl) hJ
  refine z_aload_n dX3_dries_58 rfl ?_
  refine zm_get 0 dX3_dries_59 q1742 rfl rfl ?_
  refine z_iload_n dX3_dries_62 rfl ?_
  refine z_bipush dX3_dries_63 (v := 15) rfl ?_
  refine z_iadd dX3_dries_65 ?_
  refine z_aload_n dX3_dries_66 rfl ?_
  refine zm_get 0 dX3_dries_67 q1742 rfl rfl ?_
  refine z_iload_n dX3_dries_70 rfl ?_
  refine zm_ld hA hP (P := P) (32 + 5 * a) (v := σ (32 + 5 * a)) dX3_dries_71 (zn_to (hat) (by omega)) (by omega) ((pk_un (by omega)).trans (rfl)) ?_
  have lb_3 := (hok.lp (k := a) (by omega)).2
  refine z_iadd dX3_dries_72 ?_
  refine zm_ld hA hP (P := P) (15 + ((σ (32 + 5 * a)).toNatClampNeg)) (v := σ (15 + ((σ (32 + 5 * a)).toNatClampNeg))) dX3_dries_73 (zn_to (zn_add (zn_add hp (zk 15)) ((hok.lp (k := a) (by omega)).1)) (by omega)) (by omega) ((pk_un (by omega)).trans (rfl)) ?_
  refine z_bipush dX3_dries_74 (v := 25) rfl ?_
  refine z_join 84 (.int (if ¬ ((σ (15 + ((σ (32 + 5 * a)).toNatClampNeg))) < 25) then (1 : Int32) else 0)) 2 ?_ (fun hJ => ?_)
  rotate_left
  ·
    refine z_icmp_lt (tgt := 83) dX3_dries_76 (by decide) (fun c_4 => ?_) (fun c_4 => ?_)
    ·
      refine z_iconst dX3_dries_83 (v := 0) rfl ?_
      exact z_jv (if_neg (fun z => z c_4)) hJ
    ·
      refine z_iconst dX3_dries_79 (v := 1) rfl ?_
      refine z_goto (tgt := 84) dX3_dries_80 (by decide) ?_
      exact z_jv (if_pos c_4) hJ
  refine z_iadd dX3_dries_84 ?_
  refine z_isub dX3_dries_85 ?_
  refine zm_st hA hP (P := P) (32 + 5 * a + 1) dX3_dries_86 (zn_to (zn_add hat (zk 1)) (by omega)) (by omega) ?_
  refine z_aload_n dX3_dries_87 rfl ?_
  refine zm_get 0 dX3_dries_88 q1742 rfl rfl ?_
  refine z_iload_n dX3_dries_91 rfl ?_
  refine z_iconst dX3_dries_92 (v := 1) rfl ?_
  refine z_iadd dX3_dries_93 ?_
  refine z_aload_n dX3_dries_94 rfl ?_
  refine zm_get 0 dX3_dries_95 q1742 rfl rfl ?_
  refine z_iload_n dX3_dries_98 rfl ?_
  refine z_iconst dX3_dries_99 (v := 1) rfl ?_
  refine z_iadd dX3_dries_100 ?_
  refine zm_ld hA hP (P := P) (32 + 5 * a + 1) (v := (σ (32 + 5 * a + 1)) - ((if (if (σ (32 + 5 * a + 3)) = 0 then (0 : Int32) else ((σ (32 + 5 * a + 3)) - 1)) = 0 then (1 : Int32) else (4 : Int32)) + (if ¬ ((σ (15 + ((σ (32 + 5 * a)).toNatClampNeg))) < 25) then (1 : Int32) else 0))) dX3_dries_101 (zn_to (zn_add hat (zk 1)) (by omega)) (by omega) (pk_us) ?_
  refine z_join 117 (.int (if 0 ≤ ((σ (32 + 5 * a + 1)) - ((if (if (σ (32 + 5 * a + 3)) = 0 then (0 : Int32) else ((σ (32 + 5 * a + 3)) - 1)) = 0 then (1 : Int32) else (4 : Int32)) + (if ¬ ((σ (15 + ((σ (32 + 5 * a)).toNatClampNeg))) < 25) then (1 : Int32) else 0))) then ((σ (32 + 5 * a + 1)) - ((if (if (σ (32 + 5 * a + 3)) = 0 then (0 : Int32) else ((σ (32 + 5 * a + 3)) - 1)) = 0 then (1 : Int32) else (4 : Int32)) + (if ¬ ((σ (15 + ((σ (32 + 5 * a)).toNatClampNeg))) < 25) then (1 : Int32) else 0))) else (0 : Int32))) 1 ?_ (fun hJ => ?_)
  rotate_left
  ·
    refine z_if_ge (tgt := 109) dX3_dries_102 (by decide) (fun c_5 => ?_) (fun c_5 => ?_)
    ·
      refine z_aload_n dX3_dries_109 rfl ?_
      refine zm_get 0 dX3_dries_110 q1742 rfl rfl ?_
      refine z_iload_n dX3_dries_113 rfl ?_
      refine z_iconst dX3_dries_114 (v := 1) rfl ?_
      refine z_iadd dX3_dries_115 ?_
      refine zm_ld hA hP (P := P) (32 + 5 * a + 1) (v := (σ (32 + 5 * a + 1)) - ((if (if (σ (32 + 5 * a + 3)) = 0 then (0 : Int32) else ((σ (32 + 5 * a + 3)) - 1)) = 0 then (1 : Int32) else (4 : Int32)) + (if ¬ ((σ (15 + ((σ (32 + 5 * a)).toNatClampNeg))) < 25) then (1 : Int32) else 0))) dX3_dries_116 (zn_to (zn_add hat (zk 1)) (by omega)) (by omega) (pk_us) ?_
      exact z_jv (by simp only [if_pos c_5] <;> rfl) hJ
    ·
      refine z_iconst dX3_dries_105 (v := 0) rfl ?_
      refine z_goto (tgt := 117) dX3_dries_106 (by decide) ?_
      exact z_jv (by simp only [if_neg c_5] <;> rfl) hJ
  refine zm_st hA hP (P := P) (32 + 5 * a + 1) dX3_dries_117 (zn_to (zn_add hat (zk 1)) (by omega)) (by omega) ?_
  refine z_vret dX3_dries_118 rfl ⟨rfl, rfl⟩
def zr_grazes_68 (K : Nat) (x : Int32) (σ : Nat → Int32) : Nat → Int32 := if zf_isWet σ ((σ (32 + 5 * K)).toNatClampNeg) then (zr_feeds σ K) else (zr_dries σ K)
theorem zok_grazes_68 {K : Nat} {x : Int32} {σ : Nat → Int32} {NL NS NC : Nat} (hok : zok σ NL NS NC) (lK : K < NL) : zok (zr_grazes_68 K x σ) NL NS NC := by
  obtain ⟨bL, bS, bC⟩ := hok.b
  unfold zr_grazes_68
  exact zok_ite (fun hc0 => (zok_feeds hok (by omega))) (fun hc0 => (zok_dries hok (by omega)))
def zr_grazes_160 (K : Nat) (x : Int32) (σ : Nat → Int32) : Nat → Int32 := if (σ (32 + 5 * K + 4)) = 0 then (upd (upd (zr_grazes_68 K x σ) (32 + 5 * K + 2) ((zr_grazes_68 K x σ (32 + 5 * K + 2)) - (if ((zr_grazes_68 K x σ 0) - (zr_grazes_68 K x σ 0) / 4 * 4) = 0 then (1 : Int32) else 0))) (32 + 5 * K + 4) (if (zr_grazes_68 K x σ (32 + 5 * K + 1)) = 0 then (1 : Int32) else (if ((zr_grazes_68 K x σ (32 + 5 * K + 2)) - (if ((zr_grazes_68 K x σ 0) - (zr_grazes_68 K x σ 0) / 4 * 4) = 0 then (1 : Int32) else 0)) = 0 then (2 : Int32) else (0 : Int32)))) else σ
theorem zok_grazes_160 {K : Nat} {x : Int32} {σ : Nat → Int32} {NL NS NC : Nat} (hok : zok σ NL NS NC) (lK : K < NL) : zok (zr_grazes_160 K x σ) NL NS NC := by
  obtain ⟨bL, bS, bC⟩ := hok.b
  unfold zr_grazes_160
  exact zok_ite (fun hc0 => (((zok_grazes_68 hok (by omega)).lw (k := K) (by omega) (by omega)).lw (k := K) (by omega) (by omega))) (fun hc0 => hok)
def zb_grazes  : Nat → Nat → Int32 → (Nat → Int32) → Int32 × (Nat → Int32)
  | 0, _, x, σ => (x, σ)
  | j + 1, K, x, σ => zb_grazes j (K + 1) (if (σ (32 + 5 * K + 4)) = 0 then (x + (if ¬ ((if (zr_grazes_68 K x σ (32 + 5 * K + 1)) = 0 then (1 : Int32) else (if ((zr_grazes_68 K x σ (32 + 5 * K + 2)) - (if ((zr_grazes_68 K x σ 0) - (zr_grazes_68 K x σ 0) / 4 * 4) = 0 then (1 : Int32) else 0)) = 0 then (2 : Int32) else (0 : Int32))) = 0) then (1 : Int32) else 0)) else x) (zr_grazes_160 K x σ)
theorem zokb_grazes  {NL NS NC : Nat} : ∀ (j K : Nat) (x : Int32) (σ : (Nat → Int32)), K + j = NL → zok σ NL NS NC → zok (zb_grazes j K x σ).2 NL NS NC := by
  intro j
  induction j with
  | zero => intro K x σ _ hok; exact hok
  | succ j ih =>
    intro K x σ hK hok
    obtain ⟨bL, bS, bC⟩ := hok.b
    show zok (zb_grazes j (K + 1) (if (σ (32 + 5 * K + 4)) = 0 then (x + (if ¬ ((if (zr_grazes_68 K x σ (32 + 5 * K + 1)) = 0 then (1 : Int32) else (if ((zr_grazes_68 K x σ (32 + 5 * K + 2)) - (if ((zr_grazes_68 K x σ 0) - (zr_grazes_68 K x σ 0) / 4 * 4) = 0 then (1 : Int32) else 0)) = 0 then (2 : Int32) else (0 : Int32))) = 0) then (1 : Int32) else 0)) else x) (zr_grazes_160 K x σ)).2 NL NS NC
    exact ih (K + 1) (if (σ (32 + 5 * K + 4)) = 0 then (x + (if ¬ ((if (zr_grazes_68 K x σ (32 + 5 * K + 1)) = 0 then (1 : Int32) else (if ((zr_grazes_68 K x σ (32 + 5 * K + 2)) - (if ((zr_grazes_68 K x σ 0) - (zr_grazes_68 K x σ 0) / 4 * 4) = 0 then (1 : Int32) else 0)) = 0 then (2 : Int32) else (0 : Int32))) = 0) then (1 : Int32) else 0)) else x) (zr_grazes_160 K x σ) (by omega) (zok_grazes_160 hok (by omega))
set_option maxHeartbeats 4000000 in
theorem l_grazes {G : zE} {A : Nat → Nat} (hA : zinj A 5) {P : Nat} (hP : P ≤ 287) {s pa ke no f : Nat → Int32} {h0 : zH} {p : Int32} (hp : p = nI P) {NL NS NC : Nat} {d k n : Nat} (hd : 3 ≤ d) {Q : Option Value → zH → Prop} {X : String → zH → Prop} : ∀ (j K : Nat) (x : Int32) (σ : (Nat → Int32)), K + j = NL → zok σ NL NS NC → zV G fX3_grazes d 166 [some (.ref (A 0)), some (.int p), some (.int ((zb_grazes j K x σ).1)), none, none] [] (mdl G A (zput P ((zb_grazes j K x σ).2) s) pa ke no f h0) k n Q X → zV G fX3_grazes d 4 [some (.ref (A 0)), some (.int p), some (.int x), some (.int (nI K)), none] [] (mdl G A (zput P σ s) pa ke no f h0) k n Q X := by
  intro j
  induction j with
  | zero =>
    intro K x σ hK hinv hx
    have hK9 : K = NL := by omega
    subst hK9
    refine z_iload_n dX3_grazes_4 rfl ?_
    refine z_aload_n dX3_grazes_5 rfl ?_
    refine zm_get 0 dX3_grazes_6 q1742 rfl rfl ?_
    refine z_iload_n dX3_grazes_9 rfl ?_
    refine z_bipush dX3_grazes_10 (v := 31) rfl ?_
    refine z_iadd dX3_grazes_12 ?_
    refine zm_ld hA hP (P := P) (31) (v := σ 31) dX3_grazes_13 (zn_to (zn_add hp (zk 31)) (by omega)) (by omega) (rfl) ?_
    refine z_icmp_ge (tgt := 166) dX3_grazes_14 (by decide) (fun hg => ?_) (fun hg => ?_)
    ·
      refine z_loc (L2 := [some (.ref (A 0)), some (.int p), some (.int x), none, none]) ⟨rfl, rfl, rfl, trivial⟩ ?_
      exact hx
    · exact absurd (by rw [hinv.nl]; exact Int32.le_refl _) hg
  | succ j ih =>
    intro K x σ hK hinv hx
    obtain ⟨bL, bS, bC⟩ := hinv.b
    refine z_iload_n dX3_grazes_4 rfl ?_
    refine z_aload_n dX3_grazes_5 rfl ?_
    refine zm_get 0 dX3_grazes_6 q1742 rfl rfl ?_
    refine z_iload_n dX3_grazes_9 rfl ?_
    refine z_bipush dX3_grazes_10 (v := 31) rfl ?_
    refine z_iadd dX3_grazes_12 ?_
    refine zm_ld hA hP (P := P) (31) (v := σ 31) dX3_grazes_13 (zn_to (zn_add hp (zk 31)) (by omega)) (by omega) (rfl) ?_
    refine z_icmp_ge (tgt := 166) dX3_grazes_14 (by decide) (fun hg => ?_) (fun hg => ?_)
    · exact absurd hg (by rw [hinv.nl]; exact nI_ge (by omega) (by omega))
    ·
      refine z_iload_n dX3_grazes_17 rfl ?_
      refine z_iload_n dX3_grazes_18 rfl ?_
      refine z_cS mX3_limpet (k_limpet (d := d - 1) hp rfl (by omega)) dX3_grazes_19 q1808 (by omega) rfl (Nat.le_of_ble_eq_true rfl) rfl ?_
      refine z_istore dX3_grazes_22 (by decide) ?_
      refine z_aload_n dX3_grazes_24 rfl ?_
      refine zm_get 0 dX3_grazes_25 q1742 rfl rfl ?_
      refine z_iload dX3_grazes_28 rfl ?_
      refine z_iconst dX3_grazes_30 (v := 4) rfl ?_
      refine z_iadd dX3_grazes_31 ?_
      refine zm_ld hA hP (P := P) (32 + 5 * K + 4) (v := σ (32 + 5 * K + 4)) dX3_grazes_32 (zn_to (zn_add rfl (zk 4)) (by omega)) (by omega) (rfl) ?_
      refine z_joinH 160 [some (.ref (A 0)), some (.int p), some (.int (if (σ (32 + 5 * K + 4)) = 0 then (x + (if ¬ ((if (zr_grazes_68 K x σ (32 + 5 * K + 1)) = 0 then (1 : Int32) else (if ((zr_grazes_68 K x σ (32 + 5 * K + 2)) - (if ((zr_grazes_68 K x σ 0) - (zr_grazes_68 K x σ 0) / 4 * 4) = 0 then (1 : Int32) else 0)) = 0 then (2 : Int32) else (0 : Int32))) = 0) then (1 : Int32) else 0)) else x)), some (.int (nI K)), some (.int (nI (P + (32 + 5 * K))))] (mdl G A (zput P (zr_grazes_160 K x σ) s) pa ke no f h0) 1 ?_ (fun hJ => ?_)
      rotate_left
      ·
        refine z_if_ne (tgt := 160) dX3_grazes_33 (by decide) (fun c_1 => ?_) (fun c_1 => ?_)
        ·
          exact z_jH (by first | rfl | (simp only [if_neg c_1] <;> rfl)) (by simp only [zr_grazes_160, if_neg c_1]) hJ
        ·
          refine z_aload_n dX3_grazes_36 rfl ?_
          refine z_iload_n dX3_grazes_37 rfl ?_
          refine z_aload_n dX3_grazes_38 rfl ?_
          refine zm_get 0 dX3_grazes_39 q1742 rfl rfl ?_
          refine z_iload dX3_grazes_42 rfl ?_
          refine zm_ld hA hP (P := P) (32 + 5 * K) (v := σ (32 + 5 * K)) dX3_grazes_44 (zn_to (rfl) (by omega)) (by omega) (rfl) ?_
          have lb_2 := (hinv.lp (k := K) (by omega)).2
          refine z_cV zc7 mX3_isWet (k_isWet (d := d - 1) hA (P := P) hP hp ((hinv.lp (k := K) (by omega)).1) (by omega) (by omega)) dX3_grazes_45 q1885 (by omega) rfl (Nat.le_of_ble_eq_true rfl) rfl mdl_0 rfl ?_
          refine z_joinH 68 [some (.ref (A 0)), some (.int p), some (.int x), some (.int (nI K)), some (.int (nI (P + (32 + 5 * K))))] (mdl G A (zput P (zr_grazes_68 K x σ) s) pa ke no f h0) 1 ?_ (fun hJ => ?_)
          rotate_left
          ·
            refine z_ifB_eq (tgt := 61) dX3_grazes_48 (by decide) (fun c_3 => ?_) (fun c_3 => ?_)
            ·
              refine z_aload_n dX3_grazes_61 rfl ?_
              refine z_iload_n dX3_grazes_62 rfl ?_
              refine z_iload dX3_grazes_63 rfl ?_
              refine z_cVv zc7 mX3_dries (k_dries (d := d - 1) hA (P := P) hP hp hinv rfl (by omega) (by omega)) dX3_grazes_65 q1897 (by omega) rfl (Nat.le_of_ble_eq_true rfl) rfl mdl_0 rfl ?_
              exact z_jH (by first | rfl | (simp only [if_neg c_3] <;> rfl)) (by simp only [zr_grazes_68, if_neg c_3]) hJ
            ·
              refine z_aload_n dX3_grazes_51 rfl ?_
              refine z_iload_n dX3_grazes_52 rfl ?_
              refine z_iload dX3_grazes_53 rfl ?_
              refine z_cVv zc7 mX3_feeds (k_feeds (d := d - 1) hA (P := P) hP hp hinv rfl (by omega) (by omega)) dX3_grazes_55 q1893 (by omega) rfl (Nat.le_of_ble_eq_true rfl) rfl mdl_0 rfl ?_
              refine z_goto (tgt := 68) dX3_grazes_58 (by decide) ?_
              exact z_jH (by first | rfl | (simp only [if_pos c_3] <;> rfl)) (by simp only [zr_grazes_68, if_pos c_3]) hJ
          refine z_aload_n dX3_grazes_68 rfl ?_
          refine zm_get 0 dX3_grazes_69 q1742 rfl rfl ?_
          refine z_iload dX3_grazes_72 rfl ?_
          refine z_iconst dX3_grazes_74 (v := 2) rfl ?_
          refine z_iadd dX3_grazes_75 ?_
          refine z_dup2 dX3_grazes_76 rfl rfl ?_
          refine zm_ld hA hP (P := P) (32 + 5 * K + 2) (v := zr_grazes_68 K x σ (32 + 5 * K + 2)) dX3_grazes_77 (zn_to (zn_add rfl (zk 2)) (by omega)) (by omega) (rfl) ?_
          refine z_aload_n dX3_grazes_78 rfl ?_
          refine zm_get 0 dX3_grazes_79 q1742 rfl rfl ?_
          refine z_iload_n dX3_grazes_82 rfl ?_
          refine z_iconst dX3_grazes_83 (v := 0) rfl ?_
          refine z_iadd dX3_grazes_84 ?_
          refine zm_ld hA hP (P := P) (0) (v := zr_grazes_68 K x σ 0) dX3_grazes_85 (zn_to (zn_add hp (zk 0)) (by omega)) (by omega) (rfl) ?_
          refine z_iconst dX3_grazes_86 (v := 4) rfl ?_
          refine z_irem dX3_grazes_87 (by decide) ?_
          refine z_join 96 (.int (if ((zr_grazes_68 K x σ 0) - (zr_grazes_68 K x σ 0) / 4 * 4) = 0 then (1 : Int32) else 0)) 1 ?_ (fun hJ => ?_)
          rotate_left
          ·
            refine z_if_ne (tgt := 95) dX3_grazes_88 (by decide) (fun c_4 => ?_) (fun c_4 => ?_)
            ·
              refine z_iconst dX3_grazes_95 (v := 0) rfl ?_
              exact z_jv (if_neg c_4) hJ
            ·
              refine z_iconst dX3_grazes_91 (v := 1) rfl ?_
              refine z_goto (tgt := 96) dX3_grazes_92 (by decide) ?_
              exact z_jv (if_pos c_4) hJ
          refine z_isub dX3_grazes_96 ?_
          refine zm_st hA hP (P := P) (32 + 5 * K + 2) dX3_grazes_97 (zn_to (zn_add rfl (zk 2)) (by omega)) (by omega) ?_
          refine z_aload_n dX3_grazes_98 rfl ?_
          refine zm_get 0 dX3_grazes_99 q1742 rfl rfl ?_
          refine z_iload dX3_grazes_102 rfl ?_
          refine z_iconst dX3_grazes_104 (v := 4) rfl ?_
          refine z_iadd dX3_grazes_105 ?_
          refine z_aload_n dX3_grazes_106 rfl ?_
          refine zm_get 0 dX3_grazes_107 q1742 rfl rfl ?_
          refine z_iload dX3_grazes_110 rfl ?_
          refine z_iconst dX3_grazes_112 (v := 1) rfl ?_
          refine z_iadd dX3_grazes_113 ?_
          refine zm_ld hA hP (P := P) (32 + 5 * K + 1) (v := zr_grazes_68 K x σ (32 + 5 * K + 1)) dX3_grazes_114 (zn_to (zn_add rfl (zk 1)) (by omega)) (by omega) ((pk_un (by omega)).trans (rfl)) ?_
          refine z_join 139 (.int (if (zr_grazes_68 K x σ (32 + 5 * K + 1)) = 0 then (1 : Int32) else (if ((zr_grazes_68 K x σ (32 + 5 * K + 2)) - (if ((zr_grazes_68 K x σ 0) - (zr_grazes_68 K x σ 0) / 4 * 4) = 0 then (1 : Int32) else 0)) = 0 then (2 : Int32) else (0 : Int32)))) 1 ?_ (fun hJ => ?_)
          rotate_left
          ·
            refine z_if_ne (tgt := 122) dX3_grazes_115 (by decide) (fun c_5 => ?_) (fun c_5 => ?_)
            ·
              refine z_aload_n dX3_grazes_122 rfl ?_
              refine zm_get 0 dX3_grazes_123 q1742 rfl rfl ?_
              refine z_iload dX3_grazes_126 rfl ?_
              refine z_iconst dX3_grazes_128 (v := 2) rfl ?_
              refine z_iadd dX3_grazes_129 ?_
              refine zm_ld hA hP (P := P) (32 + 5 * K + 2) (v := (zr_grazes_68 K x σ (32 + 5 * K + 2)) - (if ((zr_grazes_68 K x σ 0) - (zr_grazes_68 K x σ 0) / 4 * 4) = 0 then (1 : Int32) else 0)) dX3_grazes_130 (zn_to (zn_add rfl (zk 2)) (by omega)) (by omega) (pk_us) ?_
              refine z_if_ne (tgt := 138) dX3_grazes_131 (by decide) (fun c_6 => ?_) (fun c_6 => ?_)
              ·
                refine z_iconst dX3_grazes_138 (v := 0) rfl ?_
                exact z_jv (by simp only [if_neg c_5, if_neg c_6] <;> rfl) hJ
              ·
                refine z_iconst dX3_grazes_134 (v := 2) rfl ?_
                refine z_goto (tgt := 139) dX3_grazes_135 (by decide) ?_
                exact z_jv (by simp only [if_neg c_5, if_pos c_6] <;> rfl) hJ
            ·
              refine z_iconst dX3_grazes_118 (v := 1) rfl ?_
              refine z_goto (tgt := 139) dX3_grazes_119 (by decide) ?_
              exact z_jv (by simp only [if_pos c_5] <;> rfl) hJ
          refine zm_st hA hP (P := P) (32 + 5 * K + 4) dX3_grazes_139 (zn_to (zn_add rfl (zk 4)) (by omega)) (by omega) ?_
          refine z_iload_n dX3_grazes_140 rfl ?_
          refine z_aload_n dX3_grazes_141 rfl ?_
          refine zm_get 0 dX3_grazes_142 q1742 rfl rfl ?_
          refine z_iload dX3_grazes_145 rfl ?_
          refine z_iconst dX3_grazes_147 (v := 4) rfl ?_
          refine z_iadd dX3_grazes_148 ?_
          refine zm_ld hA hP (P := P) (32 + 5 * K + 4) (v := if (zr_grazes_68 K x σ (32 + 5 * K + 1)) = 0 then (1 : Int32) else (if ((zr_grazes_68 K x σ (32 + 5 * K + 2)) - (if ((zr_grazes_68 K x σ 0) - (zr_grazes_68 K x σ 0) / 4 * 4) = 0 then (1 : Int32) else 0)) = 0 then (2 : Int32) else (0 : Int32))) dX3_grazes_149 (zn_to (zn_add rfl (zk 4)) (by omega)) (by omega) (pk_us) ?_
          refine z_join 158 (.int (if ¬ ((if (zr_grazes_68 K x σ (32 + 5 * K + 1)) = 0 then (1 : Int32) else (if ((zr_grazes_68 K x σ (32 + 5 * K + 2)) - (if ((zr_grazes_68 K x σ 0) - (zr_grazes_68 K x σ 0) / 4 * 4) = 0 then (1 : Int32) else 0)) = 0 then (2 : Int32) else (0 : Int32))) = 0) then (1 : Int32) else 0)) 1 ?_ (fun hJ => ?_)
          rotate_left
          ·
            refine z_if_ne (tgt := 157) dX3_grazes_150 (by decide) (fun c_7 => ?_) (fun c_7 => ?_)
            ·
              refine z_iconst dX3_grazes_157 (v := 1) rfl ?_
              exact z_jv (if_pos c_7) hJ
            ·
              refine z_iconst dX3_grazes_153 (v := 0) rfl ?_
              refine z_goto (tgt := 158) dX3_grazes_154 (by decide) ?_
              exact z_jv (if_neg (fun z => z c_7)) hJ
          refine z_iadd dX3_grazes_158 ?_
          refine z_istore_n dX3_grazes_159 (by decide) ?_
          exact z_jH (by first | rfl | (simp only [if_pos c_1] <;> rfl)) (by simp only [zr_grazes_160, if_pos c_1]) hJ
      refine z_iinc dX3_grazes_160 rfl (v := nI (K + 1)) (z_inc rfl) ?_
      refine z_goto (tgt := 4) dX3_grazes_163 (by decide) ?_
      refine z_loc (L2 := [some (.ref (A 0)), some (.int p), some (.int (if (σ (32 + 5 * K + 4)) = 0 then (x + (if ¬ ((if (zr_grazes_68 K x σ (32 + 5 * K + 1)) = 0 then (1 : Int32) else (if ((zr_grazes_68 K x σ (32 + 5 * K + 2)) - (if ((zr_grazes_68 K x σ 0) - (zr_grazes_68 K x σ 0) / 4 * 4) = 0 then (1 : Int32) else 0)) = 0 then (2 : Int32) else (0 : Int32))) = 0) then (1 : Int32) else 0)) else x)), some (.int (nI (K + 1))), none]) ⟨rfl, rfl, rfl, rfl, trivial⟩ ?_
      exact ih (K + 1) (if (σ (32 + 5 * K + 4)) = 0 then (x + (if ¬ ((if (zr_grazes_68 K x σ (32 + 5 * K + 1)) = 0 then (1 : Int32) else (if ((zr_grazes_68 K x σ (32 + 5 * K + 2)) - (if ((zr_grazes_68 K x σ 0) - (zr_grazes_68 K x σ 0) / 4 * 4) = 0 then (1 : Int32) else 0)) = 0 then (2 : Int32) else (0 : Int32))) = 0) then (1 : Int32) else 0)) else x) (zr_grazes_160 K x σ) (by omega) (zok_grazes_160 hinv (by omega)) hx
def zf_grazes (σ : Nat → Int32) (NL : Nat) : Int32 := (zb_grazes  NL 0 (0 : Int32) σ).1
def zr_grazes (σ : Nat → Int32) (NL : Nat) : Nat → Int32 := (zb_grazes  NL 0 (0 : Int32) σ).2
theorem zok_grazes {σ : Nat → Int32} {NL : Nat} {NS NC : Nat} (hok : zok σ NL NS NC) : zok (zr_grazes σ NL) NL NS NC := by
  obtain ⟨bL, bS, bC⟩ := hok.b
  unfold zr_grazes
  exact (zokb_grazes _ _ _ _ (by omega) hok)
set_option maxHeartbeats 4000000 in
theorem k_grazes {G : zE} {A : Nat → Nat} (hA : zinj A 5) {P : Nat} (hP : P ≤ 287) {σ s pa ke no f : Nat → Int32} {h0 : zH} {p : Int32} (hp : p = nI P) {NL NS NC : Nat} (hok : zok σ NL NS NC) {d : Nat} (hd : 4 ≤ d) : zCon G fX3_grazes d 0 0 [.ref (A 0), .int p] (mdl G A (zput P σ s) pa ke no f h0) (zA (.int (zf_grazes σ NL)) (mdl G A (zput P (zr_grazes σ NL) s) pa ke no f h0)) nX := by
  refine zCon.of9 (L := [some (.ref (A 0)), some (.int p), none, none, none]) (by simp [Value.category]) (Nat.le_of_ble_eq_true rfl) pX3 rfl rfl ?_
  refine z_iconst dX3_grazes_0 (v := 0) rfl ?_
  refine z_istore_n dX3_grazes_1 (by decide) ?_
  refine z_iconst dX3_grazes_2 (v := 0) rfl ?_
  refine z_istore_n dX3_grazes_3 (by decide) ?_
  refine z_loc (L2 := [some (.ref (A 0)), some (.int p), some (.int 0), some (.int 0), none]) ⟨rfl, rfl, rfl, rfl, trivial⟩ ?_
  refine l_grazes hA hP hp (by omega) NL 0 (0 : Int32) σ (by omega) hok ?_
  refine z_iload_n dX3_grazes_166 rfl ?_
  refine z_ret dX3_grazes_167 rfl rfl ⟨rfl, rfl⟩
def zr_leaves_47 (σ : Nat → Int32) (b : Nat) : Nat → Int32 := if (σ (212 + 5 * b + 2)) = (-1) then σ else (upd (upd σ (133 + 3 * ((σ (212 + 5 * b + 2)).toNatClampNeg) + 2) (-1)) (212 + 5 * b + 2) (-1))
theorem zok_leaves_47 {σ : Nat → Int32} {b : Nat} {NL NS NC : Nat} (hok : zok σ NL NS NC) (lb : b < NC) : zok (zr_leaves_47 σ b) NL NS NC := by
  obtain ⟨bL, bS, bC⟩ := hok.b
  unfold zr_leaves_47
  exact zok_ite (fun hc0 => hok) (fun hc0 => ((hok.shw (k := ((σ (212 + 5 * b + 2)).toNatClampNeg)) (i := 2) ((hok.cw (k := b) (by omega) hc0)).2 (by omega)).cww (k := b) (by omega) (fun h => absurd rfl h)))
def zr_leaves (σ : Nat → Int32) (b : Nat) : Nat → Int32 := zr_leaves_47 σ b
theorem zok_leaves {σ : Nat → Int32} {b : Nat} {NL NS NC : Nat} (hok : zok σ NL NS NC) (lb : b < NC) : zok (zr_leaves σ b) NL NS NC := by
  obtain ⟨bL, bS, bC⟩ := hok.b
  unfold zr_leaves
  exact (zok_leaves_47 hok (by omega))
set_option maxHeartbeats 4000000 in
theorem k_leaves {G : zE} {A : Nat → Nat} (hA : zinj A 5) {P : Nat} (hP : P ≤ 287) {σ s pa ke no f : Nat → Int32} {h0 : zH} {p : Int32} (hp : p = nI P) {NL NS NC : Nat} (hok : zok σ NL NS NC) {c : Int32} {b : Nat} (hb : c = nI b) (lb : b < NC) {d : Nat} (hd : 2 ≤ d) : zCon G fX3_leaves d 0 0 [.ref (A 0), .int p, .int c] (mdl G A (zput P σ s) pa ke no f h0) (zAv (mdl G A (zput P (zr_leaves σ b) s) pa ke no f h0)) nX := by
  refine zCon.of9 (L := [some (.ref (A 0)), some (.int p), some (.int c), none]) (by simp [Value.category]) (Nat.le_of_ble_eq_true rfl) pX3 rfl rfl ?_
  obtain ⟨bL, bS, bC⟩ := hok.b
  refine z_iload_n dX3_leaves_0 rfl ?_
  refine z_iload_n dX3_leaves_1 rfl ?_
  refine z_cS mX3_crab (k_crab (d := d - 1) hp hb (by omega)) dX3_leaves_2 q1819 (by omega) rfl (Nat.le_of_ble_eq_true rfl) rfl ?_
  refine z_istore_n dX3_leaves_5 (by decide) ?_
  refine z_aload_n dX3_leaves_6 rfl ?_
  refine zm_get 0 dX3_leaves_7 q1742 rfl rfl ?_
  refine z_iload_n dX3_leaves_10 rfl ?_
  refine z_iconst dX3_leaves_11 (v := 2) rfl ?_
  refine z_iadd dX3_leaves_12 ?_
  refine zm_ld hA hP (P := P) (212 + 5 * b + 2) (v := σ (212 + 5 * b + 2)) dX3_leaves_13 (zn_to (zn_add rfl (zk 2)) (by omega)) (by omega) (rfl) ?_
  refine z_iconst dX3_leaves_14 (v := (-1)) rfl ?_
  refine z_joinH 47 [some (.ref (A 0)), some (.int p), some (.int c), some (.int (nI (P + (212 + 5 * b))))] (mdl G A (zput P (zr_leaves_47 σ b) s) pa ke no f h0) 2 ?_ (fun hJ => ?_)
  rotate_left
  ·
    refine z_icmp_eq (tgt := 47) dX3_leaves_15 (by decide) (fun c_1 => ?_) (fun c_1 => ?_)
    ·
      exact z_jH (by first | rfl | (simp only [if_pos c_1] <;> rfl)) (by simp only [zr_leaves_47, if_pos c_1]) hJ
    ·
      refine z_aload_n dX3_leaves_18 rfl ?_
      refine zm_get 0 dX3_leaves_19 q1742 rfl rfl ?_
      refine z_iload_n dX3_leaves_22 rfl ?_
      refine z_aload_n dX3_leaves_23 rfl ?_
      refine zm_get 0 dX3_leaves_24 q1742 rfl rfl ?_
      refine z_iload_n dX3_leaves_27 rfl ?_
      refine z_iconst dX3_leaves_28 (v := 2) rfl ?_
      refine z_iadd dX3_leaves_29 ?_
      refine zm_ld hA hP (P := P) (212 + 5 * b + 2) (v := σ (212 + 5 * b + 2)) dX3_leaves_30 (zn_to (zn_add rfl (zk 2)) (by omega)) (by omega) (rfl) ?_
      have lb_2 := (hok.cw (k := b) (by omega) c_1).2
      refine z_cS mX3_shell (k_shell (d := d - 1) hp ((hok.cw (k := b) (by omega) c_1).1) (by omega)) dX3_leaves_31 q1834 (by omega) rfl (Nat.le_of_ble_eq_true rfl) rfl ?_
      refine z_iconst dX3_leaves_34 (v := 2) rfl ?_
      refine z_iadd dX3_leaves_35 ?_
      refine z_iconst dX3_leaves_36 (v := (-1)) rfl ?_
      refine zm_st hA hP (P := P) (133 + 3 * ((σ (212 + 5 * b + 2)).toNatClampNeg) + 2) dX3_leaves_37 (zn_to (zn_add rfl (zk 2)) (by omega)) (by omega) ?_
      refine z_aload_n dX3_leaves_38 rfl ?_
      refine zm_get 0 dX3_leaves_39 q1742 rfl rfl ?_
      refine z_iload_n dX3_leaves_42 rfl ?_
      refine z_iconst dX3_leaves_43 (v := 2) rfl ?_
      refine z_iadd dX3_leaves_44 ?_
      refine z_iconst dX3_leaves_45 (v := (-1)) rfl ?_
      refine zm_st hA hP (P := P) (212 + 5 * b + 2) dX3_leaves_46 (zn_to (zn_add rfl (zk 2)) (by omega)) (by omega) ?_
      exact z_jH (by first | rfl | (simp only [if_neg c_1] <;> rfl)) (by simp only [zr_leaves_47, if_neg c_1]) hJ
  refine z_vret dX3_leaves_47 rfl ⟨rfl, rfl⟩
def zr_heats_98 (K : Nat) (x : Int32) (σ : Nat → Int32) : Nat → Int32 := if zf_lives σ K then (if (σ (212 + 5 * K + 2)) = (-1) then (if zf_isWet σ ((σ (212 + 5 * K + 1)).toNatClampNeg) then σ else (if (σ (15 + ((σ (212 + 5 * K + 1)).toNatClampNeg))) < 30 then σ else (upd σ (212 + 5 * K + 3) 4))) else σ) else σ
theorem zok_heats_98 {K : Nat} {x : Int32} {σ : Nat → Int32} {NL NS NC : Nat} (hok : zok σ NL NS NC) (lK : K < NC) : zok (zr_heats_98 K x σ) NL NS NC := by
  obtain ⟨bL, bS, bC⟩ := hok.b
  unfold zr_heats_98
  exact zok_ite (fun hc0 => zok_ite (fun hc1 => zok_ite (fun hc2 => hok) (fun hc2 => zok_ite (fun hc3 => hok) (fun hc3 => (hok.cfw (k := K) (i := 3) (by omega) (by omega))))) (fun hc1 => hok)) (fun hc0 => hok)
def zb_heats  : Nat → Nat → Int32 → (Nat → Int32) → Int32 × (Nat → Int32)
  | 0, _, x, σ => (x, σ)
  | j + 1, K, x, σ => zb_heats j (K + 1) (if zf_lives σ K then (if (σ (212 + 5 * K + 2)) = (-1) then (if zf_isWet σ ((σ (212 + 5 * K + 1)).toNatClampNeg) then x else (if (σ (15 + ((σ (212 + 5 * K + 1)).toNatClampNeg))) < 30 then x else (x + 1))) else x) else x) (zr_heats_98 K x σ)
theorem zokb_heats  {NL NS NC : Nat} : ∀ (j K : Nat) (x : Int32) (σ : (Nat → Int32)), K + j = NC → zok σ NL NS NC → zok (zb_heats j K x σ).2 NL NS NC := by
  intro j
  induction j with
  | zero => intro K x σ _ hok; exact hok
  | succ j ih =>
    intro K x σ hK hok
    obtain ⟨bL, bS, bC⟩ := hok.b
    show zok (zb_heats j (K + 1) (if zf_lives σ K then (if (σ (212 + 5 * K + 2)) = (-1) then (if zf_isWet σ ((σ (212 + 5 * K + 1)).toNatClampNeg) then x else (if (σ (15 + ((σ (212 + 5 * K + 1)).toNatClampNeg))) < 30 then x else (x + 1))) else x) else x) (zr_heats_98 K x σ)).2 NL NS NC
    exact ih (K + 1) (if zf_lives σ K then (if (σ (212 + 5 * K + 2)) = (-1) then (if zf_isWet σ ((σ (212 + 5 * K + 1)).toNatClampNeg) then x else (if (σ (15 + ((σ (212 + 5 * K + 1)).toNatClampNeg))) < 30 then x else (x + 1))) else x) else x) (zr_heats_98 K x σ) (by omega) (zok_heats_98 hok (by omega))
set_option maxHeartbeats 4000000 in
theorem l_heats {G : zE} {A : Nat → Nat} (hA : zinj A 5) {P : Nat} (hP : P ≤ 287) {s pa ke no f : Nat → Int32} {h0 : zH} {p : Int32} (hp : p = nI P) {NL NS NC : Nat} {d k n : Nat} (hd : 3 ≤ d) {Q : Option Value → zH → Prop} {X : String → zH → Prop} : ∀ (j K : Nat) (x : Int32) (σ : (Nat → Int32)), K + j = NC → zok σ NL NS NC → zV G fX3_heats d 104 [some (.ref (A 0)), some (.int p), some (.int ((zb_heats j K x σ).1)), none, none, none] [] (mdl G A (zput P ((zb_heats j K x σ).2) s) pa ke no f h0) k n Q X → zV G fX3_heats d 4 [some (.ref (A 0)), some (.int p), some (.int x), some (.int (nI K)), none, none] [] (mdl G A (zput P σ s) pa ke no f h0) k n Q X := by
  intro j
  induction j with
  | zero =>
    intro K x σ hK hinv hx
    have hK9 : K = NC := by omega
    subst hK9
    refine z_iload_n dX3_heats_4 rfl ?_
    refine z_aload_n dX3_heats_5 rfl ?_
    refine zm_get 0 dX3_heats_6 q1742 rfl rfl ?_
    refine z_iload_n dX3_heats_9 rfl ?_
    refine z_sipush dX3_heats_10 (v := 211) rfl ?_
    refine z_iadd dX3_heats_13 ?_
    refine zm_ld hA hP (P := P) (211) (v := σ 211) dX3_heats_14 (zn_to (zn_add hp (zk 211)) (by omega)) (by omega) (rfl) ?_
    refine z_icmp_ge (tgt := 104) dX3_heats_15 (by decide) (fun hg => ?_) (fun hg => ?_)
    ·
      refine z_loc (L2 := [some (.ref (A 0)), some (.int p), some (.int x), none, none, none]) ⟨rfl, rfl, rfl, trivial⟩ ?_
      exact hx
    · exact absurd (by rw [hinv.nc]; exact Int32.le_refl _) hg
  | succ j ih =>
    intro K x σ hK hinv hx
    obtain ⟨bL, bS, bC⟩ := hinv.b
    refine z_iload_n dX3_heats_4 rfl ?_
    refine z_aload_n dX3_heats_5 rfl ?_
    refine zm_get 0 dX3_heats_6 q1742 rfl rfl ?_
    refine z_iload_n dX3_heats_9 rfl ?_
    refine z_sipush dX3_heats_10 (v := 211) rfl ?_
    refine z_iadd dX3_heats_13 ?_
    refine zm_ld hA hP (P := P) (211) (v := σ 211) dX3_heats_14 (zn_to (zn_add hp (zk 211)) (by omega)) (by omega) (rfl) ?_
    refine z_icmp_ge (tgt := 104) dX3_heats_15 (by decide) (fun hg => ?_) (fun hg => ?_)
    · exact absurd hg (by rw [hinv.nc]; exact nI_ge (by omega) (by omega))
    ·
      refine z_iload_n dX3_heats_18 rfl ?_
      refine z_iload_n dX3_heats_19 rfl ?_
      refine z_cS mX3_crab (k_crab (d := d - 1) hp rfl (by omega)) dX3_heats_20 q1819 (by omega) rfl (Nat.le_of_ble_eq_true rfl) rfl ?_
      refine z_istore dX3_heats_23 (by decide) ?_
      refine z_aload_n dX3_heats_25 rfl ?_
      refine zm_get 0 dX3_heats_26 q1742 rfl rfl ?_
      refine z_iload dX3_heats_29 rfl ?_
      refine z_iconst dX3_heats_31 (v := 1) rfl ?_
      refine z_iadd dX3_heats_32 ?_
      refine zm_ld hA hP (P := P) (212 + 5 * K + 1) (v := σ (212 + 5 * K + 1)) dX3_heats_33 (zn_to (zn_add rfl (zk 1)) (by omega)) (by omega) (rfl) ?_
      refine z_istore dX3_heats_34 (by decide) ?_
      refine z_aload_n dX3_heats_36 rfl ?_
      refine z_iload_n dX3_heats_37 rfl ?_
      refine z_iload_n dX3_heats_38 rfl ?_
      refine z_cV zc7 mX3_lives (k_lives (d := d - 1) hA (P := P) hP hp rfl (by omega) (by omega)) dX3_heats_39 q1905 (by omega) rfl (Nat.le_of_ble_eq_true rfl) rfl mdl_0 rfl ?_
      refine z_joinH 98 [some (.ref (A 0)), some (.int p), some (.int (if zf_lives σ K then (if (σ (212 + 5 * K + 2)) = (-1) then (if zf_isWet σ ((σ (212 + 5 * K + 1)).toNatClampNeg) then x else (if (σ (15 + ((σ (212 + 5 * K + 1)).toNatClampNeg))) < 30 then x else (x + 1))) else x) else x)), some (.int (nI K)), some (.int (nI (P + (212 + 5 * K)))), some (.int (σ (212 + 5 * K + 1)))] (mdl G A (zput P (zr_heats_98 K x σ) s) pa ke no f h0) 1 ?_ (fun hJ => ?_)
      rotate_left
      ·
        refine z_ifB_eq (tgt := 98) dX3_heats_42 (by decide) (fun c_1 => ?_) (fun c_1 => ?_)
        ·
          exact z_jH (by first | rfl | (simp only [if_neg c_1] <;> rfl)) (by simp only [zr_heats_98, if_neg c_1]) hJ
        ·
          refine z_aload_n dX3_heats_45 rfl ?_
          refine zm_get 0 dX3_heats_46 q1742 rfl rfl ?_
          refine z_iload dX3_heats_49 rfl ?_
          refine z_iconst dX3_heats_51 (v := 2) rfl ?_
          refine z_iadd dX3_heats_52 ?_
          refine zm_ld hA hP (P := P) (212 + 5 * K + 2) (v := σ (212 + 5 * K + 2)) dX3_heats_53 (zn_to (zn_add rfl (zk 2)) (by omega)) (by omega) (rfl) ?_
          refine z_iconst dX3_heats_54 (v := (-1)) rfl ?_
          refine z_icmp_ne (tgt := 98) dX3_heats_55 (by decide) (fun c_2 => ?_) (fun c_2 => ?_)
          ·
            exact z_jH (by first | rfl | (simp only [if_pos c_1, if_neg c_2] <;> rfl)) (by simp only [zr_heats_98, if_pos c_1, if_neg c_2]) hJ
          ·
            refine z_aload_n dX3_heats_58 rfl ?_
            refine z_iload_n dX3_heats_59 rfl ?_
            refine z_iload dX3_heats_60 rfl ?_
            have lb_3 := (hinv.cp (k := K) (by omega)).2
            refine z_cV zc7 mX3_isWet (k_isWet (d := d - 1) hA (P := P) hP hp ((hinv.cp (k := K) (by omega)).1) (by omega) (by omega)) dX3_heats_62 q1885 (by omega) rfl (Nat.le_of_ble_eq_true rfl) rfl mdl_0 rfl ?_
            refine z_ifB_ne (tgt := 98) dX3_heats_65 (by decide) (fun c_4 => ?_) (fun c_4 => ?_)
            ·
              exact z_jH (by first | rfl | (simp only [if_pos c_1, if_pos c_2, if_pos c_4] <;> rfl)) (by simp only [zr_heats_98, if_pos c_1, if_pos c_2, if_pos c_4]) hJ
            ·
              refine z_aload_n dX3_heats_68 rfl ?_
              refine zm_get 0 dX3_heats_69 q1742 rfl rfl ?_
              refine z_iload_n dX3_heats_72 rfl ?_
              refine z_bipush dX3_heats_73 (v := 15) rfl ?_
              refine z_iadd dX3_heats_75 ?_
              refine z_iload dX3_heats_76 rfl ?_
              refine z_iadd dX3_heats_78 ?_
              refine zm_ld hA hP (P := P) (15 + ((σ (212 + 5 * K + 1)).toNatClampNeg)) (v := σ (15 + ((σ (212 + 5 * K + 1)).toNatClampNeg))) dX3_heats_79 (zn_to (zn_add (zn_add hp (zk 15)) ((hinv.cp (k := K) (by omega)).1)) (by omega)) (by omega) (rfl) ?_
              refine z_bipush dX3_heats_80 (v := 30) rfl ?_
              refine z_icmp_lt (tgt := 98) dX3_heats_82 (by decide) (fun c_5 => ?_) (fun c_5 => ?_)
              ·
                exact z_jH (by first | rfl | (simp only [if_pos c_1, if_pos c_2, if_neg c_4, if_pos c_5] <;> rfl)) (by simp only [zr_heats_98, if_pos c_1, if_pos c_2, if_neg c_4, if_pos c_5]) hJ
              ·
                refine z_aload_n dX3_heats_85 rfl ?_
                refine zm_get 0 dX3_heats_86 q1742 rfl rfl ?_
                refine z_iload dX3_heats_89 rfl ?_
                refine z_iconst dX3_heats_91 (v := 3) rfl ?_
                refine z_iadd dX3_heats_92 ?_
                refine z_iconst dX3_heats_93 (v := 4) rfl ?_
                refine zm_st hA hP (P := P) (212 + 5 * K + 3) dX3_heats_94 (zn_to (zn_add rfl (zk 3)) (by omega)) (by omega) ?_
                refine z_iinc dX3_heats_95 rfl (v := x + 1) rfl ?_
                exact z_jH (by first | rfl | (simp only [if_pos c_1, if_pos c_2, if_neg c_4, if_neg c_5] <;> rfl)) (by simp only [zr_heats_98, if_pos c_1, if_pos c_2, if_neg c_4, if_neg c_5]) hJ
      refine z_iinc dX3_heats_98 rfl (v := nI (K + 1)) (z_inc rfl) ?_
      refine z_goto (tgt := 4) dX3_heats_101 (by decide) ?_
      refine z_loc (L2 := [some (.ref (A 0)), some (.int p), some (.int (if zf_lives σ K then (if (σ (212 + 5 * K + 2)) = (-1) then (if zf_isWet σ ((σ (212 + 5 * K + 1)).toNatClampNeg) then x else (if (σ (15 + ((σ (212 + 5 * K + 1)).toNatClampNeg))) < 30 then x else (x + 1))) else x) else x)), some (.int (nI (K + 1))), none, none]) ⟨rfl, rfl, rfl, rfl, trivial⟩ ?_
      exact ih (K + 1) (if zf_lives σ K then (if (σ (212 + 5 * K + 2)) = (-1) then (if zf_isWet σ ((σ (212 + 5 * K + 1)).toNatClampNeg) then x else (if (σ (15 + ((σ (212 + 5 * K + 1)).toNatClampNeg))) < 30 then x else (x + 1))) else x) else x) (zr_heats_98 K x σ) (by omega) (zok_heats_98 hinv (by omega)) hx
def zf_heats (σ : Nat → Int32) (NC : Nat) : Int32 := (zb_heats  NC 0 (0 : Int32) σ).1
def zr_heats (σ : Nat → Int32) (NC : Nat) : Nat → Int32 := (zb_heats  NC 0 (0 : Int32) σ).2
theorem zok_heats {σ : Nat → Int32} {NC : Nat} {NL NS : Nat} (hok : zok σ NL NS NC) : zok (zr_heats σ NC) NL NS NC := by
  obtain ⟨bL, bS, bC⟩ := hok.b
  unfold zr_heats
  exact (zokb_heats _ _ _ _ (by omega) hok)
set_option maxHeartbeats 4000000 in
theorem k_heats {G : zE} {A : Nat → Nat} (hA : zinj A 5) {P : Nat} (hP : P ≤ 287) {σ s pa ke no f : Nat → Int32} {h0 : zH} {p : Int32} (hp : p = nI P) {NL NS NC : Nat} (hok : zok σ NL NS NC) {d : Nat} (hd : 4 ≤ d) : zCon G fX3_heats d 0 0 [.ref (A 0), .int p] (mdl G A (zput P σ s) pa ke no f h0) (zA (.int (zf_heats σ NC)) (mdl G A (zput P (zr_heats σ NC) s) pa ke no f h0)) nX := by
  refine zCon.of9 (L := [some (.ref (A 0)), some (.int p), none, none, none, none]) (by simp [Value.category]) (Nat.le_of_ble_eq_true rfl) pX3 rfl rfl ?_
  refine z_iconst dX3_heats_0 (v := 0) rfl ?_
  refine z_istore_n dX3_heats_1 (by decide) ?_
  refine z_iconst dX3_heats_2 (v := 0) rfl ?_
  refine z_istore_n dX3_heats_3 (by decide) ?_
  refine z_loc (L2 := [some (.ref (A 0)), some (.int p), some (.int 0), some (.int 0), none, none]) ⟨rfl, rfl, rfl, rfl, trivial⟩ ?_
  refine l_heats hA hP hp (by omega) NC 0 (0 : Int32) σ (by omega) hok ?_
  refine z_iload_n dX3_heats_104 rfl ?_
  refine z_ret dX3_heats_105 rfl rfl ⟨rfl, rfl⟩
theorem zix_if {c : Prop} [Decidable c] {x : Int32} {K n : Nat} (hx : ¬ x = -1 → zix x n) (hK : K < n) (hn : n < 2 ^ 31) : ¬ (if c then nI K else x) = -1 → zix (if c then nI K else x) n := by
  by_cases h : c
  · rw [if_pos h]; exact fun _ => zix_nI hK hn
  · rw [if_neg h]; exact hx
theorem zix_ite2 {c : Prop} [Decidable c] {x y : Int32} {n : Nat} (hx : ¬ x = -1 → zix x n) (hy : ¬ y = -1 → zix y n) : ¬ (if c then x else y) = -1 → zix (if c then x else y) n := by
  by_cases h : c
  · rw [if_pos h]; exact hx
  · rw [if_neg h]; exact hy
theorem zix_ifn {c : Prop} [Decidable c] {x : Int32} {n : Nat} (hx : ¬ x = -1 → zix x n) : ¬ (if c then x else (-1 : Int32)) = -1 → zix (if c then x else (-1 : Int32)) n := by
  by_cases h : c
  · rw [if_pos h]; exact hx
  · rw [if_neg h]; exact fun e => absurd rfl e
theorem zb_better_ix {σ : Nat → Int32} {b : Nat} {pool : Int32} {N : Nat} (hN : N < 2 ^ 31) : ∀ (j K : Nat) (x y : Int32), K + j = N → (¬ x = -1 → zix x N) → ¬ (zb_better σ b pool j K x y).1 = -1 → zix (zb_better σ b pool j K x y).1 N := by
  intro j
  induction j with
  | zero => intro K x y _ hx; exact hx
  | succ j ih => intro K x y hK hx; exact ih (K + 1) _ _ (by omega) (zix_if hx (by omega) hN)
theorem zf_better_ix {σ : Nat → Int32} {b NS : Nat} {pool : Int32} (hN : NS ≤ 26) : ¬ zf_better σ b NS pool = -1 → zix (zf_better σ b NS pool) NS := zb_better_ix (by omega) NS 0 _ _ (by omega) (fun e => absurd rfl e)
def zb_greatest (σ : Nat → Int32) (pool bare : Int32) : Nat → Nat → Int32 → Int32
  | 0, _, x => x
  | j + 1, K, x => zb_greatest σ pool bare j (K + 1) (if (zf_lives σ K) ∧ (((σ (212 + 5 * K + 1)) = pool) ∧ (((bare = 0) ∧ (zf_isTight σ K)) ∨ (¬ (bare = 0) ∧ ((σ (212 + 5 * K + 2)) = (-1))))) then (if x = (-1) then (nI K) else (if (σ (212 + 5 * K)) ≤ (σ (212 + 5 * x.toNatClampNeg)) then x else (nI K))) else x)
set_option maxHeartbeats 4000000 in
theorem l_greatest {G : zE} {A : Nat → Nat} (hA : zinj A 5) {P : Nat} (hP : P ≤ 287) {σ s pa ke no f : Nat → Int32} {h0 : zH} {p : Int32} (hp : p = nI P) {NL NS NC : Nat} (hok : zok σ NL NS NC) {pool bare : Int32} {d k n : Nat} (hd : 3 ≤ d) {Q : Option Value → zH → Prop} {X : String → zH → Prop} : ∀ (j K : Nat) (x : Int32), K + j = NC → (¬ x = -1 → zix x NC) → zV G fX3_greatest d 136 [some (.ref (A 0)), some (.int p), some (.int pool), some (.int bare), some (.int (zb_greatest σ pool bare j K x)), none, none, none] [] (mdl G A (zput P σ s) pa ke no f h0) k n Q X → zV G fX3_greatest d 6 [some (.ref (A 0)), some (.int p), some (.int pool), some (.int bare), some (.int x), some (.int (nI K)), none, none] [] (mdl G A (zput P σ s) pa ke no f h0) k n Q X := by
  intro j
  induction j with
  | zero =>
    intro K x hK hinv hx
    have hK9 : K = NC := by omega
    subst hK9
    refine z_iload dX3_greatest_6 rfl ?_
    refine z_aload_n dX3_greatest_8 rfl ?_
    refine zm_get 0 dX3_greatest_9 q1742 rfl rfl ?_
    refine z_iload_n dX3_greatest_12 rfl ?_
    refine z_sipush dX3_greatest_13 (v := 211) rfl ?_
    refine z_iadd dX3_greatest_16 ?_
    refine zm_ld hA hP (P := P) (211) (v := σ 211) dX3_greatest_17 (zn_to (zn_add hp (zk 211)) (by omega)) (by omega) (rfl) ?_
    refine z_icmp_ge (tgt := 136) dX3_greatest_18 (by decide) (fun hg => ?_) (fun hg => ?_)
    ·
      refine z_loc (L2 := [some (.ref (A 0)), some (.int p), some (.int pool), some (.int bare), some (.int x), none, none, none]) ⟨rfl, rfl, rfl, rfl, rfl, trivial⟩ ?_
      exact hx
    · exact absurd (by rw [hok.nc]; exact Int32.le_refl _) hg
  | succ j ih =>
    intro K x hK hinv hx
    obtain ⟨bL, bS, bC⟩ := hok.b
    refine z_iload dX3_greatest_6 rfl ?_
    refine z_aload_n dX3_greatest_8 rfl ?_
    refine zm_get 0 dX3_greatest_9 q1742 rfl rfl ?_
    refine z_iload_n dX3_greatest_12 rfl ?_
    refine z_sipush dX3_greatest_13 (v := 211) rfl ?_
    refine z_iadd dX3_greatest_16 ?_
    refine zm_ld hA hP (P := P) (211) (v := σ 211) dX3_greatest_17 (zn_to (zn_add hp (zk 211)) (by omega)) (by omega) (rfl) ?_
    refine z_icmp_ge (tgt := 136) dX3_greatest_18 (by decide) (fun hg => ?_) (fun hg => ?_)
    · exact absurd hg (by rw [hok.nc]; exact nI_ge (by omega) (by omega))
    ·
      refine z_iload_n dX3_greatest_21 rfl ?_
      refine z_iload dX3_greatest_22 rfl ?_
      refine z_cS mX3_crab (k_crab (d := d - 1) hp rfl (by omega)) dX3_greatest_24 q1819 (by omega) rfl (Nat.le_of_ble_eq_true rfl) rfl ?_
      refine z_istore dX3_greatest_27 (by decide) ?_
      refine z_aload_n dX3_greatest_29 rfl ?_
      refine z_iload_n dX3_greatest_30 rfl ?_
      refine z_iload dX3_greatest_31 rfl ?_
      refine z_cV zc7 mX3_lives (k_lives (d := d - 1) hA (P := P) hP hp rfl (by omega) (by omega)) dX3_greatest_33 q1905 (by omega) rfl (Nat.le_of_ble_eq_true rfl) rfl mdl_0 rfl ?_
      refine z_join 87 (.int (if (zf_lives σ K) ∧ (((σ (212 + 5 * K + 1)) = pool) ∧ (((bare = 0) ∧ (zf_isTight σ K)) ∨ (¬ (bare = 0) ∧ ((σ (212 + 5 * K + 2)) = (-1))))) then (1 : Int32) else 0)) 1 ?_ (fun hJ => ?_)
      rotate_left
      ·
        refine z_ifB_eq (tgt := 86) dX3_greatest_36 (by decide) (fun c_1 => ?_) (fun c_1 => ?_)
        ·
          refine z_iconst dX3_greatest_86 (v := 0) rfl ?_
          exact z_jv (if_neg (fun z => c_1 z.1)) hJ
        ·
          refine z_aload_n dX3_greatest_39 rfl ?_
          refine zm_get 0 dX3_greatest_40 q1742 rfl rfl ?_
          refine z_iload dX3_greatest_43 rfl ?_
          refine z_iconst dX3_greatest_45 (v := 1) rfl ?_
          refine z_iadd dX3_greatest_46 ?_
          refine zm_ld hA hP (P := P) (212 + 5 * K + 1) (v := σ (212 + 5 * K + 1)) dX3_greatest_47 (zn_to (zn_add rfl (zk 1)) (by omega)) (by omega) (rfl) ?_
          refine z_iload_n dX3_greatest_48 rfl ?_
          refine z_icmp_ne (tgt := 86) dX3_greatest_49 (by decide) (fun c_2 => ?_) (fun c_2 => ?_)
          ·
            refine z_iconst dX3_greatest_86 (v := 0) rfl ?_
            exact z_jv (if_neg (fun z => (fun z => c_2 z.1) z.2)) hJ
          ·
            refine z_iload_n dX3_greatest_52 rfl ?_
            refine z_if_eq (tgt := 72) dX3_greatest_53 (by decide) (fun c_3 => ?_) (fun c_3 => ?_)
            ·
              refine z_aload_n dX3_greatest_72 rfl ?_
              refine z_iload_n dX3_greatest_73 rfl ?_
              refine z_iload dX3_greatest_74 rfl ?_
              refine z_cV zc7 mX3_isTight (k_isTight (d := d - 1) hA (P := P) hP hp hok rfl (by omega) (by omega)) dX3_greatest_76 q1909 (by omega) rfl (Nat.le_of_ble_eq_true rfl) rfl mdl_0 rfl ?_
              refine z_ifB_eq (tgt := 86) dX3_greatest_79 (by decide) (fun c_4 => ?_) (fun c_4 => ?_)
              ·
                refine z_iconst dX3_greatest_86 (v := 0) rfl ?_
                exact z_jv (if_neg (fun z => (fun z => (fun z => z.elim (fun y => c_4 y.2) (fun y => y.1 c_3)) z.2) z.2)) hJ
              ·
                refine z_iconst dX3_greatest_82 (v := 1) rfl ?_
                refine z_goto (tgt := 87) dX3_greatest_83 (by decide) ?_
                exact z_jv (if_pos (⟨c_1, ⟨c_2, (Or.inl ⟨c_3, c_4⟩)⟩⟩)) hJ
            ·
              refine z_aload_n dX3_greatest_56 rfl ?_
              refine zm_get 0 dX3_greatest_57 q1742 rfl rfl ?_
              refine z_iload dX3_greatest_60 rfl ?_
              refine z_iconst dX3_greatest_62 (v := 2) rfl ?_
              refine z_iadd dX3_greatest_63 ?_
              refine zm_ld hA hP (P := P) (212 + 5 * K + 2) (v := σ (212 + 5 * K + 2)) dX3_greatest_64 (zn_to (zn_add rfl (zk 2)) (by omega)) (by omega) (rfl) ?_
              refine z_iconst dX3_greatest_65 (v := (-1)) rfl ?_
              refine z_icmp_ne (tgt := 86) dX3_greatest_66 (by decide) (fun c_5 => ?_) (fun c_5 => ?_)
              ·
                refine z_iconst dX3_greatest_86 (v := 0) rfl ?_
                exact z_jv (if_neg (fun z => (fun z => (fun z => z.elim (fun y => c_3 y.1) (fun y => c_5 y.2)) z.2) z.2)) hJ
              ·
                refine z_goto (tgt := 82) dX3_greatest_69 (by decide) ?_
                refine z_iconst dX3_greatest_82 (v := 1) rfl ?_
                refine z_goto (tgt := 87) dX3_greatest_83 (by decide) ?_
                exact z_jv (if_pos (⟨c_1, ⟨c_2, (Or.inr ⟨c_3, c_5⟩)⟩⟩)) hJ
      refine z_istore dX3_greatest_87 (by decide) ?_
      refine z_iload dX3_greatest_89 rfl ?_
      refine z_join 128 (.int (if (zf_lives σ K) ∧ (((σ (212 + 5 * K + 1)) = pool) ∧ (((bare = 0) ∧ (zf_isTight σ K)) ∨ (¬ (bare = 0) ∧ ((σ (212 + 5 * K + 2)) = (-1))))) then (if x = (-1) then (nI K) else (if (σ (212 + 5 * K)) ≤ (σ (212 + 5 * x.toNatClampNeg)) then x else (nI K))) else x)) 1 ?_ (fun hJ => ?_)
      rotate_left
      ·
        refine z_ifB_eq (tgt := 126) dX3_greatest_91 (by decide) (fun c_6 => ?_) (fun c_6 => ?_)
        ·
          refine z_iload dX3_greatest_126 rfl ?_
          exact z_jv (by simp only [if_neg c_6] <;> rfl) hJ
        ·
          refine z_iload dX3_greatest_94 rfl ?_
          refine z_iconst dX3_greatest_96 (v := (-1)) rfl ?_
          refine z_icmp_eq (tgt := 121) dX3_greatest_97 (by decide) (fun c_7 => ?_) (fun c_7 => ?_)
          ·
            refine z_iload dX3_greatest_121 rfl ?_
            refine z_goto (tgt := 128) dX3_greatest_123 (by decide) ?_
            exact z_jv (by simp only [if_pos c_6, if_pos c_7] <;> rfl) hJ
          ·
            refine z_aload_n dX3_greatest_100 rfl ?_
            refine zm_get 0 dX3_greatest_101 q1742 rfl rfl ?_
            refine z_iload dX3_greatest_104 rfl ?_
            refine zm_ld hA hP (P := P) (212 + 5 * K) (v := σ (212 + 5 * K)) dX3_greatest_106 (zn_to (rfl) (by omega)) (by omega) (rfl) ?_
            refine z_aload_n dX3_greatest_107 rfl ?_
            refine zm_get 0 dX3_greatest_108 q1742 rfl rfl ?_
            refine z_iload_n dX3_greatest_111 rfl ?_
            refine z_iload dX3_greatest_112 rfl ?_
            have lb_8 := (hinv c_7).2
            refine z_cS mX3_crab (k_crab (d := d - 1) hp ((hinv c_7).1) (by omega)) dX3_greatest_114 q1819 (by omega) rfl (Nat.le_of_ble_eq_true rfl) rfl ?_
            refine zm_ld hA hP (P := P) (212 + 5 * x.toNatClampNeg) (v := σ (212 + 5 * x.toNatClampNeg)) dX3_greatest_117 (zn_to (rfl) (by omega)) (by omega) (rfl) ?_
            refine z_icmp_le (tgt := 126) dX3_greatest_118 (by decide) (fun c_9 => ?_) (fun c_9 => ?_)
            ·
              refine z_iload dX3_greatest_126 rfl ?_
              exact z_jv (by simp only [if_pos c_6, if_neg c_7, if_pos c_9] <;> rfl) hJ
            ·
              refine z_iload dX3_greatest_121 rfl ?_
              refine z_goto (tgt := 128) dX3_greatest_123 (by decide) ?_
              exact z_jv (by simp only [if_pos c_6, if_neg c_7, if_neg c_9] <;> rfl) hJ
      refine z_istore dX3_greatest_128 (by decide) ?_
      refine z_iinc dX3_greatest_130 rfl (v := nI (K + 1)) (z_inc rfl) ?_
      refine z_goto (tgt := 6) dX3_greatest_133 (by decide) ?_
      refine z_loc (L2 := [some (.ref (A 0)), some (.int p), some (.int pool), some (.int bare), some (.int (if (zf_lives σ K) ∧ (((σ (212 + 5 * K + 1)) = pool) ∧ (((bare = 0) ∧ (zf_isTight σ K)) ∨ (¬ (bare = 0) ∧ ((σ (212 + 5 * K + 2)) = (-1))))) then (if x = (-1) then (nI K) else (if (σ (212 + 5 * K)) ≤ (σ (212 + 5 * x.toNatClampNeg)) then x else (nI K))) else x)), some (.int (nI (K + 1))), none, none]) ⟨rfl, rfl, rfl, rfl, rfl, rfl, trivial⟩ ?_
      exact ih (K + 1) (if (zf_lives σ K) ∧ (((σ (212 + 5 * K + 1)) = pool) ∧ (((bare = 0) ∧ (zf_isTight σ K)) ∨ (¬ (bare = 0) ∧ ((σ (212 + 5 * K + 2)) = (-1))))) then (if x = (-1) then (nI K) else (if (σ (212 + 5 * K)) ≤ (σ (212 + 5 * x.toNatClampNeg)) then x else (nI K))) else x) (by omega) (zix_ite2 (zix_ite2 (fun _ => zix_nI (by omega) (by omega)) (zix_ite2 hinv (fun _ => zix_nI (by omega) (by omega)))) hinv) hx
def zf_greatest (σ : Nat → Int32) (NC : Nat) (pool bare : Int32) : Int32 := zb_greatest σ pool bare NC 0 ((-1) : Int32)
set_option maxHeartbeats 4000000 in
theorem k_greatest {G : zE} {A : Nat → Nat} (hA : zinj A 5) {P : Nat} (hP : P ≤ 287) {σ s pa ke no f : Nat → Int32} {h0 : zH} {p : Int32} (hp : p = nI P) {NL NS NC : Nat} (hok : zok σ NL NS NC) {pool bare : Int32} {d : Nat} (hd : 4 ≤ d) : zCon G fX3_greatest d 0 0 [.ref (A 0), .int p, .int pool, .int bare] (mdl G A (zput P σ s) pa ke no f h0) (zA (.int (zf_greatest σ NC pool bare)) (mdl G A (zput P σ s) pa ke no f h0)) nX := by
  refine zCon.of9 (L := [some (.ref (A 0)), some (.int p), some (.int pool), some (.int bare), none, none, none, none]) (by simp [Value.category]) (Nat.le_of_ble_eq_true rfl) pX3 rfl rfl ?_
  obtain ⟨bL, bS, bC⟩ := hok.b
  refine z_iconst dX3_greatest_0 (v := (-1)) rfl ?_
  refine z_istore dX3_greatest_1 (by decide) ?_
  refine z_iconst dX3_greatest_3 (v := 0) rfl ?_
  refine z_istore dX3_greatest_4 (by decide) ?_
  refine z_loc (L2 := [some (.ref (A 0)), some (.int p), some (.int pool), some (.int bare), some (.int (-1)), some (.int 0), none, none]) ⟨rfl, rfl, rfl, rfl, rfl, rfl, trivial⟩ ?_
  refine l_greatest hA hP hp hok (by omega) NC 0 ((-1) : Int32) (by omega) (fun e => absurd rfl e) ?_
  refine z_iload dX3_greatest_136 rfl ?_
  refine z_ret dX3_greatest_138 rfl rfl ⟨rfl, rfl⟩
theorem zb_greatest_ix {σ : Nat → Int32} {pool bare : Int32} {N : Nat} (hN : N < 2 ^ 31) : ∀ (j K : Nat) (x : Int32), K + j = N → (¬ x = -1 → zix x N) → ¬ zb_greatest σ pool bare j K x = -1 → zix (zb_greatest σ pool bare j K x) N := by
  intro j
  induction j with
  | zero => intro K x _ hx; exact hx
  | succ j ih => intro K x hK hx; exact ih (K + 1) _ (by omega) (by repeat' (first | exact hx | exact (fun _ => zix_nI (by omega) hN) | apply zix_ite2))
theorem zf_greatest_ix {σ : Nat → Int32} {NC : Nat} {pool bare : Int32} (hN : NC ≤ 15) : ¬ zf_greatest σ NC pool bare = -1 → zix (zf_greatest σ NC pool bare) NC := zb_greatest_ix (by omega) NC 0 _ (by omega) (fun e => absurd rfl e)
def zb_wayOf (σ : Nat → Int32) (b NS : Nat) : Nat → Nat → Int32 → Int32 → Int32 × Int32
  | 0, _, x, y => (x, y)
  | j + 1, K, x, y => zb_wayOf σ b NS j (K + 1) (if ¬ ((if (nI K) = (σ (212 + 5 * b + 1)) then ((-1) : Int32) else (if zf_isWet σ K then (zf_better σ b NS (nI K)) else ((-1) : Int32))) = (-1)) ∧ (¬ ((zf_worthOf σ ((if (nI K) = (σ (212 + 5 * b + 1)) then ((-1) : Int32) else (if zf_isWet σ K then (zf_better σ b NS (nI K)) else ((-1) : Int32))).toNatClampNeg) b) ≤ y)) then (nI K) else x) (if ¬ ((if (nI K) = (σ (212 + 5 * b + 1)) then ((-1) : Int32) else (if zf_isWet σ K then (zf_better σ b NS (nI K)) else ((-1) : Int32))) = (-1)) ∧ (¬ ((zf_worthOf σ ((if (nI K) = (σ (212 + 5 * b + 1)) then ((-1) : Int32) else (if zf_isWet σ K then (zf_better σ b NS (nI K)) else ((-1) : Int32))).toNatClampNeg) b) ≤ y)) then (zf_worthOf σ ((if (nI K) = (σ (212 + 5 * b + 1)) then ((-1) : Int32) else (if zf_isWet σ K then (zf_better σ b NS (nI K)) else ((-1) : Int32))).toNatClampNeg) b) else y)
set_option maxHeartbeats 4000000 in
theorem l_wayOf {G : zE} {A : Nat → Nat} (hA : zinj A 5) {P : Nat} (hP : P ≤ 287) {σ s pa ke no f : Nat → Int32} {h0 : zH} {p : Int32} (hp : p = nI P) {NL NS NC : Nat} (hok : zok σ NL NS NC) {c : Int32} {b : Nat} (hb : c = nI b) (lb : b < NC) {d k n : Nat} (hd : 5 ≤ d) {Q : Option Value → zH → Prop} {X : String → zH → Prop} : ∀ (j K : Nat) (x : Int32) (y : Int32), K + j = 8 → zV G fX3_wayOf d 130 [some (.ref (A 0)), some (.int p), some (.int c), some (.int (σ (212 + 5 * b + 1))), some (.int ((zb_wayOf σ b NS j K x y).1)), some (.int ((zb_wayOf σ b NS j K x y).2)), none, none, none] [] (mdl G A (zput P σ s) pa ke no f h0) k n Q X → zV G fX3_wayOf d 27 [some (.ref (A 0)), some (.int p), some (.int c), some (.int (σ (212 + 5 * b + 1))), some (.int x), some (.int y), some (.int (nI K)), none, none] [] (mdl G A (zput P σ s) pa ke no f h0) k n Q X := by
  intro j
  induction j with
  | zero =>
    intro K x y hK hx
    have hK9 : K = 8 := by omega
    subst hK9
    refine z_iload dX3_wayOf_27 rfl ?_
    refine z_bipush dX3_wayOf_29 (v := 8) rfl ?_
    refine z_icmp_ge (tgt := 130) dX3_wayOf_31 (by decide) (fun hg => ?_) (fun hg => ?_)
    ·
      refine z_loc (L2 := [some (.ref (A 0)), some (.int p), some (.int c), some (.int (σ (212 + 5 * b + 1))), some (.int x), some (.int y), none, none, none]) ⟨rfl, rfl, rfl, rfl, rfl, rfl, trivial⟩ ?_
      exact hx
    · exact absurd (by rw [zk 8]; exact Int32.le_refl _) hg
  | succ j ih =>
    intro K x y hK hx
    obtain ⟨bL, bS, bC⟩ := hok.b
    refine z_iload dX3_wayOf_27 rfl ?_
    refine z_bipush dX3_wayOf_29 (v := 8) rfl ?_
    refine z_icmp_ge (tgt := 130) dX3_wayOf_31 (by decide) (fun hg => ?_) (fun hg => ?_)
    · exact absurd hg (by rw [zk 8]; exact nI_ge (by omega) (by omega))
    ·
      refine z_iload dX3_wayOf_34 rfl ?_
      refine z_iload_n dX3_wayOf_36 rfl ?_
      refine z_join 62 (.int (if (nI K) = (σ (212 + 5 * b + 1)) then ((-1) : Int32) else (if zf_isWet σ K then (zf_better σ b NS (nI K)) else ((-1) : Int32)))) 2 ?_ (fun hJ => ?_)
      rotate_left
      ·
        refine z_icmp_eq (tgt := 61) dX3_wayOf_37 (by decide) (fun c_1 => ?_) (fun c_1 => ?_)
        ·
          refine z_iconst dX3_wayOf_61 (v := (-1)) rfl ?_
          exact z_jv (by simp only [if_pos c_1] <;> rfl) hJ
        ·
          refine z_aload_n dX3_wayOf_40 rfl ?_
          refine z_iload_n dX3_wayOf_41 rfl ?_
          refine z_iload dX3_wayOf_42 rfl ?_
          refine z_cV zc7 mX3_isWet (k_isWet (d := d - 1) hA (P := P) hP hp rfl (by omega) (by omega)) dX3_wayOf_44 q1885 (by omega) rfl (Nat.le_of_ble_eq_true rfl) rfl mdl_0 rfl ?_
          refine z_ifB_eq (tgt := 61) dX3_wayOf_47 (by decide) (fun c_2 => ?_) (fun c_2 => ?_)
          ·
            refine z_iconst dX3_wayOf_61 (v := (-1)) rfl ?_
            exact z_jv (by simp only [if_neg c_1, if_neg c_2] <;> rfl) hJ
          ·
            refine z_aload_n dX3_wayOf_50 rfl ?_
            refine z_iload_n dX3_wayOf_51 rfl ?_
            refine z_iload_n dX3_wayOf_52 rfl ?_
            refine z_iload dX3_wayOf_53 rfl ?_
            refine z_cV zc7 mX3_better (k_better (d := d - 1) hA (P := P) hP hp hok hb (by omega) (by omega)) dX3_wayOf_55 q1925 (by omega) rfl (Nat.le_of_ble_eq_true rfl) rfl mdl_0 rfl ?_
            refine z_goto (tgt := 62) dX3_wayOf_58 (by decide) ?_
            exact z_jv (by simp only [if_neg c_1, if_pos c_2] <;> rfl) hJ
      refine z_istore dX3_wayOf_62 (by decide) ?_
      refine z_iload dX3_wayOf_64 rfl ?_
      refine z_iconst dX3_wayOf_66 (v := (-1)) rfl ?_
      refine z_join 88 (.int (if ¬ ((if (nI K) = (σ (212 + 5 * b + 1)) then ((-1) : Int32) else (if zf_isWet σ K then (zf_better σ b NS (nI K)) else ((-1) : Int32))) = (-1)) ∧ (¬ ((zf_worthOf σ ((if (nI K) = (σ (212 + 5 * b + 1)) then ((-1) : Int32) else (if zf_isWet σ K then (zf_better σ b NS (nI K)) else ((-1) : Int32))).toNatClampNeg) b) ≤ y)) then (1 : Int32) else 0)) 2 ?_ (fun hJ => ?_)
      rotate_left
      ·
        refine z_icmp_eq (tgt := 87) dX3_wayOf_67 (by decide) (fun c_3 => ?_) (fun c_3 => ?_)
        ·
          refine z_iconst dX3_wayOf_87 (v := 0) rfl ?_
          exact z_jv (if_neg (fun z => z.1 c_3)) hJ
        ·
          refine z_aload_n dX3_wayOf_70 rfl ?_
          refine z_iload_n dX3_wayOf_71 rfl ?_
          refine z_iload dX3_wayOf_72 rfl ?_
          refine z_iload_n dX3_wayOf_74 rfl ?_
          have lb_4 := ((zix_ite2 (fun e => absurd rfl e) (zix_ite2 (zf_better_ix (by omega)) (fun e => absurd rfl e))) c_3).2
          refine z_cV zc7 mX3_worthOf (k_worthOf (d := d - 1) hA (P := P) hP hp (((zix_ite2 (fun e => absurd rfl e) (zix_ite2 (zf_better_ix (by omega)) (fun e => absurd rfl e))) c_3).1) hb (by omega) (by omega) (by omega)) dX3_wayOf_75 q1921 (by omega) rfl (Nat.le_of_ble_eq_true rfl) rfl mdl_0 rfl ?_
          refine z_iload dX3_wayOf_78 rfl ?_
          refine z_icmp_le (tgt := 87) dX3_wayOf_80 (by decide) (fun c_5 => ?_) (fun c_5 => ?_)
          ·
            refine z_iconst dX3_wayOf_87 (v := 0) rfl ?_
            exact z_jv (if_neg (fun z => (fun z => z c_5) z.2)) hJ
          ·
            refine z_iconst dX3_wayOf_83 (v := 1) rfl ?_
            refine z_goto (tgt := 88) dX3_wayOf_84 (by decide) ?_
            exact z_jv (if_pos (⟨c_3, c_5⟩)) hJ
      refine z_istore dX3_wayOf_88 (by decide) ?_
      refine z_iload dX3_wayOf_90 rfl ?_
      refine z_join 102 (.int (if ¬ ((if (nI K) = (σ (212 + 5 * b + 1)) then ((-1) : Int32) else (if zf_isWet σ K then (zf_better σ b NS (nI K)) else ((-1) : Int32))) = (-1)) ∧ (¬ ((zf_worthOf σ ((if (nI K) = (σ (212 + 5 * b + 1)) then ((-1) : Int32) else (if zf_isWet σ K then (zf_better σ b NS (nI K)) else ((-1) : Int32))).toNatClampNeg) b) ≤ y)) then (nI K) else x)) 1 ?_ (fun hJ => ?_)
      rotate_left
      ·
        refine z_ifB_eq (tgt := 100) dX3_wayOf_92 (by decide) (fun c_6 => ?_) (fun c_6 => ?_)
        ·
          refine z_iload dX3_wayOf_100 rfl ?_
          exact z_jv (by simp only [if_neg c_6] <;> rfl) hJ
        ·
          refine z_iload dX3_wayOf_95 rfl ?_
          refine z_goto (tgt := 102) dX3_wayOf_97 (by decide) ?_
          exact z_jv (by simp only [if_pos c_6] <;> rfl) hJ
      refine z_istore dX3_wayOf_102 (by decide) ?_
      refine z_iload dX3_wayOf_104 rfl ?_
      refine z_join 122 (.int (if ¬ ((if (nI K) = (σ (212 + 5 * b + 1)) then ((-1) : Int32) else (if zf_isWet σ K then (zf_better σ b NS (nI K)) else ((-1) : Int32))) = (-1)) ∧ (¬ ((zf_worthOf σ ((if (nI K) = (σ (212 + 5 * b + 1)) then ((-1) : Int32) else (if zf_isWet σ K then (zf_better σ b NS (nI K)) else ((-1) : Int32))).toNatClampNeg) b) ≤ y)) then (zf_worthOf σ ((if (nI K) = (σ (212 + 5 * b + 1)) then ((-1) : Int32) else (if zf_isWet σ K then (zf_better σ b NS (nI K)) else ((-1) : Int32))).toNatClampNeg) b) else y)) 1 ?_ (fun hJ => ?_)
      rotate_left
      ·
        refine z_ifB_eq (tgt := 120) dX3_wayOf_106 (by decide) (fun c_7 => ?_) (fun c_7 => ?_)
        ·
          refine z_iload dX3_wayOf_120 rfl ?_
          exact z_jv (by simp only [if_neg c_7] <;> rfl) hJ
        ·
          refine z_aload_n dX3_wayOf_109 rfl ?_
          refine z_iload_n dX3_wayOf_110 rfl ?_
          refine z_iload dX3_wayOf_111 rfl ?_
          refine z_iload_n dX3_wayOf_113 rfl ?_
          have lb_8 := ((zix_ite2 (fun e => absurd rfl e) (zix_ite2 (zf_better_ix (by omega)) (fun e => absurd rfl e))) c_7.1).2
          refine z_cV zc7 mX3_worthOf (k_worthOf (d := d - 1) hA (P := P) hP hp (((zix_ite2 (fun e => absurd rfl e) (zix_ite2 (zf_better_ix (by omega)) (fun e => absurd rfl e))) c_7.1).1) hb (by omega) (by omega) (by omega)) dX3_wayOf_114 q1921 (by omega) rfl (Nat.le_of_ble_eq_true rfl) rfl mdl_0 rfl ?_
          refine z_goto (tgt := 122) dX3_wayOf_117 (by decide) ?_
          exact z_jv (by simp only [if_pos c_7] <;> rfl) hJ
      refine z_istore dX3_wayOf_122 (by decide) ?_
      refine z_iinc dX3_wayOf_124 rfl (v := nI (K + 1)) (z_inc rfl) ?_
      refine z_goto (tgt := 27) dX3_wayOf_127 (by decide) ?_
      refine z_loc (L2 := [some (.ref (A 0)), some (.int p), some (.int c), some (.int (σ (212 + 5 * b + 1))), some (.int (if ¬ ((if (nI K) = (σ (212 + 5 * b + 1)) then ((-1) : Int32) else (if zf_isWet σ K then (zf_better σ b NS (nI K)) else ((-1) : Int32))) = (-1)) ∧ (¬ ((zf_worthOf σ ((if (nI K) = (σ (212 + 5 * b + 1)) then ((-1) : Int32) else (if zf_isWet σ K then (zf_better σ b NS (nI K)) else ((-1) : Int32))).toNatClampNeg) b) ≤ y)) then (nI K) else x)), some (.int (if ¬ ((if (nI K) = (σ (212 + 5 * b + 1)) then ((-1) : Int32) else (if zf_isWet σ K then (zf_better σ b NS (nI K)) else ((-1) : Int32))) = (-1)) ∧ (¬ ((zf_worthOf σ ((if (nI K) = (σ (212 + 5 * b + 1)) then ((-1) : Int32) else (if zf_isWet σ K then (zf_better σ b NS (nI K)) else ((-1) : Int32))).toNatClampNeg) b) ≤ y)) then (zf_worthOf σ ((if (nI K) = (σ (212 + 5 * b + 1)) then ((-1) : Int32) else (if zf_isWet σ K then (zf_better σ b NS (nI K)) else ((-1) : Int32))).toNatClampNeg) b) else y)), some (.int (nI (K + 1))), none, none]) ⟨rfl, rfl, rfl, rfl, rfl, rfl, rfl, trivial⟩ ?_
      exact ih (K + 1) (if ¬ ((if (nI K) = (σ (212 + 5 * b + 1)) then ((-1) : Int32) else (if zf_isWet σ K then (zf_better σ b NS (nI K)) else ((-1) : Int32))) = (-1)) ∧ (¬ ((zf_worthOf σ ((if (nI K) = (σ (212 + 5 * b + 1)) then ((-1) : Int32) else (if zf_isWet σ K then (zf_better σ b NS (nI K)) else ((-1) : Int32))).toNatClampNeg) b) ≤ y)) then (nI K) else x) (if ¬ ((if (nI K) = (σ (212 + 5 * b + 1)) then ((-1) : Int32) else (if zf_isWet σ K then (zf_better σ b NS (nI K)) else ((-1) : Int32))) = (-1)) ∧ (¬ ((zf_worthOf σ ((if (nI K) = (σ (212 + 5 * b + 1)) then ((-1) : Int32) else (if zf_isWet σ K then (zf_better σ b NS (nI K)) else ((-1) : Int32))).toNatClampNeg) b) ≤ y)) then (zf_worthOf σ ((if (nI K) = (σ (212 + 5 * b + 1)) then ((-1) : Int32) else (if zf_isWet σ K then (zf_better σ b NS (nI K)) else ((-1) : Int32))).toNatClampNeg) b) else y) (by omega) hx
def zf_wayOf (σ : Nat → Int32) (b NS : Nat) : Int32 := (zb_wayOf σ b NS 8 0 ((-1) : Int32) (zf_worn σ b)).1
set_option maxHeartbeats 4000000 in
theorem k_wayOf {G : zE} {A : Nat → Nat} (hA : zinj A 5) {P : Nat} (hP : P ≤ 287) {σ s pa ke no f : Nat → Int32} {h0 : zH} {p : Int32} (hp : p = nI P) {NL NS NC : Nat} (hok : zok σ NL NS NC) {c : Int32} {b : Nat} (hb : c = nI b) (lb : b < NC) {d : Nat} (hd : 6 ≤ d) : zCon G fX3_wayOf d 0 0 [.ref (A 0), .int p, .int c] (mdl G A (zput P σ s) pa ke no f h0) (zA (.int (zf_wayOf σ b NS)) (mdl G A (zput P σ s) pa ke no f h0)) nX := by
  refine zCon.of9 (L := [some (.ref (A 0)), some (.int p), some (.int c), none, none, none, none, none, none]) (by simp [Value.category]) (Nat.le_of_ble_eq_true rfl) pX3 rfl rfl ?_
  obtain ⟨bL, bS, bC⟩ := hok.b
  refine z_aload_n dX3_wayOf_0 rfl ?_
  refine zm_get 0 dX3_wayOf_1 q1742 rfl rfl ?_
  refine z_iload_n dX3_wayOf_4 rfl ?_
  refine z_iload_n dX3_wayOf_5 rfl ?_
  refine z_cS mX3_crab (k_crab (d := d - 1) hp hb (by omega)) dX3_wayOf_6 q1819 (by omega) rfl (Nat.le_of_ble_eq_true rfl) rfl ?_
  refine z_iconst dX3_wayOf_9 (v := 1) rfl ?_
  refine z_iadd dX3_wayOf_10 ?_
  refine zm_ld hA hP (P := P) (212 + 5 * b + 1) (v := σ (212 + 5 * b + 1)) dX3_wayOf_11 (zn_to (zn_add rfl (zk 1)) (by omega)) (by omega) (rfl) ?_
  refine z_istore_n dX3_wayOf_12 (by decide) ?_
  refine z_iconst dX3_wayOf_13 (v := (-1)) rfl ?_
  refine z_istore dX3_wayOf_14 (by decide) ?_
  refine z_aload_n dX3_wayOf_16 rfl ?_
  refine z_iload_n dX3_wayOf_17 rfl ?_
  refine z_iload_n dX3_wayOf_18 rfl ?_
  refine z_cV zc7 mX3_worn (k_worn (d := d - 1) hA (P := P) hP hp hok hb (by omega) (by omega)) dX3_wayOf_19 q1917 (by omega) rfl (Nat.le_of_ble_eq_true rfl) rfl mdl_0 rfl ?_
  refine z_istore dX3_wayOf_22 (by decide) ?_
  refine z_iconst dX3_wayOf_24 (v := 0) rfl ?_
  refine z_istore dX3_wayOf_25 (by decide) ?_
  refine z_loc (L2 := [some (.ref (A 0)), some (.int p), some (.int c), some (.int (σ (212 + 5 * b + 1))), some (.int (-1)), some (.int (zf_worn σ b)), some (.int 0), none, none]) ⟨rfl, rfl, rfl, rfl, rfl, rfl, rfl, trivial⟩ ?_
  refine l_wayOf hA hP hp hok hb lb (by omega) 8 0 ((-1) : Int32) (zf_worn σ b) (by omega) ?_
  refine z_iload dX3_wayOf_130 rfl ?_
  refine z_ret dX3_wayOf_132 rfl rfl ⟨rfl, rfl⟩
theorem zb_wayOf_ix {σ : Nat → Int32} {b NS : Nat} : ∀ (j K : Nat) (x y : Int32), K + j = 8 → (¬ x = -1 → zix x 8) → ¬ (zb_wayOf σ b NS j K x y).1 = -1 → zix (zb_wayOf σ b NS j K x y).1 8 := by
  intro j
  induction j with
  | zero => intro K x y _ hx; exact hx
  | succ j ih => intro K x y hK hx; exact ih (K + 1) _ _ (by omega) (zix_if hx (by omega) (by omega))
theorem zf_wayOf_ix {σ : Nat → Int32} {b NS : Nat} : ¬ zf_wayOf σ b NS = -1 → zix (zf_wayOf σ b NS) 8 := zb_wayOf_ix 8 0 _ _ (by omega) (fun e => absurd rfl e)
def zr_wanders_141 (NS : Nat) (K : Nat) (σ : Nat → Int32) : Nat → Int32 := if (if (zf_lives σ K) ∧ ((zf_isWet σ ((σ (212 + 5 * K + 1)).toNatClampNeg)) ∧ (((σ (212 + 5 * K + 2)) = (-1)) ∨ (zf_isTight σ K))) then (zf_wayOf σ K NS) else ((-1) : Int32)) = (-1) then σ else (if (σ (212 + 5 * K + 2)) = (-1) then (upd σ (212 + 5 * K + 1) (if (zf_lives σ K) ∧ ((zf_isWet σ ((σ (212 + 5 * K + 1)).toNatClampNeg)) ∧ (((σ (212 + 5 * K + 2)) = (-1)) ∨ (zf_isTight σ K))) then (zf_wayOf σ K NS) else ((-1) : Int32))) else (upd (upd σ (212 + 5 * K + 1) (if (zf_lives σ K) ∧ ((zf_isWet σ ((σ (212 + 5 * K + 1)).toNatClampNeg)) ∧ (((σ (212 + 5 * K + 2)) = (-1)) ∨ (zf_isTight σ K))) then (zf_wayOf σ K NS) else ((-1) : Int32))) (133 + 3 * ((σ (212 + 5 * K + 2)).toNatClampNeg) + 1) (if (zf_lives σ K) ∧ ((zf_isWet σ ((σ (212 + 5 * K + 1)).toNatClampNeg)) ∧ (((σ (212 + 5 * K + 2)) = (-1)) ∨ (zf_isTight σ K))) then (zf_wayOf σ K NS) else ((-1) : Int32))))
theorem zok_wanders_141 {NS : Nat} {K : Nat} {σ : Nat → Int32} {NL NC : Nat} (hok : zok σ NL NS NC) (lK : K < NC) : zok (zr_wanders_141 NS K σ) NL NS NC := by
  obtain ⟨bL, bS, bC⟩ := hok.b
  unfold zr_wanders_141
  exact zok_ite (fun hc0 => hok) (fun hc0 => zok_ite (fun hc1 => (hok.cpw (k := K) (by omega) ((zix_ite2 zf_wayOf_ix (fun e => absurd rfl e)) hc0))) (fun hc1 => ((hok.cpw (k := K) (by omega) ((zix_ite2 zf_wayOf_ix (fun e => absurd rfl e)) hc0)).shw (k := ((σ (212 + 5 * K + 2)).toNatClampNeg)) (i := 1) ((hok.cw (k := K) (by omega) hc1)).2 (by omega))))
def zb_wanders (NS : Nat) : Nat → Nat → (Nat → Int32) → (Nat → Int32)
  | 0, _, σ => σ
  | j + 1, K, σ => zb_wanders NS j (K + 1) (zr_wanders_141 NS K σ)
theorem zokb_wanders {NS : Nat} {NL NC : Nat} : ∀ (j K : Nat) (σ : (Nat → Int32)), K + j = NC → zok σ NL NS NC → zok (zb_wanders NS j K σ) NL NS NC := by
  intro j
  induction j with
  | zero => intro K σ _ hok; exact hok
  | succ j ih =>
    intro K σ hK hok
    obtain ⟨bL, bS, bC⟩ := hok.b
    show zok (zb_wanders NS j (K + 1) (zr_wanders_141 NS K σ)) NL NS NC
    exact ih (K + 1) (zr_wanders_141 NS K σ) (by omega) (zok_wanders_141 hok (by omega))
set_option maxHeartbeats 4000000 in
theorem l_wanders {G : zE} {A : Nat → Nat} (hA : zinj A 5) {P : Nat} (hP : P ≤ 287) {s pa ke no f : Nat → Int32} {h0 : zH} {p : Int32} (hp : p = nI P) {NL NS NC : Nat} {d k n : Nat} (hd : 7 ≤ d) {Q : Option Value → zH → Prop} {X : String → zH → Prop} : ∀ (j K : Nat) (σ : (Nat → Int32)), K + j = NC → zok σ NL NS NC → zV G fX3_wanders d 147 [some (.ref (A 0)), some (.int p), none, none, none, none] [] (mdl G A (zput P (zb_wanders NS j K σ) s) pa ke no f h0) k n Q X → zV G fX3_wanders d 2 [some (.ref (A 0)), some (.int p), some (.int (nI K)), none, none, none] [] (mdl G A (zput P σ s) pa ke no f h0) k n Q X := by
  intro j
  induction j with
  | zero =>
    intro K σ hK hinv hx
    have hK9 : K = NC := by omega
    subst hK9
    refine z_iload_n dX3_wanders_2 rfl ?_
    refine z_aload_n dX3_wanders_3 rfl ?_
    refine zm_get 0 dX3_wanders_4 q1742 rfl rfl ?_
    refine z_iload_n dX3_wanders_7 rfl ?_
    refine z_sipush dX3_wanders_8 (v := 211) rfl ?_
    refine z_iadd dX3_wanders_11 ?_
    refine zm_ld hA hP (P := P) (211) (v := σ 211) dX3_wanders_12 (zn_to (zn_add hp (zk 211)) (by omega)) (by omega) (rfl) ?_
    refine z_icmp_ge (tgt := 147) dX3_wanders_13 (by decide) (fun hg => ?_) (fun hg => ?_)
    ·
      refine z_loc (L2 := [some (.ref (A 0)), some (.int p), none, none, none, none]) ⟨rfl, rfl, trivial⟩ ?_
      exact hx
    · exact absurd (by rw [hinv.nc]; exact Int32.le_refl _) hg
  | succ j ih =>
    intro K σ hK hinv hx
    obtain ⟨bL, bS, bC⟩ := hinv.b
    refine z_iload_n dX3_wanders_2 rfl ?_
    refine z_aload_n dX3_wanders_3 rfl ?_
    refine zm_get 0 dX3_wanders_4 q1742 rfl rfl ?_
    refine z_iload_n dX3_wanders_7 rfl ?_
    refine z_sipush dX3_wanders_8 (v := 211) rfl ?_
    refine z_iadd dX3_wanders_11 ?_
    refine zm_ld hA hP (P := P) (211) (v := σ 211) dX3_wanders_12 (zn_to (zn_add hp (zk 211)) (by omega)) (by omega) (rfl) ?_
    refine z_icmp_ge (tgt := 147) dX3_wanders_13 (by decide) (fun hg => ?_) (fun hg => ?_)
    · exact absurd hg (by rw [hinv.nc]; exact nI_ge (by omega) (by omega))
    ·
      refine z_iload_n dX3_wanders_16 rfl ?_
      refine z_iload_n dX3_wanders_17 rfl ?_
      refine z_cS mX3_crab (k_crab (d := d - 1) hp rfl (by omega)) dX3_wanders_18 q1819 (by omega) rfl (Nat.le_of_ble_eq_true rfl) rfl ?_
      refine z_istore_n dX3_wanders_21 (by decide) ?_
      refine z_aload_n dX3_wanders_22 rfl ?_
      refine z_iload_n dX3_wanders_23 rfl ?_
      refine z_iload_n dX3_wanders_24 rfl ?_
      refine z_cV zc7 mX3_lives (k_lives (d := d - 1) hA (P := P) hP hp rfl (by omega) (by omega)) dX3_wanders_25 q1905 (by omega) rfl (Nat.le_of_ble_eq_true rfl) rfl mdl_0 rfl ?_
      refine z_join 73 (.int (if (zf_lives σ K) ∧ ((zf_isWet σ ((σ (212 + 5 * K + 1)).toNatClampNeg)) ∧ (((σ (212 + 5 * K + 2)) = (-1)) ∨ (zf_isTight σ K))) then (1 : Int32) else 0)) 1 ?_ (fun hJ => ?_)
      rotate_left
      ·
        refine z_ifB_eq (tgt := 72) dX3_wanders_28 (by decide) (fun c_1 => ?_) (fun c_1 => ?_)
        ·
          refine z_iconst dX3_wanders_72 (v := 0) rfl ?_
          exact z_jv (if_neg (fun z => c_1 z.1)) hJ
        ·
          refine z_aload_n dX3_wanders_31 rfl ?_
          refine z_iload_n dX3_wanders_32 rfl ?_
          refine z_aload_n dX3_wanders_33 rfl ?_
          refine zm_get 0 dX3_wanders_34 q1742 rfl rfl ?_
          refine z_iload_n dX3_wanders_37 rfl ?_
          refine z_iconst dX3_wanders_38 (v := 1) rfl ?_
          refine z_iadd dX3_wanders_39 ?_
          refine zm_ld hA hP (P := P) (212 + 5 * K + 1) (v := σ (212 + 5 * K + 1)) dX3_wanders_40 (zn_to (zn_add rfl (zk 1)) (by omega)) (by omega) (rfl) ?_
          have lb_2 := (hinv.cp (k := K) (by omega)).2
          refine z_cV zc7 mX3_isWet (k_isWet (d := d - 1) hA (P := P) hP hp ((hinv.cp (k := K) (by omega)).1) (by omega) (by omega)) dX3_wanders_41 q1885 (by omega) rfl (Nat.le_of_ble_eq_true rfl) rfl mdl_0 rfl ?_
          refine z_ifB_eq (tgt := 72) dX3_wanders_44 (by decide) (fun c_3 => ?_) (fun c_3 => ?_)
          ·
            refine z_iconst dX3_wanders_72 (v := 0) rfl ?_
            exact z_jv (if_neg (fun z => (fun z => c_3 z.1) z.2)) hJ
          ·
            refine z_aload_n dX3_wanders_47 rfl ?_
            refine zm_get 0 dX3_wanders_48 q1742 rfl rfl ?_
            refine z_iload_n dX3_wanders_51 rfl ?_
            refine z_iconst dX3_wanders_52 (v := 2) rfl ?_
            refine z_iadd dX3_wanders_53 ?_
            refine zm_ld hA hP (P := P) (212 + 5 * K + 2) (v := σ (212 + 5 * K + 2)) dX3_wanders_54 (zn_to (zn_add rfl (zk 2)) (by omega)) (by omega) (rfl) ?_
            refine z_iconst dX3_wanders_55 (v := (-1)) rfl ?_
            refine z_icmp_eq (tgt := 68) dX3_wanders_56 (by decide) (fun c_4 => ?_) (fun c_4 => ?_)
            ·
              refine z_iconst dX3_wanders_68 (v := 1) rfl ?_
              refine z_goto (tgt := 73) dX3_wanders_69 (by decide) ?_
              exact z_jv (if_pos (⟨c_1, ⟨c_3, (Or.inl c_4)⟩⟩)) hJ
            ·
              refine z_aload_n dX3_wanders_59 rfl ?_
              refine z_iload_n dX3_wanders_60 rfl ?_
              refine z_iload_n dX3_wanders_61 rfl ?_
              refine z_cV zc7 mX3_isTight (k_isTight (d := d - 1) hA (P := P) hP hp hinv rfl (by omega) (by omega)) dX3_wanders_62 q1909 (by omega) rfl (Nat.le_of_ble_eq_true rfl) rfl mdl_0 rfl ?_
              refine z_ifB_eq (tgt := 72) dX3_wanders_65 (by decide) (fun c_5 => ?_) (fun c_5 => ?_)
              ·
                refine z_iconst dX3_wanders_72 (v := 0) rfl ?_
                exact z_jv (if_neg (fun z => (fun z => (fun z => z.elim c_4 c_5) z.2) z.2)) hJ
              ·
                refine z_iconst dX3_wanders_68 (v := 1) rfl ?_
                refine z_goto (tgt := 73) dX3_wanders_69 (by decide) ?_
                exact z_jv (if_pos (⟨c_1, ⟨c_3, (Or.inr c_5)⟩⟩)) hJ
      refine z_istore dX3_wanders_73 (by decide) ?_
      refine z_iload dX3_wanders_75 rfl ?_
      refine z_join 90 (.int (if (zf_lives σ K) ∧ ((zf_isWet σ ((σ (212 + 5 * K + 1)).toNatClampNeg)) ∧ (((σ (212 + 5 * K + 2)) = (-1)) ∨ (zf_isTight σ K))) then (zf_wayOf σ K NS) else ((-1) : Int32))) 1 ?_ (fun hJ => ?_)
      rotate_left
      ·
        refine z_ifB_eq (tgt := 89) dX3_wanders_77 (by decide) (fun c_6 => ?_) (fun c_6 => ?_)
        ·
          refine z_iconst dX3_wanders_89 (v := (-1)) rfl ?_
          exact z_jv (by simp only [if_neg c_6] <;> rfl) hJ
        ·
          refine z_aload_n dX3_wanders_80 rfl ?_
          refine z_iload_n dX3_wanders_81 rfl ?_
          refine z_iload_n dX3_wanders_82 rfl ?_
          refine z_cV zc7 mX3_wayOf (k_wayOf (d := d - 1) hA (P := P) hP hp hinv rfl (by omega) (by omega)) dX3_wanders_83 q1913 (by omega) rfl (Nat.le_of_ble_eq_true rfl) rfl mdl_0 rfl ?_
          refine z_goto (tgt := 90) dX3_wanders_86 (by decide) ?_
          exact z_jv (by simp only [if_pos c_6] <;> rfl) hJ
      refine z_istore dX3_wanders_90 (by decide) ?_
      refine z_iload dX3_wanders_92 rfl ?_
      refine z_iconst dX3_wanders_94 (v := (-1)) rfl ?_
      refine z_joinH 141 [some (.ref (A 0)), some (.int p), some (.int (nI K)), some (.int (nI (P + (212 + 5 * K)))), some (.int (if (zf_lives σ K) ∧ ((zf_isWet σ ((σ (212 + 5 * K + 1)).toNatClampNeg)) ∧ (((σ (212 + 5 * K + 2)) = (-1)) ∨ (zf_isTight σ K))) then (1 : Int32) else 0)), some (.int (if (zf_lives σ K) ∧ ((zf_isWet σ ((σ (212 + 5 * K + 1)).toNatClampNeg)) ∧ (((σ (212 + 5 * K + 2)) = (-1)) ∨ (zf_isTight σ K))) then (zf_wayOf σ K NS) else ((-1) : Int32)))] (mdl G A (zput P (zr_wanders_141 NS K σ) s) pa ke no f h0) 2 ?_ (fun hJ => ?_)
      rotate_left
      ·
        refine z_icmp_eq (tgt := 141) dX3_wanders_95 (by decide) (fun c_7 => ?_) (fun c_7 => ?_)
        ·
          exact z_jH (by first | rfl | (simp only [if_pos c_7] <;> rfl)) (by simp only [zr_wanders_141, if_pos c_7]) hJ
        ·
          refine z_aload_n dX3_wanders_98 rfl ?_
          refine zm_get 0 dX3_wanders_99 q1742 rfl rfl ?_
          refine z_iload_n dX3_wanders_102 rfl ?_
          refine z_iconst dX3_wanders_103 (v := 1) rfl ?_
          refine z_iadd dX3_wanders_104 ?_
          refine z_iload dX3_wanders_105 rfl ?_
          refine zm_st hA hP (P := P) (212 + 5 * K + 1) dX3_wanders_107 (zn_to (zn_add rfl (zk 1)) (by omega)) (by omega) ?_
          refine z_aload_n dX3_wanders_108 rfl ?_
          refine zm_get 0 dX3_wanders_109 q1742 rfl rfl ?_
          refine z_iload_n dX3_wanders_112 rfl ?_
          refine z_iconst dX3_wanders_113 (v := 2) rfl ?_
          refine z_iadd dX3_wanders_114 ?_
          refine zm_ld hA hP (P := P) (212 + 5 * K + 2) (v := σ (212 + 5 * K + 2)) dX3_wanders_115 (zn_to (zn_add rfl (zk 2)) (by omega)) (by omega) ((pk_un (by omega)).trans (rfl)) ?_
          refine z_iconst dX3_wanders_116 (v := (-1)) rfl ?_
          refine z_icmp_eq (tgt := 141) dX3_wanders_117 (by decide) (fun c_8 => ?_) (fun c_8 => ?_)
          ·
            exact z_jH (by first | rfl | (simp only [if_neg c_7, if_pos c_8] <;> rfl)) (by simp only [zr_wanders_141, if_neg c_7, if_pos c_8]) hJ
          ·
            refine z_aload_n dX3_wanders_120 rfl ?_
            refine zm_get 0 dX3_wanders_121 q1742 rfl rfl ?_
            refine z_iload_n dX3_wanders_124 rfl ?_
            refine z_aload_n dX3_wanders_125 rfl ?_
            refine zm_get 0 dX3_wanders_126 q1742 rfl rfl ?_
            refine z_iload_n dX3_wanders_129 rfl ?_
            refine z_iconst dX3_wanders_130 (v := 2) rfl ?_
            refine z_iadd dX3_wanders_131 ?_
            refine zm_ld hA hP (P := P) (212 + 5 * K + 2) (v := σ (212 + 5 * K + 2)) dX3_wanders_132 (zn_to (zn_add rfl (zk 2)) (by omega)) (by omega) ((pk_un (by omega)).trans (rfl)) ?_
            have lb_9 := (hinv.cw (k := K) (by omega) c_8).2
            refine z_cS mX3_shell (k_shell (d := d - 1) hp ((hinv.cw (k := K) (by omega) c_8).1) (by omega)) dX3_wanders_133 q1834 (by omega) rfl (Nat.le_of_ble_eq_true rfl) rfl ?_
            refine z_iconst dX3_wanders_136 (v := 1) rfl ?_
            refine z_iadd dX3_wanders_137 ?_
            refine z_iload dX3_wanders_138 rfl ?_
            refine zm_st hA hP (P := P) (133 + 3 * ((σ (212 + 5 * K + 2)).toNatClampNeg) + 1) dX3_wanders_140 (zn_to (zn_add rfl (zk 1)) (by omega)) (by omega) ?_
            exact z_jH (by first | rfl | (simp only [if_neg c_7, if_neg c_8] <;> rfl)) (by simp only [zr_wanders_141, if_neg c_7, if_neg c_8]) hJ
      refine z_iinc dX3_wanders_141 rfl (v := nI (K + 1)) (z_inc rfl) ?_
      refine z_goto (tgt := 2) dX3_wanders_144 (by decide) ?_
      refine z_loc (L2 := [some (.ref (A 0)), some (.int p), some (.int (nI (K + 1))), none, none, none]) ⟨rfl, rfl, rfl, trivial⟩ ?_
      exact ih (K + 1) (zr_wanders_141 NS K σ) (by omega) (zok_wanders_141 hinv (by omega)) hx
def zr_wanders (σ : Nat → Int32) (NS NC : Nat) : Nat → Int32 := zb_wanders NS NC 0 σ
theorem zok_wanders {σ : Nat → Int32} {NS : Nat} {NC : Nat} {NL : Nat} (hok : zok σ NL NS NC) : zok (zr_wanders σ NS NC) NL NS NC := by
  obtain ⟨bL, bS, bC⟩ := hok.b
  unfold zr_wanders
  exact (zokb_wanders _ _ _ (by omega) hok)
set_option maxHeartbeats 4000000 in
theorem k_wanders {G : zE} {A : Nat → Nat} (hA : zinj A 5) {P : Nat} (hP : P ≤ 287) {σ s pa ke no f : Nat → Int32} {h0 : zH} {p : Int32} (hp : p = nI P) {NL NS NC : Nat} (hok : zok σ NL NS NC) {d : Nat} (hd : 8 ≤ d) : zCon G fX3_wanders d 0 0 [.ref (A 0), .int p] (mdl G A (zput P σ s) pa ke no f h0) (zAv (mdl G A (zput P (zr_wanders σ NS NC) s) pa ke no f h0)) nX := by
  refine zCon.of9 (L := [some (.ref (A 0)), some (.int p), none, none, none, none]) (by simp [Value.category]) (Nat.le_of_ble_eq_true rfl) pX3 rfl rfl ?_
  refine z_iconst dX3_wanders_0 (v := 0) rfl ?_
  refine z_istore_n dX3_wanders_1 (by decide) ?_
  refine z_loc (L2 := [some (.ref (A 0)), some (.int p), some (.int 0), none, none, none]) ⟨rfl, rfl, rfl, trivial⟩ ?_
  refine l_wanders hA hP hp (by omega) NC 0 σ (by omega) hok ?_
  refine z_vret dX3_wanders_147 rfl ⟨rfl, rfl⟩
