/-! THE COMPONENT, part 2: the best shell, shells left and taken -/
set_option maxRecDepth 100000
def zcb_bestShell (σ : Nat → Int32) (b : Nat) (p : Int32) : Nat → Nat → Int32 → Int32 → Int32 × Int32
  | 0, _, x, y => (x, y)
  | j + 1, K, x, y => zcb_bestShell σ b p j (K + 1) (if σ (133 + 3 * K + 2) = -1 ∧ σ (133 + 3 * K + 1) = p then (if (zf_worthOf σ K b) ≤ y then x else (nI K)) else x) (if σ (133 + 3 * K + 2) = -1 ∧ σ (133 + 3 * K + 1) = p then (if (zf_worthOf σ K b) ≤ y then y else (zf_worthOf σ K b)) else y)
set_option maxHeartbeats 4000000 in
theorem lc_bestShell {G : zE} (hG : zGG G) {A B I : Nat → Nat} {NL NS NC : Nat} (hB : zcb A B I NL NS NC) {e nt : Nat} {sn rc : Value} {t w o σ : Nat → Int32} {lo : Int32} {h0 : zH} (hok : zok σ NL NS NC) {b : Nat} (lb : b < NC) {p : Int32} {d k n : Nat} (hd : 4 ≤ d) {Q : Option Value → zH → Prop} {X : String → zH → Prop} : ∀ (j K : Nat) (x : Int32) (y : Int32), K + j = NS → zV G fX1_bestShell d 81 [some (.ref (A 0)), some (.ref (B (56 + b))), some (.int p), some (.int ((zcb_bestShell σ b p j K x y).1)), some (.int ((zcb_bestShell σ b p j K x y).2)), none, none] [] (cpt G A B I e nt sn rc t w o σ lo NL NS NC h0) k n Q X → zV G fX1_bestShell d 12 [some (.ref (A 0)), some (.ref (B (56 + b))), some (.int p), some (.int x), some (.int y), some (.int (nI K)), none] [] (cpt G A B I e nt sn rc t w o σ lo NL NS NC h0) k n Q X := by
  intro j
  induction j with
  | zero =>
    intro K x y hK hx
    have hK9 : K = NS := by omega
    subst hK9
    obtain ⟨bL, bS, bC⟩ := hok.b
    refine z_iload dX1_bestShell_12 rfl ?_
    refine z_aload_n dX1_bestShell_14 rfl ?_
    refine z_getf zc0 0 dX1_bestShell_15 q272 (by decide) shp_0 rfl ?_
    refine z_getf zc1 1 dX1_bestShell_18 q179 (by decide) (cpt_sta hB) rfl ?_
    refine z_cV zc8 mJ2_size (k_sizeS (d := d - 1) hB (by omega)) dX1_bestShell_21 q1028 (by omega) rfl (Nat.le_of_ble_eq_true rfl) rfl (cpt_ls hB) rfl ?_
    refine z_icmp_ge (tgt := 81) dX1_bestShell_24 (by decide) (fun hg => ?_) (fun hg => ?_)
    ·
      refine z_loc (L2 := [some (.ref (A 0)), some (.ref (B (56 + b))), some (.int p), some (.int x), some (.int y), none, none]) ⟨rfl, rfl, rfl, rfl, rfl, trivial⟩ ?_
      exact hx
    · exact absurd (by exact Int32.le_refl _) hg
  | succ j ih =>
    intro K x y hK hx
    obtain ⟨bL, bS, bC⟩ := hok.b
    refine z_iload dX1_bestShell_12 rfl ?_
    refine z_aload_n dX1_bestShell_14 rfl ?_
    refine z_getf zc0 0 dX1_bestShell_15 q272 (by decide) shp_0 rfl ?_
    refine z_getf zc1 1 dX1_bestShell_18 q179 (by decide) (cpt_sta hB) rfl ?_
    refine z_cV zc8 mJ2_size (k_sizeS (d := d - 1) hB (by omega)) dX1_bestShell_21 q1028 (by omega) rfl (Nat.le_of_ble_eq_true rfl) rfl (cpt_ls hB) rfl ?_
    refine z_icmp_ge (tgt := 81) dX1_bestShell_24 (by decide) (fun hg => ?_) (fun hg => ?_)
    · exact absurd hg (by exact nI_ge (by omega) (by omega))
    ·
      refine z_aload_n dX1_bestShell_27 rfl ?_
      refine z_getf zc0 0 dX1_bestShell_28 q272 (by decide) shp_0 rfl ?_
      refine z_getf zc1 1 dX1_bestShell_31 q179 (by decide) (cpt_sta hB) rfl ?_
      refine z_iload dX1_bestShell_34 rfl ?_
      refine z_cV zc8 mJ2_get (k_getS (d := d - 1) (k := K) hB rfl (by omega) (by omega)) dX1_bestShell_36 q1033 (by omega) rfl (Nat.le_of_ble_eq_true rfl) rfl (cpt_ls hB) rfl ?_
      refine z_cast zc4 dX1_bestShell_39 q1078 (zg_castS hG) (cpt_s (k := K) hB (by omega)) ?_
      refine z_astore dX1_bestShell_42 (by decide) ?_
      refine z_aload dX1_bestShell_44 rfl ?_
      refine z_iload_n dX1_bestShell_46 rfl ?_
      refine z_cV zc4 mX6_liesIn (k_liesR (d := d - 1) (k := K) hB (by omega) (by omega)) dX1_bestShell_47 q1187 (by omega) rfl (Nat.le_of_ble_eq_true rfl) rfl (cpt_s (k := K) hB (by omega)) rfl ?_
      refine z_joinL 75 [some (.ref (A 0)), some (.ref (B (56 + b))), some (.int p), some (.int (if σ (133 + 3 * K + 2) = -1 ∧ σ (133 + 3 * K + 1) = p then (if (zf_worthOf σ K b) ≤ y then x else (nI K)) else x)), some (.int (if σ (133 + 3 * K + 2) = -1 ∧ σ (133 + 3 * K + 1) = p then (if (zf_worthOf σ K b) ≤ y then y else (zf_worthOf σ K b)) else y)), some (.int (nI K)), some (.ref (B (30 + K)))] 1 ?_ (fun hJ => ?_)
      rotate_left
      ·
        refine z_ifB_eq (tgt := 75) dX1_bestShell_50 (by decide) (fun c_1 => ?_) (fun c_1 => ?_)
        ·
          exact z_jL (by simp only [if_neg c_1] <;> rfl) hJ
        ·
          refine z_aload dX1_bestShell_53 rfl ?_
          refine z_aload_n dX1_bestShell_55 rfl ?_
          refine z_cS mX8_worth (k_worthR (d := d - 1) (k := K) (b := b) hG hB (by omega) (by omega) (by omega)) dX1_bestShell_56 q1177 (by omega) rfl (Nat.le_of_ble_eq_true rfl) rfl ?_
          refine z_iload dX1_bestShell_59 rfl ?_
          refine z_icmp_le (tgt := 75) dX1_bestShell_61 (by decide) (fun c_2 => ?_) (fun c_2 => ?_)
          ·
            exact z_jL (by simp only [if_pos c_1, if_pos c_2] <;> rfl) hJ
          ·
            refine z_iload dX1_bestShell_64 rfl ?_
            refine z_istore_n dX1_bestShell_66 (by decide) ?_
            refine z_aload dX1_bestShell_67 rfl ?_
            refine z_aload_n dX1_bestShell_69 rfl ?_
            refine z_cS mX8_worth (k_worthR (d := d - 1) (k := K) (b := b) hG hB (by omega) (by omega) (by omega)) dX1_bestShell_70 q1177 (by omega) rfl (Nat.le_of_ble_eq_true rfl) rfl ?_
            refine z_istore dX1_bestShell_73 (by decide) ?_
            exact z_jL (by simp only [if_pos c_1, if_neg c_2] <;> rfl) hJ
      refine z_iinc dX1_bestShell_75 rfl (v := nI (K + 1)) (z_inc rfl) ?_
      refine z_goto (tgt := 12) dX1_bestShell_78 (by decide) ?_
      refine z_loc (L2 := [some (.ref (A 0)), some (.ref (B (56 + b))), some (.int p), some (.int (if σ (133 + 3 * K + 2) = -1 ∧ σ (133 + 3 * K + 1) = p then (if (zf_worthOf σ K b) ≤ y then x else (nI K)) else x)), some (.int (if σ (133 + 3 * K + 2) = -1 ∧ σ (133 + 3 * K + 1) = p then (if (zf_worthOf σ K b) ≤ y then y else (zf_worthOf σ K b)) else y)), some (.int (nI (K + 1))), none]) ⟨rfl, rfl, rfl, rfl, rfl, rfl, trivial⟩ ?_
      exact ih (K + 1) (if σ (133 + 3 * K + 2) = -1 ∧ σ (133 + 3 * K + 1) = p then (if (zf_worthOf σ K b) ≤ y then x else (nI K)) else x) (if σ (133 + 3 * K + 2) = -1 ∧ σ (133 + 3 * K + 1) = p then (if (zf_worthOf σ K b) ≤ y then y else (zf_worthOf σ K b)) else y) (by omega) hx
def zc_bestShell (σ : Nat → Int32) (b NS : Nat) (p : Int32) : Int32 := (zcb_bestShell σ b p NS 0 ((-1) : Int32) (zf_worn σ b)).1
set_option maxHeartbeats 4000000 in
theorem kc_bestShell {G : zE} (hG : zGG G) {A B I : Nat → Nat} {NL NS NC : Nat} (hB : zcb A B I NL NS NC) {e nt : Nat} {sn rc : Value} {t w o σ : Nat → Int32} {lo : Int32} {h0 : zH} (hok : zok σ NL NS NC) {b : Nat} (lb : b < NC) {p : Int32} {d : Nat} (hd : 5 ≤ d) : zCon G fX1_bestShell d 0 0 [.ref (A 0), .ref (B (56 + b)), .int p] (cpt G A B I e nt sn rc t w o σ lo NL NS NC h0) (zA (.int (zc_bestShell σ b NS p)) (cpt G A B I e nt sn rc t w o σ lo NL NS NC h0)) nX := by
  refine zCon.of9 (L := [some (.ref (A 0)), some (.ref (B (56 + b))), some (.int p), none, none, none, none]) (by simp [Value.category]) (Nat.le_of_ble_eq_true rfl) pX1 rfl rfl ?_
  obtain ⟨bL, bS, bC⟩ := hok.b
  refine z_iconst dX1_bestShell_0 (v := (-1)) rfl ?_
  refine z_istore_n dX1_bestShell_1 (by decide) ?_
  refine z_aload_n dX1_bestShell_2 rfl ?_
  refine z_aload_n dX1_bestShell_3 rfl ?_
  refine z_cV zc0 mX1_worthOfOwn (kc_worn (d := d - 1) (b := b) hG hB hok (by omega) (by omega)) dX1_bestShell_4 q1172 (by omega) rfl (Nat.le_of_ble_eq_true rfl) rfl shp_0 rfl ?_
  refine z_istore dX1_bestShell_7 (by decide) ?_
  refine z_iconst dX1_bestShell_9 (v := 0) rfl ?_
  refine z_istore dX1_bestShell_10 (by decide) ?_
  refine z_loc (L2 := [some (.ref (A 0)), some (.ref (B (56 + b))), some (.int p), some (.int (-1)), some (.int (zf_worn σ b)), some (.int 0), none]) ⟨rfl, rfl, rfl, rfl, rfl, rfl, trivial⟩ ?_
  refine lc_bestShell hG hB hok lb (by omega) NS 0 ((-1) : Int32) (zf_worn σ b) (by omega) ?_
  refine z_iload_n dX1_bestShell_81 rfl ?_
  refine z_ret dX1_bestShell_82 rfl rfl ⟨rfl, rfl⟩
theorem zcb_best {σ : Nat → Int32} {b : Nat} {p : Int32} : ∀ (j K : Nat) (x y : Int32), zcb_bestShell σ b p j K x y = zb_better σ b p j K x y := by
  intro j
  induction j with
  | zero => intros; rfl
  | succ j ih =>
    intro K x y
    show zcb_bestShell σ b p j (K + 1) _ _ = zb_better σ b p j (K + 1) _ _
    rw [ih]
    by_cases h1 : σ (133 + 3 * K + 2) = -1 ∧ σ (133 + 3 * K + 1) = p
    · by_cases h2 : zf_worthOf σ K b ≤ y
      · rw [if_pos h1, if_pos h1, if_pos h2, if_pos h2, if_neg (fun q => q.2.2 h2), if_neg (fun q => q.2.2 h2)]
      · rw [if_pos h1, if_pos h1, if_neg h2, if_neg h2, if_pos ⟨h1.1, h1.2, h2⟩, if_pos ⟨h1.1, h1.2, h2⟩]
    · rw [if_neg h1, if_neg h1, if_neg (fun q => h1 ⟨q.1, q.2.1⟩), if_neg (fun q => h1 ⟨q.1, q.2.1⟩)]
theorem zc_best {σ : Nat → Int32} {b NS : Nat} {p : Int32} : zc_bestShell σ b NS p = zf_better σ b NS p := by
  unfold zc_bestShell zf_better
  rw [zcb_best]
theorem kc_better {G : zE} (hG : zGG G) {A B I : Nat → Nat} {NL NS NC : Nat} (hB : zcb A B I NL NS NC) {e nt : Nat} {sn rc : Value} {t w o σ : Nat → Int32} {lo : Int32} {h0 : zH} (hok : zok σ NL NS NC) {b : Nat} (lb : b < NC) {p : Int32} {d : Nat} (hd : 5 ≤ d) : zCon G fX1_bestShell d 0 0 [.ref (A 0), .ref (B (56 + b)), .int p] (cpt G A B I e nt sn rc t w o σ lo NL NS NC h0) (zA (.int (zf_better σ b NS p)) (cpt G A B I e nt sn rc t w o σ lo NL NS NC h0)) nX := zc_best (σ := σ) ▸ kc_bestShell hG hB hok lb hd
def zr_leaveShell_44 (σ : Nat → Int32) (b : Nat) : Nat → Int32 := if (σ (212 + 5 * b + 2)) = (-1) then σ else (upd (upd (upd σ (133 + 3 * ((σ (212 + 5 * b + 2)).toNatClampNeg) + 2) (-1)) (133 + 3 * ((σ (212 + 5 * b + 2)).toNatClampNeg) + 1) (σ (212 + 5 * b + 1))) (212 + 5 * b + 2) (-1))
theorem zok_leaveShell_44 {σ : Nat → Int32} {b : Nat} {NL NS NC : Nat} (hok : zok σ NL NS NC) (lb : b < NC) : zok (zr_leaveShell_44 σ b) NL NS NC := by
  obtain ⟨bL, bS, bC⟩ := hok.b
  unfold zr_leaveShell_44
  exact zok_ite (fun hc0 => hok) (fun hc0 => (((hok.shw (k := ((σ (212 + 5 * b + 2)).toNatClampNeg)) (i := 2) ((hok.cw (k := b) (by omega) hc0)).2 (by omega)).shw (k := ((σ (212 + 5 * b + 2)).toNatClampNeg)) (i := 1) ((hok.cw (k := b) (by omega) hc0)).2 (by omega)).cww (k := b) (by omega) (fun h => absurd rfl h)))
def zcr_leaveShell (σ : Nat → Int32) (b : Nat) : Nat → Int32 := zr_leaveShell_44 σ b
set_option maxHeartbeats 4000000 in
theorem kc_leaveShell {G : zE} (hG : zGG G) {A B I : Nat → Nat} {NL NS NC : Nat} (hB : zcb A B I NL NS NC) {e nt : Nat} {sn rc : Value} {t w o σ : Nat → Int32} {lo : Int32} {h0 : zH} (hok : zok σ NL NS NC) {b : Nat} (lb : b < NC) {d : Nat} (hd : 4 ≤ d) : zCon G fX1_leaveShell d 0 0 [.ref (A 0), .ref (B (56 + b))] (cpt G A B I e nt sn rc t w o σ lo NL NS NC h0) (zAv (cpt G A B I e nt sn rc t w o (zcr_leaveShell σ b) lo NL NS NC h0)) nX := by
  refine zCon.of9 (L := [some (.ref (A 0)), some (.ref (B (56 + b))), none]) (by simp [Value.category]) (Nat.le_of_ble_eq_true rfl) pX1 rfl rfl ?_
  obtain ⟨bL, bS, bC⟩ := hok.b
  refine z_aload_n dX1_leaveShell_0 rfl ?_
  refine z_getf zc5 2 (v := .int (σ (212 + 5 * b + 2))) dX1_leaveShell_1 q973 (by decide) (cpt_c (k := b) hB (by omega)) rfl ?_
  refine z_iconst dX1_leaveShell_4 (v := (-1)) rfl ?_
  refine z_joinH 44 [some (.ref (A 0)), some (.ref (B (56 + b))), none] (cpt G A B I e nt sn rc t w o (zr_leaveShell_44 σ b) lo NL NS NC h0) 2 ?_ (fun hJ => ?_)
  rotate_left
  ·
    refine z_icmp_eq (tgt := 44) dX1_leaveShell_5 (by decide) (fun c_1 => ?_) (fun c_1 => ?_)
    ·
      exact z_jH (by first | rfl | (simp only [if_pos c_1] <;> rfl)) (by simp only [zr_leaveShell_44, if_pos c_1]) hJ
    ·
      refine z_aload_n dX1_leaveShell_8 rfl ?_
      refine z_getf zc0 0 dX1_leaveShell_9 q272 (by decide) shp_0 rfl ?_
      refine z_getf zc1 1 dX1_leaveShell_12 q179 (by decide) (cpt_sta hB) rfl ?_
      refine z_aload_n dX1_leaveShell_15 rfl ?_
      refine z_getf zc5 2 (v := .int (σ (212 + 5 * b + 2))) dX1_leaveShell_16 q973 (by decide) (cpt_c (k := b) hB (by omega)) rfl ?_
      have lb_2 := (hok.cw (k := b) (by omega) c_1).2
      refine z_cV zc8 mJ2_get (k_getS (d := d - 1) (k := (σ (212 + 5 * b + 2)).toNatClampNeg) hB ((hok.cw (k := b) (by omega) c_1).1) (by omega) (by omega)) dX1_leaveShell_19 q1033 (by omega) rfl (Nat.le_of_ble_eq_true rfl) rfl (cpt_ls hB) rfl ?_
      refine z_cast zc4 dX1_leaveShell_22 q1078 (zg_castS hG) (cpt_s (k := ((σ (212 + 5 * b + 2)).toNatClampNeg)) hB (by omega)) ?_
      refine z_astore_n dX1_leaveShell_25 (by decide) ?_
      refine z_aload_n dX1_leaveShell_26 rfl ?_
      refine z_iconst dX1_leaveShell_27 (v := (-1)) rfl ?_
      refine z_putf zc4 2 dX1_leaveShell_28 q949 (by decide) rfl rfl rfl (cpt_s (k := ((σ (212 + 5 * b + 2)).toNatClampNeg)) hB (by omega)) (Nat.le_of_ble_eq_true rfl) ?_
      rw [cpt_ws2 (k := ((σ (212 + 5 * b + 2)).toNatClampNeg)) hB (by omega)]
      refine z_aload_n dX1_leaveShell_31 rfl ?_
      refine z_aload_n dX1_leaveShell_32 rfl ?_
      refine z_getf zc5 0 (v := .int (σ (212 + 5 * b + 1))) dX1_leaveShell_33 q969 (by decide) (cpt_c (k := b) hB (by omega)) (congrArg (fun z => some (Value.int z)) ((upd_n (by omega)).trans rfl)) ?_
      refine z_putf zc4 1 dX1_leaveShell_36 q947 (by decide) rfl rfl rfl (cpt_s (k := ((σ (212 + 5 * b + 2)).toNatClampNeg)) hB (by omega)) (Nat.le_of_ble_eq_true rfl) ?_
      rw [cpt_ws1 (k := ((σ (212 + 5 * b + 2)).toNatClampNeg)) hB (by omega)]
      refine z_aload_n dX1_leaveShell_39 rfl ?_
      refine z_iconst dX1_leaveShell_40 (v := (-1)) rfl ?_
      refine z_putf zc5 2 dX1_leaveShell_41 q973 (by decide) rfl rfl rfl (cpt_c (k := b) hB (by omega)) (Nat.le_of_ble_eq_true rfl) ?_
      rw [cpt_wc2 (k := b) hB (by omega)]
      refine z_loc (L2 := [some (.ref (A 0)), some (.ref (B (56 + b))), none]) ⟨rfl, rfl, trivial⟩ ?_
      exact z_jH (by first | rfl | (simp only [if_neg c_1] <;> rfl)) (by simp only [zr_leaveShell_44, if_neg c_1]) hJ
  refine z_vret dX1_leaveShell_44 rfl ⟨rfl, rfl⟩
