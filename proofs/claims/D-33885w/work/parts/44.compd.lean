/-! THE COMPONENT, part 4: the heron’s prey -/
set_option maxRecDepth 100000
def zcb_preyLimpet (σ : Nat → Int32) (p : Int32) : Nat → Nat → Int32 → Int32 → Int32 × Int32
  | 0, _, x, y => (x, y)
  | j + 1, K, x, y => zcb_preyLimpet σ p j (K + 1) (if σ (32 + 5 * K + 4) = 0 ∧ σ (32 + 5 * K) = p then (if (σ (32 + 5 * K + 3)) ≤ y then x else (nI K)) else x) (if σ (32 + 5 * K + 4) = 0 ∧ σ (32 + 5 * K) = p then (if (σ (32 + 5 * K + 3)) ≤ y then y else (σ (32 + 5 * K + 3))) else y)
set_option maxHeartbeats 4000000 in
theorem lc_preyLimpet {G : zE} (hG : zGG G) {A B I : Nat → Nat} {NL NS NC : Nat} (hB : zcb A B I NL NS NC) {e nt : Nat} {sn rc : Value} {t w o σ : Nat → Int32} {lo : Int32} {h0 : zH} (hok : zok σ NL NS NC) {p : Int32} {d k n : Nat} (hd : 4 ≤ d) {Q : Option Value → zH → Prop} {X : String → zH → Prop} : ∀ (j K : Nat) (x : Int32) (y : Int32), K + j = NL → zV G fX1_preyLimpet d 72 [some (.ref (A 0)), some (.int p), some (.int ((zcb_preyLimpet σ p j K x y).1)), some (.int ((zcb_preyLimpet σ p j K x y).2)), none, none] [] (cpt G A B I e nt sn rc t w o σ lo NL NS NC h0) k n Q X → zV G fX1_preyLimpet d 7 [some (.ref (A 0)), some (.int p), some (.int x), some (.int y), some (.int (nI K)), none] [] (cpt G A B I e nt sn rc t w o σ lo NL NS NC h0) k n Q X := by
  intro j
  induction j with
  | zero =>
    intro K x y hK hx
    have hK9 : K = NL := by omega
    subst hK9
    obtain ⟨bL, bS, bC⟩ := hok.b
    refine z_iload dX1_preyLimpet_7 rfl ?_
    refine z_aload_n dX1_preyLimpet_9 rfl ?_
    refine z_getf zc0 0 dX1_preyLimpet_10 q272 (by decide) shp_0 rfl ?_
    refine z_getf zc1 0 dX1_preyLimpet_13 q176 (by decide) (cpt_sta hB) rfl ?_
    refine z_cV zc8 mJ2_size (k_sizeL (d := d - 1) hB (by omega)) dX1_preyLimpet_16 q1028 (by omega) rfl (Nat.le_of_ble_eq_true rfl) rfl (cpt_ll hB) rfl ?_
    refine z_icmp_ge (tgt := 72) dX1_preyLimpet_19 (by decide) (fun hg => ?_) (fun hg => ?_)
    ·
      refine z_loc (L2 := [some (.ref (A 0)), some (.int p), some (.int x), some (.int y), none, none]) ⟨rfl, rfl, rfl, rfl, trivial⟩ ?_
      exact hx
    · exact absurd (by exact Int32.le_refl _) hg
  | succ j ih =>
    intro K x y hK hx
    obtain ⟨bL, bS, bC⟩ := hok.b
    refine z_iload dX1_preyLimpet_7 rfl ?_
    refine z_aload_n dX1_preyLimpet_9 rfl ?_
    refine z_getf zc0 0 dX1_preyLimpet_10 q272 (by decide) shp_0 rfl ?_
    refine z_getf zc1 0 dX1_preyLimpet_13 q176 (by decide) (cpt_sta hB) rfl ?_
    refine z_cV zc8 mJ2_size (k_sizeL (d := d - 1) hB (by omega)) dX1_preyLimpet_16 q1028 (by omega) rfl (Nat.le_of_ble_eq_true rfl) rfl (cpt_ll hB) rfl ?_
    refine z_icmp_ge (tgt := 72) dX1_preyLimpet_19 (by decide) (fun hg => ?_) (fun hg => ?_)
    · exact absurd hg (by exact nI_ge (by omega) (by omega))
    ·
      refine z_aload_n dX1_preyLimpet_22 rfl ?_
      refine z_getf zc0 0 dX1_preyLimpet_23 q272 (by decide) shp_0 rfl ?_
      refine z_getf zc1 0 dX1_preyLimpet_26 q176 (by decide) (cpt_sta hB) rfl ?_
      refine z_iload dX1_preyLimpet_29 rfl ?_
      refine z_cV zc8 mJ2_get (k_getL (d := d - 1) (k := K) hB rfl (by omega) (by omega)) dX1_preyLimpet_31 q1033 (by omega) rfl (Nat.le_of_ble_eq_true rfl) rfl (cpt_ll hB) rfl ?_
      refine z_cast zc3 dX1_preyLimpet_34 q1034 (zg_castL hG) (cpt_l (k := K) hB (by omega)) ?_
      refine z_astore dX1_preyLimpet_37 (by decide) ?_
      refine z_aload dX1_preyLimpet_39 rfl ?_
      refine z_iload_n dX1_preyLimpet_41 rfl ?_
      refine z_cD zc3 mX10_livesIn (k_llivesInR (d := d - 1) (k := K) hG hB (by omega) (by omega)) dX1_preyLimpet_42 (zg_livesInL hG) (by decide +kernel) (by omega) rfl (Nat.le_of_ble_eq_true rfl) (cpt_l (k := K) hB (by omega)) rfl ?_
      refine z_joinL 66 [some (.ref (A 0)), some (.int p), some (.int (if σ (32 + 5 * K + 4) = 0 ∧ σ (32 + 5 * K) = p then (if (σ (32 + 5 * K + 3)) ≤ y then x else (nI K)) else x)), some (.int (if σ (32 + 5 * K + 4) = 0 ∧ σ (32 + 5 * K) = p then (if (σ (32 + 5 * K + 3)) ≤ y then y else (σ (32 + 5 * K + 3))) else y)), some (.int (nI K)), some (.ref (B (10 + K)))] 1 ?_ (fun hJ => ?_)
      rotate_left
      ·
        refine z_ifB_eq (tgt := 66) dX1_preyLimpet_45 (by decide) (fun c_1 => ?_) (fun c_1 => ?_)
        ·
          exact z_jL (by simp only [if_neg c_1] <;> rfl) hJ
        ·
          refine z_aload dX1_preyLimpet_48 rfl ?_
          refine z_getf zc3 3 (v := .int (σ (32 + 5 * K + 3))) dX1_preyLimpet_50 q870 (by decide) (cpt_l (k := K) hB (by omega)) rfl ?_
          refine z_iload_n dX1_preyLimpet_53 rfl ?_
          refine z_icmp_le (tgt := 66) dX1_preyLimpet_54 (by decide) (fun c_2 => ?_) (fun c_2 => ?_)
          ·
            exact z_jL (by simp only [if_pos c_1, if_pos c_2] <;> rfl) hJ
          ·
            refine z_iload dX1_preyLimpet_57 rfl ?_
            refine z_istore_n dX1_preyLimpet_59 (by decide) ?_
            refine z_aload dX1_preyLimpet_60 rfl ?_
            refine z_getf zc3 3 (v := .int (σ (32 + 5 * K + 3))) dX1_preyLimpet_62 q870 (by decide) (cpt_l (k := K) hB (by omega)) rfl ?_
            refine z_istore_n dX1_preyLimpet_65 (by decide) ?_
            exact z_jL (by simp only [if_pos c_1, if_neg c_2] <;> rfl) hJ
      refine z_iinc dX1_preyLimpet_66 rfl (v := nI (K + 1)) (z_inc rfl) ?_
      refine z_goto (tgt := 7) dX1_preyLimpet_69 (by decide) ?_
      refine z_loc (L2 := [some (.ref (A 0)), some (.int p), some (.int (if σ (32 + 5 * K + 4) = 0 ∧ σ (32 + 5 * K) = p then (if (σ (32 + 5 * K + 3)) ≤ y then x else (nI K)) else x)), some (.int (if σ (32 + 5 * K + 4) = 0 ∧ σ (32 + 5 * K) = p then (if (σ (32 + 5 * K + 3)) ≤ y then y else (σ (32 + 5 * K + 3))) else y)), some (.int (nI (K + 1))), none]) ⟨rfl, rfl, rfl, rfl, rfl, trivial⟩ ?_
      exact ih (K + 1) (if σ (32 + 5 * K + 4) = 0 ∧ σ (32 + 5 * K) = p then (if (σ (32 + 5 * K + 3)) ≤ y then x else (nI K)) else x) (if σ (32 + 5 * K + 4) = 0 ∧ σ (32 + 5 * K) = p then (if (σ (32 + 5 * K + 3)) ≤ y then y else (σ (32 + 5 * K + 3))) else y) (by omega) hx
def zc_preyLimpet (σ : Nat → Int32) (NL : Nat) (p : Int32) : Int32 := (zcb_preyLimpet σ p NL 0 ((-1) : Int32) (0 : Int32)).1
set_option maxHeartbeats 4000000 in
theorem kc_preyLimpet {G : zE} (hG : zGG G) {A B I : Nat → Nat} {NL NS NC : Nat} (hB : zcb A B I NL NS NC) {e nt : Nat} {sn rc : Value} {t w o σ : Nat → Int32} {lo : Int32} {h0 : zH} (hok : zok σ NL NS NC) {p : Int32} {d : Nat} (hd : 5 ≤ d) : zCon G fX1_preyLimpet d 0 0 [.ref (A 0), .int p] (cpt G A B I e nt sn rc t w o σ lo NL NS NC h0) (zA (.int (zc_preyLimpet σ NL p)) (cpt G A B I e nt sn rc t w o σ lo NL NS NC h0)) nX := by
  refine zCon.of9 (L := [some (.ref (A 0)), some (.int p), none, none, none, none]) (by simp [Value.category]) (Nat.le_of_ble_eq_true rfl) pX1 rfl rfl ?_
  obtain ⟨bL, bS, bC⟩ := hok.b
  refine z_iconst dX1_preyLimpet_0 (v := (-1)) rfl ?_
  refine z_istore_n dX1_preyLimpet_1 (by decide) ?_
  refine z_iconst dX1_preyLimpet_2 (v := 0) rfl ?_
  refine z_istore_n dX1_preyLimpet_3 (by decide) ?_
  refine z_iconst dX1_preyLimpet_4 (v := 0) rfl ?_
  refine z_istore dX1_preyLimpet_5 (by decide) ?_
  refine z_loc (L2 := [some (.ref (A 0)), some (.int p), some (.int (-1)), some (.int 0), some (.int 0), none]) ⟨rfl, rfl, rfl, rfl, rfl, trivial⟩ ?_
  refine lc_preyLimpet hG hB hok (by omega) NL 0 ((-1) : Int32) (0 : Int32) (by omega) ?_
  refine z_iload_n dX1_preyLimpet_72 rfl ?_
  refine z_ret dX1_preyLimpet_73 rfl rfl ⟨rfl, rfl⟩
theorem zcb_preyL {σ : Nat → Int32} {p : Int32} : ∀ (j K : Nat) (x y : Int32), zcb_preyLimpet σ p j K x y = zb_prey σ p j K x y := by
  intro j
  induction j with
  | zero => intros; rfl
  | succ j ih =>
    intro K x y
    show zcb_preyLimpet σ p j (K + 1) _ _ = zb_prey σ p j (K + 1) _ _
    rw [ih]
    by_cases h1 : σ (32 + 5 * K + 4) = 0 ∧ σ (32 + 5 * K) = p
    · by_cases h2 : σ (32 + 5 * K + 3) ≤ y
      · rw [if_pos h1, if_pos h1, if_pos h2, if_pos h2, if_neg (fun q => q.2.2 h2), if_neg (fun q => q.2.2 h2)]
      · rw [if_pos h1, if_pos h1, if_neg h2, if_neg h2, if_pos ⟨h1.1, h1.2, h2⟩, if_pos ⟨h1.1, h1.2, h2⟩]
    · rw [if_neg h1, if_neg h1, if_neg (fun q => h1 ⟨q.1, q.2.1⟩), if_neg (fun q => h1 ⟨q.1, q.2.1⟩)]
def zcr_takeShell (σ : Nat → Int32) (b a : Nat) (n x : Int32) : Nat → Int32 := upd (upd (upd (upd (zcr_leaveShell σ b) (212 + 5 * b + 2) x) (212 + 5 * b + 4) (((zcr_leaveShell σ b) (212 + 5 * b + 4)) + 1)) (133 + 3 * a + 2) n) (133 + 3 * a + 1) ((zcr_leaveShell σ b) (212 + 5 * b + 1))
set_option maxHeartbeats 4000000 in
theorem kc_takeShell {G : zE} (hG : zGG G) {A B I : Nat → Nat} {NL NS NC : Nat} (hB : zcb A B I NL NS NC) {e nt : Nat} {sn rc : Value} {t w o σ : Nat → Int32} {lo : Int32} {h0 : zH} (hok : zok σ NL NS NC) {n : Int32} {b : Nat} (hn : n = nI b) (lb : b < NC) {x : Int32} {a : Nat} (hx : x = nI a) (la : a < NS) {d : Nat} (hd : 5 ≤ d) : zCon G fX1_takeShell d 0 0 [.ref (A 0), .int n, .int x] (cpt G A B I e nt sn rc t w o σ lo NL NS NC h0) (zAv (cpt G A B I e nt sn rc t w o (zcr_takeShell σ b a n x) lo NL NS NC h0)) nX := by
  refine zCon.of9 (L := [some (.ref (A 0)), some (.int n), some (.int x), none]) (by simp [Value.category]) (Nat.le_of_ble_eq_true rfl) pX1 rfl rfl ?_
  obtain ⟨bL, bS, bC⟩ := hok.b
  refine z_aload_n dX1_takeShell_0 rfl ?_
  refine z_getf zc0 0 dX1_takeShell_1 q272 (by decide) shp_0 rfl ?_
  refine z_getf zc1 2 dX1_takeShell_4 q182 (by decide) (cpt_sta hB) rfl ?_
  refine z_iload_n dX1_takeShell_7 rfl ?_
  refine z_cV zc8 mJ2_get (k_getC (d := d - 1) (k := b) hB hn (by omega) (by omega)) dX1_takeShell_8 q1033 (by omega) rfl (Nat.le_of_ble_eq_true rfl) rfl (cpt_lc hB) rfl ?_
  refine z_cast zc5 dX1_takeShell_11 q1072 (zg_castC hG) (cpt_c (k := b) hB (by omega)) ?_
  refine z_astore_n dX1_takeShell_14 (by decide) ?_
  refine z_aload_n dX1_takeShell_15 rfl ?_
  refine z_aload_n dX1_takeShell_16 rfl ?_
  refine z_cVv zc0 mX1_leaveShell (kc_leaveShell (d := d - 1) (b := b) hG hB hok (by omega) (by omega)) dX1_takeShell_17 q1207 (by omega) rfl (Nat.le_of_ble_eq_true rfl) rfl shp_0 rfl ?_
  refine z_aload_n dX1_takeShell_20 rfl ?_
  refine z_iload_n dX1_takeShell_21 rfl ?_
  refine z_putf zc5 2 dX1_takeShell_22 q973 (by decide) rfl rfl rfl (cpt_c (k := b) hB (by omega)) (Nat.le_of_ble_eq_true rfl) ?_
  rw [cpt_wc2 (k := b) hB (by omega)]
  refine z_aload_n dX1_takeShell_25 rfl ?_
  refine z_dup dX1_takeShell_26 rfl ?_
  refine z_getf zc5 3 (v := .int ((zcr_leaveShell σ b) (212 + 5 * b + 4))) dX1_takeShell_27 q975 (by decide) (cpt_c (k := b) hB (by omega)) (congrArg (fun z => some (Value.int z)) ((upd_n (by omega)).trans rfl)) ?_
  refine z_iconst dX1_takeShell_30 (v := 1) rfl ?_
  refine z_iadd dX1_takeShell_31 ?_
  refine z_putf zc5 3 dX1_takeShell_32 q975 (by decide) rfl rfl rfl (cpt_c (k := b) hB (by omega)) (Nat.le_of_ble_eq_true rfl) ?_
  rw [cpt_wc3 (k := b) hB (by omega)]
  refine z_aload_n dX1_takeShell_35 rfl ?_
  refine z_getf zc0 0 dX1_takeShell_36 q272 (by decide) shp_0 rfl ?_
  refine z_getf zc1 1 dX1_takeShell_39 q179 (by decide) (cpt_sta hB) rfl ?_
  refine z_iload_n dX1_takeShell_42 rfl ?_
  refine z_cV zc8 mJ2_get (k_getS (d := d - 1) (k := a) hB hx (by omega) (by omega)) dX1_takeShell_43 q1033 (by omega) rfl (Nat.le_of_ble_eq_true rfl) rfl (cpt_ls hB) rfl ?_
  refine z_cast zc4 dX1_takeShell_46 q1078 (zg_castS hG) (cpt_s (k := a) hB (by omega)) ?_
  refine z_iload_n dX1_takeShell_49 rfl ?_
  refine z_putf zc4 2 dX1_takeShell_50 q949 (by decide) rfl rfl rfl (cpt_s (k := a) hB (by omega)) (Nat.le_of_ble_eq_true rfl) ?_
  rw [cpt_ws2 (k := a) hB (by omega)]
  refine z_aload_n dX1_takeShell_53 rfl ?_
  refine z_getf zc0 0 dX1_takeShell_54 q272 (by decide) shp_0 rfl ?_
  refine z_getf zc1 1 dX1_takeShell_57 q179 (by decide) (cpt_sta hB) rfl ?_
  refine z_iload_n dX1_takeShell_60 rfl ?_
  refine z_cV zc8 mJ2_get (k_getS (d := d - 1) (k := a) hB hx (by omega) (by omega)) dX1_takeShell_61 q1033 (by omega) rfl (Nat.le_of_ble_eq_true rfl) rfl (cpt_ls hB) rfl ?_
  refine z_cast zc4 dX1_takeShell_64 q1078 (zg_castS hG) (cpt_s (k := a) hB (by omega)) ?_
  refine z_aload_n dX1_takeShell_67 rfl ?_
  refine z_getf zc5 0 (v := .int ((zcr_leaveShell σ b) (212 + 5 * b + 1))) dX1_takeShell_68 q969 (by decide) (cpt_c (k := b) hB (by omega)) (congrArg (fun z => some (Value.int z)) ((upd_n (by omega)).trans ((upd_n (by omega)).trans ((upd_n (by omega)).trans rfl)))) ?_
  refine z_putf zc4 1 dX1_takeShell_71 q947 (by decide) rfl rfl rfl (cpt_s (k := a) hB (by omega)) (Nat.le_of_ble_eq_true rfl) ?_
  rw [cpt_ws1 (k := a) hB (by omega)]
  refine z_vret dX1_takeShell_74 rfl ⟨rfl, rfl⟩
