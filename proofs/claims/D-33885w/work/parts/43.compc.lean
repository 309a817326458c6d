/-! THE COMPONENT, part 3: losses, pools, growing -/
set_option maxRecDepth 100000
def zcr_loseLimpet (σ : Nat → Int32) (a : Nat) (x : Int32) : Nat → Int32 := upd σ (32 + 5 * a + 4) x
set_option maxHeartbeats 4000000 in
theorem kc_loseLimpet {G : zE} (hG : zGG G) {A B I : Nat → Nat} {NL NS NC : Nat} (hB : zcb A B I NL NS NC) {e nt : Nat} {sn rc : Value} {t w o σ : Nat → Int32} {lo : Int32} {h0 : zH} {a : Nat} (la : a < NL) {x : Int32} {d : Nat} (hd : 1 ≤ d) : zCon G fX1_loseLimpet d 0 0 [.ref (A 0), .ref (B (10 + a)), .int x] (cpt G A B I e nt sn rc t w o σ lo NL NS NC h0) (zAv (cpt G A B I e nt sn rc t w o (zcr_loseLimpet σ a x) (lo + 1) NL NS NC h0)) nX := by
  refine zCon.of9 (L := [some (.ref (A 0)), some (.ref (B (10 + a))), some (.int x)]) (by simp [Value.category]) (Nat.le_of_ble_eq_true rfl) pX1 rfl rfl ?_
  refine z_aload_n dX1_loseLimpet_0 rfl ?_
  refine z_iload_n dX1_loseLimpet_1 rfl ?_
  refine z_putf zc3 4 dX1_loseLimpet_2 q872 (by decide) rfl rfl rfl (cpt_l (k := a) hB (by omega)) (Nat.le_of_ble_eq_true rfl) ?_
  rw [cpt_wl4 (k := a) hB (by omega)]
  refine z_aload_n dX1_loseLimpet_5 rfl ?_
  refine z_getf zc0 0 dX1_loseLimpet_6 q272 (by decide) shp_0 rfl ?_
  refine z_dup dX1_loseLimpet_9 rfl ?_
  refine z_getf zc1 13 dX1_loseLimpet_10 q208 (by decide) (cpt_sta hB) rfl ?_
  refine z_iconst dX1_loseLimpet_13 (v := 1) rfl ?_
  refine z_iadd dX1_loseLimpet_14 ?_
  refine z_putf zc1 13 dX1_loseLimpet_15 q208 (by decide) rfl rfl rfl (cpt_sta hB) (Nat.le_of_ble_eq_true rfl) ?_
  rw [cpt_wq13 hB]
  refine z_vret dX1_loseLimpet_18 rfl ⟨rfl, rfl⟩
def zcr_loseCrab (σ : Nat → Int32) (b : Nat) (x : Int32) : Nat → Int32 := upd (zcr_leaveShell σ b) (212 + 5 * b + 3) x
set_option maxHeartbeats 4000000 in
theorem kc_loseCrab {G : zE} (hG : zGG G) {A B I : Nat → Nat} {NL NS NC : Nat} (hB : zcb A B I NL NS NC) {e nt : Nat} {sn rc : Value} {t w o σ : Nat → Int32} {lo : Int32} {h0 : zH} (hok : zok σ NL NS NC) {b : Nat} (lb : b < NC) {x : Int32} {d : Nat} (hd : 5 ≤ d) : zCon G fX1_loseCrab d 0 0 [.ref (A 0), .ref (B (56 + b)), .int x] (cpt G A B I e nt sn rc t w o σ lo NL NS NC h0) (zAv (cpt G A B I e nt sn rc t w o (zcr_loseCrab σ b x) (lo + 1) NL NS NC h0)) nX := by
  refine zCon.of9 (L := [some (.ref (A 0)), some (.ref (B (56 + b))), some (.int x)]) (by simp [Value.category]) (Nat.le_of_ble_eq_true rfl) pX1 rfl rfl ?_
  obtain ⟨bL, bS, bC⟩ := hok.b
  refine z_aload_n dX1_loseCrab_0 rfl ?_
  refine z_aload_n dX1_loseCrab_1 rfl ?_
  refine z_cVv zc0 mX1_leaveShell (kc_leaveShell (d := d - 1) (b := b) hG hB hok (by omega) (by omega)) dX1_loseCrab_2 q1207 (by omega) rfl (Nat.le_of_ble_eq_true rfl) rfl shp_0 rfl ?_
  refine z_aload_n dX1_loseCrab_5 rfl ?_
  refine z_iload_n dX1_loseCrab_6 rfl ?_
  refine z_putf zc5 4 dX1_loseCrab_7 q977 (by decide) rfl rfl rfl (cpt_c (k := b) hB (by omega)) (Nat.le_of_ble_eq_true rfl) ?_
  rw [cpt_wc4 (k := b) hB (by omega)]
  refine z_aload_n dX1_loseCrab_10 rfl ?_
  refine z_getf zc0 0 dX1_loseCrab_11 q272 (by decide) shp_0 rfl ?_
  refine z_dup dX1_loseCrab_14 rfl ?_
  refine z_getf zc1 13 dX1_loseCrab_15 q208 (by decide) (cpt_sta hB) rfl ?_
  refine z_iconst dX1_loseCrab_18 (v := 1) rfl ?_
  refine z_iadd dX1_loseCrab_19 ?_
  refine z_putf zc1 13 dX1_loseCrab_20 q208 (by decide) rfl rfl rfl (cpt_sta hB) (Nat.le_of_ble_eq_true rfl) ?_
  rw [cpt_wq13 hB]
  refine z_vret dX1_loseCrab_23 rfl ⟨rfl, rfl⟩
def zcr_changePool (σ : Nat → Int32) (a : Nat) : Nat → Int32 := upd (upd σ (15 + a) (if zf_isWet σ a then (10 : Int32) else (if ((σ (15 + a)) + (σ 3)) < 40 then ((σ (15 + a)) + (σ 3)) else (40 : Int32)))) (23 + a) (if ((σ (23 + a)) + (if zf_isWet σ a then (3 : Int32) else (1 : Int32))) < 99 then ((σ (23 + a)) + (if zf_isWet σ a then (3 : Int32) else (1 : Int32))) else (99 : Int32))
set_option maxHeartbeats 4000000 in
theorem kc_changePool {G : zE} (hG : zGG G) {A B I : Nat → Nat} {NL NS NC : Nat} (hB : zcb A B I NL NS NC) {e nt : Nat} {sn rc : Value} {t w o σ : Nat → Int32} {lo : Int32} {h0 : zH} {i : Int32} {a : Nat} (ha : i = nI a) (la : a < 8) {d : Nat} (hd : 6 ≤ d) : zCon G fX1_changePool d 0 0 [.ref (A 0), .int i] (cpt G A B I e nt sn rc t w o σ lo NL NS NC h0) (zAv (cpt G A B I e nt sn rc t w o (zcr_changePool σ a) lo NL NS NC h0)) nX := by
  refine zCon.of9 (L := [some (.ref (A 0)), some (.int i), none]) (by simp [Value.category]) (Nat.le_of_ble_eq_true rfl) pX1 rfl rfl ?_
  refine z_aload_n dX1_changePool_0 rfl ?_
  refine z_iload_n dX1_changePool_1 rfl ?_
  refine z_cV zc0 mX1_isFloodedNow (kc_isWet (d := d - 1) hG hB ha (by omega) (by omega)) dX1_changePool_2 q1016 (by omega) rfl (Nat.le_of_ble_eq_true rfl) rfl shp_0 rfl ?_
  refine z_istore_n dX1_changePool_5 (by decide) ?_
  refine z_aload_n dX1_changePool_6 rfl ?_
  refine z_getf zc0 0 dX1_changePool_7 q272 (by decide) shp_0 rfl ?_
  refine z_getf zc1 4 dX1_changePool_10 q188 (by decide) (cpt_sta hB) rfl ?_
  refine z_iload_n dX1_changePool_13 rfl ?_
  refine z_iload_n dX1_changePool_14 rfl ?_
  refine z_join 45 (.int (if zf_isWet σ a then (10 : Int32) else (if ((σ (15 + a)) + (σ 3)) < 40 then ((σ (15 + a)) + (σ 3)) else (40 : Int32)))) 1 ?_ (fun hJ => ?_)
  rotate_left
  ·
    refine z_ifB_eq (tgt := 23) dX1_changePool_15 (by decide) (fun c_1 => ?_) (fun c_1 => ?_)
    ·
      refine z_bipush dX1_changePool_23 (v := 40) rfl ?_
      refine z_aload_n dX1_changePool_25 rfl ?_
      refine z_getf zc0 0 dX1_changePool_26 q272 (by decide) shp_0 rfl ?_
      refine z_getf zc1 4 dX1_changePool_29 q188 (by decide) (cpt_sta hB) rfl ?_
      refine z_iload_n dX1_changePool_32 rfl ?_
      refine z_iald dX1_changePool_33 (cpt_8 hB) (zn_to (ha) rfl) (by omega) (by omega) ?_
      rw [show c8 σ 15 a = σ (15 + a) from (if_pos (by omega)).trans rfl]
      refine z_aload_n dX1_changePool_34 rfl ?_
      refine z_getf zc0 0 dX1_changePool_35 q272 (by decide) shp_0 rfl ?_
      refine z_getf zc1 9 (v := .int (σ 3)) dX1_changePool_38 q200 (by decide) (cpt_sta hB) rfl ?_
      refine z_iadd dX1_changePool_41 ?_
      refine z_min dX1_changePool_42 q1112 (by omega) (Nat.le_of_ble_eq_true rfl) ?_
      exact z_jv (by simp only [if_neg c_1] <;> rfl) hJ
    ·
      refine z_bipush dX1_changePool_18 (v := 10) rfl ?_
      refine z_goto (tgt := 45) dX1_changePool_20 (by decide) ?_
      exact z_jv (by simp only [if_pos c_1] <;> rfl) hJ
  refine z_iast dX1_changePool_45 (cpt_8 hB) (zn_to (ha) rfl) (by omega) (by omega) ?_
  rw [cpt_w8 (k := a) hB (by omega)]
  refine z_aload_n dX1_changePool_46 rfl ?_
  refine z_getf zc0 0 dX1_changePool_47 q272 (by decide) shp_0 rfl ?_
  refine z_getf zc1 5 dX1_changePool_50 q190 (by decide) (cpt_sta hB) rfl ?_
  refine z_iload_n dX1_changePool_53 rfl ?_
  refine z_bipush dX1_changePool_54 (v := 99) rfl ?_
  refine z_aload_n dX1_changePool_56 rfl ?_
  refine z_getf zc0 0 dX1_changePool_57 q272 (by decide) shp_0 rfl ?_
  refine z_getf zc1 5 dX1_changePool_60 q190 (by decide) (cpt_sta hB) rfl ?_
  refine z_iload_n dX1_changePool_63 rfl ?_
  refine z_iald dX1_changePool_64 (cpt_9 hB) (zn_to (ha) rfl) (by omega) (by omega) ?_
  rw [show c8 (upd σ (15 + a) (if zf_isWet σ a then (10 : Int32) else (if ((σ (15 + a)) + (σ 3)) < 40 then ((σ (15 + a)) + (σ 3)) else (40 : Int32)))) 23 a = σ (23 + a) from (if_pos (by omega)).trans ((upd_n (by omega)).trans rfl)]
  refine z_iload_n dX1_changePool_65 rfl ?_
  refine z_join 74 (.int (if zf_isWet σ a then (3 : Int32) else (1 : Int32))) 1 ?_ (fun hJ => ?_)
  rotate_left
  ·
    refine z_ifB_eq (tgt := 73) dX1_changePool_66 (by decide) (fun c_2 => ?_) (fun c_2 => ?_)
    ·
      refine z_iconst dX1_changePool_73 (v := 1) rfl ?_
      exact z_jv (by simp only [if_neg c_2] <;> rfl) hJ
    ·
      refine z_iconst dX1_changePool_69 (v := 3) rfl ?_
      refine z_goto (tgt := 74) dX1_changePool_70 (by decide) ?_
      exact z_jv (by simp only [if_pos c_2] <;> rfl) hJ
  refine z_iadd dX1_changePool_74 ?_
  refine z_min dX1_changePool_75 q1112 (by omega) (Nat.le_of_ble_eq_true rfl) ?_
  refine z_iast dX1_changePool_78 (cpt_9 hB) (zn_to (ha) rfl) (by omega) (by omega) ?_
  rw [cpt_w9 (k := a) hB (by omega)]
  refine z_vret dX1_changePool_79 rfl ⟨rfl, rfl⟩
def zr_grow_54 (σ : Nat → Int32) (b : Nat) : Nat → Int32 := if zf_lives σ b then (if (σ (212 + 5 * b + 2)) = (-1) then σ else (if (σ (133 + 3 * ((σ (212 + 5 * b + 2)).toNatClampNeg)) - σ (212 + 5 * b)) ≤ 0 then σ else (upd σ (212 + 5 * b) (if ((σ (212 + 5 * b)) + 1) < 20 then ((σ (212 + 5 * b)) + 1) else (20 : Int32))))) else σ
def zcr_grow (σ : Nat → Int32) (b : Nat) : Nat → Int32 := zr_grow_54 σ b
set_option maxHeartbeats 4000000 in
theorem kc_grow {G : zE} (hG : zGG G) {A B I : Nat → Nat} {NL NS NC : Nat} (hB : zcb A B I NL NS NC) {e nt : Nat} {sn rc : Value} {t w o σ : Nat → Int32} {lo : Int32} {h0 : zH} (hok : zok σ NL NS NC) {b : Nat} (lb : b < NC) {d : Nat} (hd : 4 ≤ d) : zCon G fX1_grow d 0 0 [.ref (A 0), .ref (B (56 + b))] (cpt G A B I e nt sn rc t w o σ lo NL NS NC h0) (zAv (cpt G A B I e nt sn rc t w o (zcr_grow σ b) lo NL NS NC h0)) nX := by
  refine zCon.of9 (L := [some (.ref (A 0)), some (.ref (B (56 + b)))]) (by simp [Value.category]) (Nat.le_of_ble_eq_true rfl) pX1 rfl rfl ?_
  obtain ⟨bL, bS, bC⟩ := hok.b
  refine z_aload_n dX1_grow_0 rfl ?_
  refine z_cD zc5 mX10_lives (k_clivesR (d := d - 1) (k := b) hG hB (by omega) (by omega)) dX1_grow_1 (zg_livesC hG) (by decide +kernel) (by omega) rfl (Nat.le_of_ble_eq_true rfl) (cpt_c (k := b) hB (by omega)) rfl ?_
  refine z_joinH 54 [some (.ref (A 0)), some (.ref (B (56 + b)))] (cpt G A B I e nt sn rc t w o (zr_grow_54 σ b) lo NL NS NC h0) 1 ?_ (fun hJ => ?_)
  rotate_left
  ·
    refine z_ifB_eq (tgt := 54) dX1_grow_4 (by decide) (fun c_1 => ?_) (fun c_1 => ?_)
    ·
      exact z_jH (by first | rfl | (simp only [if_neg c_1] <;> rfl)) (by simp only [zr_grow_54, if_neg c_1]) hJ
    ·
      refine z_aload_n dX1_grow_7 rfl ?_
      refine z_getf zc5 2 (v := .int (σ (212 + 5 * b + 2))) dX1_grow_8 q973 (by decide) (cpt_c (k := b) hB (by omega)) rfl ?_
      refine z_iconst dX1_grow_11 (v := (-1)) rfl ?_
      refine z_icmp_eq (tgt := 54) dX1_grow_12 (by decide) (fun c_2 => ?_) (fun c_2 => ?_)
      ·
        exact z_jH (by first | rfl | (simp only [if_pos c_1, if_pos c_2] <;> rfl)) (by simp only [zr_grow_54, if_pos c_1, if_pos c_2]) hJ
      ·
        refine z_aload_n dX1_grow_15 rfl ?_
        refine z_getf zc0 0 dX1_grow_16 q272 (by decide) shp_0 rfl ?_
        refine z_getf zc1 1 dX1_grow_19 q179 (by decide) (cpt_sta hB) rfl ?_
        refine z_aload_n dX1_grow_22 rfl ?_
        refine z_getf zc5 2 (v := .int (σ (212 + 5 * b + 2))) dX1_grow_23 q973 (by decide) (cpt_c (k := b) hB (by omega)) rfl ?_
        have lb_3 := (hok.cw (k := b) (by omega) c_2).2
        refine z_cV zc8 mJ2_get (k_getS (d := d - 1) (k := (σ (212 + 5 * b + 2)).toNatClampNeg) hB ((hok.cw (k := b) (by omega) c_2).1) (by omega) (by omega)) dX1_grow_26 q1033 (by omega) rfl (Nat.le_of_ble_eq_true rfl) rfl (cpt_ls hB) rfl ?_
        refine z_cast zc4 dX1_grow_29 q1078 (zg_castS hG) (cpt_s (k := ((σ (212 + 5 * b + 2)).toNatClampNeg)) hB (by omega)) ?_
        refine z_aload_n dX1_grow_32 rfl ?_
        refine z_cD zc4 mX8_gapFor (k_gapR (d := d - 1) (k := ((σ (212 + 5 * b + 2)).toNatClampNeg)) (b := b) hG hB (by omega) (by omega) (by omega)) dX1_grow_33 (zg_gapS hG) (by decide +kernel) (by omega) rfl (Nat.le_of_ble_eq_true rfl) (cpt_s (k := ((σ (212 + 5 * b + 2)).toNatClampNeg)) hB (by omega)) rfl ?_
        refine z_if_le (tgt := 54) dX1_grow_36 (by decide) (fun c_4 => ?_) (fun c_4 => ?_)
        ·
          exact z_jH (by first | rfl | (simp only [if_pos c_1, if_neg c_2, if_pos c_4] <;> rfl)) (by simp only [zr_grow_54, if_pos c_1, if_neg c_2, if_pos c_4]) hJ
        ·
          refine z_aload_n dX1_grow_39 rfl ?_
          refine z_bipush dX1_grow_40 (v := 20) rfl ?_
          refine z_aload_n dX1_grow_42 rfl ?_
          refine z_getf zc5 1 (v := .int (σ (212 + 5 * b))) dX1_grow_43 q971 (by decide) (cpt_c (k := b) hB (by omega)) rfl ?_
          refine z_iconst dX1_grow_46 (v := 1) rfl ?_
          refine z_iadd dX1_grow_47 ?_
          refine z_min dX1_grow_48 q1112 (by omega) (Nat.le_of_ble_eq_true rfl) ?_
          refine z_putf zc5 1 dX1_grow_51 q971 (by decide) rfl rfl rfl (cpt_c (k := b) hB (by omega)) (Nat.le_of_ble_eq_true rfl) ?_
          rw [cpt_wc1 (k := b) hB (by omega)]
          exact z_jH (by first | rfl | (simp only [if_pos c_1, if_neg c_2, if_neg c_4] <;> rfl)) (by simp only [zr_grow_54, if_pos c_1, if_neg c_2, if_neg c_4]) hJ
  refine z_vret dX1_grow_54 rfl ⟨rfl, rfl⟩
