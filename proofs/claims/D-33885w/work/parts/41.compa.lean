/-! THE COMPONENT, part 1: tides, worth, shells -/
set_option maxRecDepth 100000
theorem k_llivesR {G : zE} {A B I : Nat → Nat} {e nt : Nat} {sn rc : Value} {t w o : Nat → Int32} {σ : Nat → Int32} {lo : Int32} {NL NS NC : Nat} {h0 : zH} {d k : Nat} (hG : zGG G) (hB : zcb A B I NL NS NC) (hk : k < NL) (hd : 2 ≤ d) : zCon G fX10_lives d 0 0 [.ref (B (10 + k))] (cpt G A B I e nt sn rc t w o σ lo NL NS NC h0) (zA (.int (if σ (32 + 5 * k + 4) = 0 then (1 : Int32) else 0)) (cpt G A B I e nt sn rc t w o σ lo NL NS NC h0)) nX := k_llives hG (cpt_l hB hk) hd
theorem k_clivesR {G : zE} {A B I : Nat → Nat} {e nt : Nat} {sn rc : Value} {t w o : Nat → Int32} {σ : Nat → Int32} {lo : Int32} {NL NS NC : Nat} {h0 : zH} {d k : Nat} (hG : zGG G) (hB : zcb A B I NL NS NC) (hk : k < NC) (hd : 2 ≤ d) : zCon G fX10_lives d 0 0 [.ref (B (56 + k))] (cpt G A B I e nt sn rc t w o σ lo NL NS NC h0) (zA (.int (if zf_lives σ k then (1 : Int32) else 0)) (cpt G A B I e nt sn rc t w o σ lo NL NS NC h0)) nX := k_clives hG (cpt_c hB hk) hd
theorem k_clivesInR {G : zE} {A B I : Nat → Nat} {e nt : Nat} {sn rc : Value} {t w o : Nat → Int32} {σ : Nat → Int32} {lo : Int32} {NL NS NC : Nat} {h0 : zH} {d k : Nat} (hG : zGG G) (hB : zcb A B I NL NS NC) {p : Int32} (hk : k < NC) (hd : 3 ≤ d) : zCon G fX10_livesIn d 0 0 [.ref (B (56 + k)), .int p] (cpt G A B I e nt sn rc t w o σ lo NL NS NC h0) (zA (.int (if zf_lives σ k ∧ σ (212 + 5 * k + 1) = p then (1 : Int32) else 0)) (cpt G A B I e nt sn rc t w o σ lo NL NS NC h0)) nX := k_clivesIn hG (cpt_c hB hk) hd
theorem k_llivesInR {G : zE} {A B I : Nat → Nat} {e nt : Nat} {sn rc : Value} {t w o : Nat → Int32} {σ : Nat → Int32} {lo : Int32} {NL NS NC : Nat} {h0 : zH} {d k : Nat} (hG : zGG G) (hB : zcb A B I NL NS NC) {p : Int32} (hk : k < NL) (hd : 3 ≤ d) : zCon G fX10_livesIn d 0 0 [.ref (B (10 + k)), .int p] (cpt G A B I e nt sn rc t w o σ lo NL NS NC h0) (zA (.int (if σ (32 + 5 * k + 4) = 0 ∧ σ (32 + 5 * k) = p then (1 : Int32) else 0)) (cpt G A B I e nt sn rc t w o σ lo NL NS NC h0)) nX := k_llivesIn hG (cpt_l hB hk) hd
theorem k_tightR {G : zE} {A B I : Nat → Nat} {e nt : Nat} {sn rc : Value} {t w o : Nat → Int32} {σ : Nat → Int32} {lo : Int32} {NL NS NC : Nat} {h0 : zH} {d k b : Nat} (hG : zGG G) (hB : zcb A B I NL NS NC) (hk : k < NS) (hb : b < NC) (hd : 3 ≤ d) : zCon G fX8_isTightFor d 0 0 [.ref (B (30 + k)), .ref (B (56 + b))] (cpt G A B I e nt sn rc t w o σ lo NL NS NC h0) (zA (.int (if σ (133 + 3 * k) - σ (212 + 5 * b) < 0 then (1 : Int32) else 0)) (cpt G A B I e nt sn rc t w o σ lo NL NS NC h0)) nX := k_isTightFor hG (cpt_s hB hk) (cpt_c hB hb) hd
theorem k_gapR {G : zE} {A B I : Nat → Nat} {e nt : Nat} {sn rc : Value} {t w o : Nat → Int32} {σ : Nat → Int32} {lo : Int32} {NL NS NC : Nat} {h0 : zH} {d k b : Nat} (hG : zGG G) (hB : zcb A B I NL NS NC) (hk : k < NS) (hb : b < NC) (hd : 2 ≤ d) : zCon G fX8_gapFor d 0 0 [.ref (B (30 + k)), .ref (B (56 + b))] (cpt G A B I e nt sn rc t w o σ lo NL NS NC h0) (zA (.int (σ (133 + 3 * k) - σ (212 + 5 * b))) (cpt G A B I e nt sn rc t w o σ lo NL NS NC h0)) nX := k_gapFor hG (cpt_s hB hk) (cpt_c hB hb) hd
theorem k_worthR {G : zE} {A B I : Nat → Nat} {e nt : Nat} {sn rc : Value} {t w o : Nat → Int32} {σ : Nat → Int32} {lo : Int32} {NL NS NC : Nat} {h0 : zH} {d k b : Nat} (hG : zGG G) (hB : zcb A B I NL NS NC) (hk : k < NS) (hb : b < NC) (hd : 3 ≤ d) : zCon G fX8_worth d 0 0 [.ref (B (30 + k)), .ref (B (56 + b))] (cpt G A B I e nt sn rc t w o σ lo NL NS NC h0) (zA (.int (zf_worthOf σ k b)) (cpt G A B I e nt sn rc t w o σ lo NL NS NC h0)) nX := k_cworth hG (cpt_s hB hk) (cpt_c hB hb) hd
theorem k_liesR {G : zE} {A B I : Nat → Nat} {e nt : Nat} {sn rc : Value} {t w o : Nat → Int32} {σ : Nat → Int32} {lo : Int32} {NL NS NC : Nat} {h0 : zH} {d k : Nat} (hB : zcb A B I NL NS NC) {p : Int32} (hk : k < NS) (hd : 1 ≤ d) : zCon G fX6_liesIn d 0 0 [.ref (B (30 + k)), .int p] (cpt G A B I e nt sn rc t w o σ lo NL NS NC h0) (zA (.int (if σ (133 + 3 * k + 2) = -1 ∧ σ (133 + 3 * k + 1) = p then (1 : Int32) else 0)) (cpt G A B I e nt sn rc t w o σ lo NL NS NC h0)) nX := k_liesIn (cpt_s hB hk) hd
/-- the rise of the tide -/
def zrise (t : Int32) : Int32 := if t - t / 12 * 12 ≤ 6 then t - t / 12 * 12 else 12 - (t - t / 12 * 12)
theorem kc_rise {G : zE} {h : zH} {x : Int32} {d : Nat} (hd : 1 ≤ d) : zCon G fX1_rise d 0 0 [.int x] h (zA (.int (zrise x)) h) nX := by
  refine zCon.of9 (L := [some (.int x), none]) (by simp [Value.category]) (Nat.le_of_ble_eq_true rfl) pX1 rfl rfl ?_
  refine z_iload_n dX1_rise_0 rfl ?_
  refine z_bipush dX1_rise_1 (v := 12) rfl ?_
  refine z_irem dX1_rise_3 (by decide) ?_
  refine z_istore_n dX1_rise_4 (by decide) ?_
  refine z_iload_n dX1_rise_5 rfl ?_
  refine z_bipush dX1_rise_6 (v := 6) rfl ?_
  refine z_join 19 (.int (if (x - x / 12 * 12) ≤ 6 then (x - x / 12 * 12) else (12 - (x - x / 12 * 12)))) 2 ?_ (fun hJ => ?_)
  rotate_left
  ·
    refine z_icmp_le (tgt := 18) dX1_rise_8 (by decide) (fun c_1 => ?_) (fun c_1 => ?_)
    ·
      refine z_iload_n dX1_rise_18 rfl ?_
      exact z_jv (by simp only [if_pos c_1] <;> rfl) hJ
    ·
      refine z_bipush dX1_rise_11 (v := 12) rfl ?_
      refine z_iload_n dX1_rise_13 rfl ?_
      refine z_isub dX1_rise_14 ?_
      refine z_goto (tgt := 19) dX1_rise_15 (by decide) ?_
      exact z_jv (by simp only [if_neg c_1] <;> rfl) hJ
  refine z_ret dX1_rise_19 rfl rfl ⟨rfl, rfl⟩
def zc_height (σ : Nat → Int32) (v : Int32) : Int32 := (σ 1) + ((((σ 2) - (σ 1)) * v) / 6)
set_option maxHeartbeats 4000000 in
theorem kc_height {G : zE} (hG : zGG G) {A B I : Nat → Nat} {NL NS NC : Nat} (hB : zcb A B I NL NS NC) {e nt : Nat} {sn rc : Value} {t w o σ : Nat → Int32} {lo : Int32} {h0 : zH} {v : Int32} {d : Nat} (hd : 1 ≤ d) : zCon G fX1_height d 0 0 [.ref (A 0), .int v] (cpt G A B I e nt sn rc t w o σ lo NL NS NC h0) (zA (.int (zc_height σ v)) (cpt G A B I e nt sn rc t w o σ lo NL NS NC h0)) nX := by
  refine zCon.of9 (L := [some (.ref (A 0)), some (.int v)]) (by simp [Value.category]) (Nat.le_of_ble_eq_true rfl) pX1 rfl rfl ?_
  refine z_aload_n dX1_height_0 rfl ?_
  refine z_getf zc0 0 dX1_height_1 q272 (by decide) shp_0 rfl ?_
  refine z_getf zc1 7 (v := .int (σ 1)) dX1_height_4 q194 (by decide) (cpt_sta hB) rfl ?_
  refine z_aload_n dX1_height_7 rfl ?_
  refine z_getf zc0 0 dX1_height_8 q272 (by decide) shp_0 rfl ?_
  refine z_getf zc1 8 (v := .int (σ 2)) dX1_height_11 q197 (by decide) (cpt_sta hB) rfl ?_
  refine z_aload_n dX1_height_14 rfl ?_
  refine z_getf zc0 0 dX1_height_15 q272 (by decide) shp_0 rfl ?_
  refine z_getf zc1 7 (v := .int (σ 1)) dX1_height_18 q194 (by decide) (cpt_sta hB) rfl ?_
  refine z_isub dX1_height_21 ?_
  refine z_iload_n dX1_height_22 rfl ?_
  refine z_imul dX1_height_23 ?_
  refine z_bipush dX1_height_24 (v := 6) rfl ?_
  refine z_idiv dX1_height_26 (by decide) ?_
  refine z_iadd dX1_height_27 ?_
  refine z_ret dX1_height_28 rfl rfl ⟨rfl, rfl⟩
abbrev zc_isFloodedAt (σ : Nat → Int32) (a : Nat) (x : Int32) : Prop := ¬ ((zc_height σ (zrise x)) < (σ (7 + a)))
set_option maxHeartbeats 4000000 in
theorem kc_isFloodedAt {G : zE} (hG : zGG G) {A B I : Nat → Nat} {NL NS NC : Nat} (hB : zcb A B I NL NS NC) {e nt : Nat} {sn rc : Value} {t w o σ : Nat → Int32} {lo : Int32} {h0 : zH} {i : Int32} {a : Nat} (ha : i = nI a) (la : a < 8) {x : Int32} {d : Nat} (hd : 2 ≤ d) : zCon G fX1_isFloodedAt d 0 0 [.ref (A 0), .int i, .int x] (cpt G A B I e nt sn rc t w o σ lo NL NS NC h0) (zA (.int (if zc_isFloodedAt σ a x then (1 : Int32) else 0)) (cpt G A B I e nt sn rc t w o σ lo NL NS NC h0)) nX := by
  refine zCon.of9 (L := [some (.ref (A 0)), some (.int i), some (.int x)]) (by simp [Value.category]) (Nat.le_of_ble_eq_true rfl) pX1 rfl rfl ?_
  refine z_aload_n dX1_isFloodedAt_0 rfl ?_
  refine z_iload_n dX1_isFloodedAt_1 rfl ?_
  refine z_cS mX1_rise (kc_rise (d := d - 1) (by omega)) dX1_isFloodedAt_2 q997 (by omega) rfl (Nat.le_of_ble_eq_true rfl) rfl ?_
  refine z_cV zc0 mX1_height (kc_height (d := d - 1) hG hB (by omega)) dX1_isFloodedAt_5 q1000 (by omega) rfl (Nat.le_of_ble_eq_true rfl) rfl shp_0 rfl ?_
  refine z_aload_n dX1_isFloodedAt_8 rfl ?_
  refine z_getf zc0 0 dX1_isFloodedAt_9 q272 (by decide) shp_0 rfl ?_
  refine z_getf zc1 3 dX1_isFloodedAt_12 q185 (by decide) (cpt_sta hB) rfl ?_
  refine z_iload_n dX1_isFloodedAt_15 rfl ?_
  refine z_iald dX1_isFloodedAt_16 (cpt_7 hB) (zn_to (ha) rfl) (by omega) (by omega) ?_
  rw [show c8 σ 7 a = σ (7 + a) from (if_pos (by omega)).trans rfl]
  refine z_join 25 (.int (if ¬ ((zc_height σ (zrise x)) < (σ (7 + a))) then (1 : Int32) else 0)) 2 ?_ (fun hJ => ?_)
  rotate_left
  ·
    refine z_icmp_lt (tgt := 24) dX1_isFloodedAt_17 (by decide) (fun c_1 => ?_) (fun c_1 => ?_)
    ·
      refine z_iconst dX1_isFloodedAt_24 (v := 0) rfl ?_
      exact z_jv (if_neg (fun z => z c_1)) hJ
    ·
      refine z_iconst dX1_isFloodedAt_20 (v := 1) rfl ?_
      refine z_goto (tgt := 25) dX1_isFloodedAt_21 (by decide) ?_
      exact z_jv (if_pos c_1) hJ
  refine z_ret dX1_isFloodedAt_25 rfl z_bool ⟨rfl, rfl⟩
theorem zc_wet {σ : Nat → Int32} {a : Nat} : zc_isFloodedAt σ a (σ 0) = zf_isWet σ a := rfl
abbrev zc_isFloodedNow (σ : Nat → Int32) (a : Nat) : Prop := zc_isFloodedAt σ a (σ 0)
set_option maxHeartbeats 4000000 in
theorem kc_isFloodedNow {G : zE} (hG : zGG G) {A B I : Nat → Nat} {NL NS NC : Nat} (hB : zcb A B I NL NS NC) {e nt : Nat} {sn rc : Value} {t w o σ : Nat → Int32} {lo : Int32} {h0 : zH} {i : Int32} {a : Nat} (ha : i = nI a) (la : a < 8) {d : Nat} (hd : 3 ≤ d) : zCon G fX1_isFloodedNow d 0 0 [.ref (A 0), .int i] (cpt G A B I e nt sn rc t w o σ lo NL NS NC h0) (zA (.int (if zc_isFloodedNow σ a then (1 : Int32) else 0)) (cpt G A B I e nt sn rc t w o σ lo NL NS NC h0)) nX := by
  refine zCon.of9 (L := [some (.ref (A 0)), some (.int i)]) (by simp [Value.category]) (Nat.le_of_ble_eq_true rfl) pX1 rfl rfl ?_
  refine z_aload_n dX1_isFloodedNow_0 rfl ?_
  refine z_iload_n dX1_isFloodedNow_1 rfl ?_
  refine z_aload_n dX1_isFloodedNow_2 rfl ?_
  refine z_getf zc0 0 dX1_isFloodedNow_3 q272 (by decide) shp_0 rfl ?_
  refine z_getf zc1 6 (v := .int (σ 0)) dX1_isFloodedNow_6 q192 (by decide) (cpt_sta hB) rfl ?_
  refine z_cV zc0 mX1_isFloodedAt (kc_isFloodedAt (d := d - 1) hG hB ha (by omega) (by omega)) dX1_isFloodedNow_9 q1020 (by omega) rfl (Nat.le_of_ble_eq_true rfl) rfl shp_0 rfl ?_
  refine z_ret dX1_isFloodedNow_12 rfl z_bool ⟨rfl, rfl⟩
theorem kc_isWet {G : zE} (hG : zGG G) {A B I : Nat → Nat} {NL NS NC : Nat} (hB : zcb A B I NL NS NC) {e nt : Nat} {sn rc : Value} {t w o σ : Nat → Int32} {lo : Int32} {h0 : zH} {i : Int32} {a : Nat} (ha : i = nI a) (la : a < 8) {d : Nat} (hd : 3 ≤ d) : zCon G fX1_isFloodedNow d 0 0 [.ref (A 0), .int i] (cpt G A B I e nt sn rc t w o σ lo NL NS NC h0) (zA (.int (if zf_isWet σ a then (1 : Int32) else 0)) (cpt G A B I e nt sn rc t w o σ lo NL NS NC h0)) nX := kc_isFloodedNow hG hB ha la hd
def zc_worthOfOwn (σ : Nat → Int32) (b : Nat) : Int32 := if (σ (212 + 5 * b + 2)) = (-1) then ((-40) : Int32) else (zf_worthOf σ ((σ (212 + 5 * b + 2)).toNatClampNeg) b)
set_option maxHeartbeats 4000000 in
theorem kc_worthOfOwn {G : zE} (hG : zGG G) {A B I : Nat → Nat} {NL NS NC : Nat} (hB : zcb A B I NL NS NC) {e nt : Nat} {sn rc : Value} {t w o σ : Nat → Int32} {lo : Int32} {h0 : zH} (hok : zok σ NL NS NC) {b : Nat} (lb : b < NC) {d : Nat} (hd : 4 ≤ d) : zCon G fX1_worthOfOwn d 0 0 [.ref (A 0), .ref (B (56 + b))] (cpt G A B I e nt sn rc t w o σ lo NL NS NC h0) (zA (.int (zc_worthOfOwn σ b)) (cpt G A B I e nt sn rc t w o σ lo NL NS NC h0)) nX := by
  refine zCon.of9 (L := [some (.ref (A 0)), some (.ref (B (56 + b)))]) (by simp [Value.category]) (Nat.le_of_ble_eq_true rfl) pX1 rfl rfl ?_
  obtain ⟨bL, bS, bC⟩ := hok.b
  refine z_aload_n dX1_worthOfOwn_0 rfl ?_
  refine z_getf zc5 2 (v := .int (σ (212 + 5 * b + 2))) dX1_worthOfOwn_1 q973 (by decide) (cpt_c (k := b) hB (by omega)) rfl ?_
  refine z_iconst dX1_worthOfOwn_4 (v := (-1)) rfl ?_
  refine z_join 34 (.int (if (σ (212 + 5 * b + 2)) = (-1) then ((-40) : Int32) else (zf_worthOf σ ((σ (212 + 5 * b + 2)).toNatClampNeg) b))) 2 ?_ (fun hJ => ?_)
  rotate_left
  ·
    refine z_icmp_ne (tgt := 13) dX1_worthOfOwn_5 (by decide) (fun c_1 => ?_) (fun c_1 => ?_)
    ·
      refine z_aload_n dX1_worthOfOwn_13 rfl ?_
      refine z_getf zc0 0 dX1_worthOfOwn_14 q272 (by decide) shp_0 rfl ?_
      refine z_getf zc1 1 dX1_worthOfOwn_17 q179 (by decide) (cpt_sta hB) rfl ?_
      refine z_aload_n dX1_worthOfOwn_20 rfl ?_
      refine z_getf zc5 2 (v := .int (σ (212 + 5 * b + 2))) dX1_worthOfOwn_21 q973 (by decide) (cpt_c (k := b) hB (by omega)) rfl ?_
      have lb_2 := (hok.cw (k := b) (by omega) c_1).2
      refine z_cV zc8 mJ2_get (k_getS (d := d - 1) (k := (σ (212 + 5 * b + 2)).toNatClampNeg) hB ((hok.cw (k := b) (by omega) c_1).1) (by omega) (by omega)) dX1_worthOfOwn_24 q1033 (by omega) rfl (Nat.le_of_ble_eq_true rfl) rfl (cpt_ls hB) rfl ?_
      refine z_cast zc4 dX1_worthOfOwn_27 q1176 (zg_castS_Sized hG) (cpt_s (k := ((σ (212 + 5 * b + 2)).toNatClampNeg)) hB (by omega)) ?_
      refine z_aload_n dX1_worthOfOwn_30 rfl ?_
      refine z_cS mX8_worth (k_worthR (d := d - 1) (k := ((σ (212 + 5 * b + 2)).toNatClampNeg)) (b := b) hG hB (by omega) (by omega) (by omega)) dX1_worthOfOwn_31 q1177 (by omega) rfl (Nat.le_of_ble_eq_true rfl) rfl ?_
      exact z_jv (by simp only [if_neg c_1] <;> rfl) hJ
    ·
      refine z_bipush dX1_worthOfOwn_8 (v := (-40)) rfl ?_
      refine z_goto (tgt := 34) dX1_worthOfOwn_10 (by decide) ?_
      exact z_jv (by simp only [if_pos c_1] <;> rfl) hJ
  refine z_ret dX1_worthOfOwn_34 rfl rfl ⟨rfl, rfl⟩
abbrev zc_isTight (σ : Nat → Int32) (b : Nat) : Prop := ¬ ((σ (212 + 5 * b + 2)) = (-1)) ∧ (σ (133 + 3 * ((σ (212 + 5 * b + 2)).toNatClampNeg)) - σ (212 + 5 * b) < 0)
set_option maxHeartbeats 4000000 in
theorem kc_isTight {G : zE} (hG : zGG G) {A B I : Nat → Nat} {NL NS NC : Nat} (hB : zcb A B I NL NS NC) {e nt : Nat} {sn rc : Value} {t w o σ : Nat → Int32} {lo : Int32} {h0 : zH} (hok : zok σ NL NS NC) {b : Nat} (lb : b < NC) {d : Nat} (hd : 4 ≤ d) : zCon G fX1_isTight d 0 0 [.ref (A 0), .ref (B (56 + b))] (cpt G A B I e nt sn rc t w o σ lo NL NS NC h0) (zA (.int (if zc_isTight σ b then (1 : Int32) else 0)) (cpt G A B I e nt sn rc t w o σ lo NL NS NC h0)) nX := by
  refine zCon.of9 (L := [some (.ref (A 0)), some (.ref (B (56 + b)))]) (by simp [Value.category]) (Nat.le_of_ble_eq_true rfl) pX1 rfl rfl ?_
  obtain ⟨bL, bS, bC⟩ := hok.b
  refine z_aload_n dX1_isTight_0 rfl ?_
  refine z_getf zc5 2 (v := .int (σ (212 + 5 * b + 2))) dX1_isTight_1 q973 (by decide) (cpt_c (k := b) hB (by omega)) rfl ?_
  refine z_iconst dX1_isTight_4 (v := (-1)) rfl ?_
  refine z_join 37 (.int (if ¬ ((σ (212 + 5 * b + 2)) = (-1)) ∧ (σ (133 + 3 * ((σ (212 + 5 * b + 2)).toNatClampNeg)) - σ (212 + 5 * b) < 0) then (1 : Int32) else 0)) 2 ?_ (fun hJ => ?_)
  rotate_left
  ·
    refine z_icmp_eq (tgt := 36) dX1_isTight_5 (by decide) (fun c_1 => ?_) (fun c_1 => ?_)
    ·
      refine z_iconst dX1_isTight_36 (v := 0) rfl ?_
      exact z_jv (if_neg (fun z => z.1 c_1)) hJ
    ·
      refine z_aload_n dX1_isTight_8 rfl ?_
      refine z_getf zc0 0 dX1_isTight_9 q272 (by decide) shp_0 rfl ?_
      refine z_getf zc1 1 dX1_isTight_12 q179 (by decide) (cpt_sta hB) rfl ?_
      refine z_aload_n dX1_isTight_15 rfl ?_
      refine z_getf zc5 2 (v := .int (σ (212 + 5 * b + 2))) dX1_isTight_16 q973 (by decide) (cpt_c (k := b) hB (by omega)) rfl ?_
      have lb_2 := (hok.cw (k := b) (by omega) c_1).2
      refine z_cV zc8 mJ2_get (k_getS (d := d - 1) (k := (σ (212 + 5 * b + 2)).toNatClampNeg) hB ((hok.cw (k := b) (by omega) c_1).1) (by omega) (by omega)) dX1_isTight_19 q1033 (by omega) rfl (Nat.le_of_ble_eq_true rfl) rfl (cpt_ls hB) rfl ?_
      refine z_cast zc4 dX1_isTight_22 q1078 (zg_castS hG) (cpt_s (k := ((σ (212 + 5 * b + 2)).toNatClampNeg)) hB (by omega)) ?_
      refine z_aload_n dX1_isTight_25 rfl ?_
      refine z_cD zc4 mX8_isTightFor (k_tightR (d := d - 1) (k := ((σ (212 + 5 * b + 2)).toNatClampNeg)) (b := b) hG hB (by omega) (by omega) (by omega)) dX1_isTight_26 (zg_tightS hG) (by decide +kernel) (by omega) rfl (Nat.le_of_ble_eq_true rfl) (cpt_s (k := ((σ (212 + 5 * b + 2)).toNatClampNeg)) hB (by omega)) rfl ?_
      refine z_ifB_eq (tgt := 36) dX1_isTight_29 (by decide) (fun c_3 => ?_) (fun c_3 => ?_)
      ·
        refine z_iconst dX1_isTight_36 (v := 0) rfl ?_
        exact z_jv (if_neg (fun z => c_3 z.2)) hJ
      ·
        refine z_iconst dX1_isTight_32 (v := 1) rfl ?_
        refine z_goto (tgt := 37) dX1_isTight_33 (by decide) ?_
        exact z_jv (if_pos (⟨c_1, c_3⟩)) hJ
  refine z_ret dX1_isTight_37 rfl z_bool ⟨rfl, rfl⟩
theorem kc_worn {G : zE} (hG : zGG G) {A B I : Nat → Nat} {NL NS NC : Nat} (hB : zcb A B I NL NS NC) {e nt : Nat} {sn rc : Value} {t w o σ : Nat → Int32} {lo : Int32} {h0 : zH} (hok : zok σ NL NS NC) {b : Nat} (lb : b < NC) {d : Nat} (hd : 4 ≤ d) : zCon G fX1_worthOfOwn d 0 0 [.ref (A 0), .ref (B (56 + b))] (cpt G A B I e nt sn rc t w o σ lo NL NS NC h0) (zA (.int (zf_worn σ b)) (cpt G A B I e nt sn rc t w o σ lo NL NS NC h0)) nX := kc_worthOfOwn hG hB hok lb hd
