/-! SMALL METHODS of limpets, shells and crabs, over any heap -/
set_option maxRecDepth 100000
section
variable {G : zE} {h : zH} {d a b : Nat} {x1 x2 x3 x4 x5 y1 y2 y3 y4 y5 : Int32} {v1 v2 v3 v4 v5 : Value}
theorem k_lfate (ha : h a = some (zO 3 [v1, v2, v3, v4, .int x5])) (hd : 1 ≤ d) : zCon G fX5_fate d 0 0 [.ref a] h (zA (.int x5) h) nX := by
  refine zCon.of9 (L := [some (.ref a)]) (by simp [Value.category]) (Nat.le_of_ble_eq_true rfl) pX5 rfl rfl ?_
  refine z_aload_n dX5_fate_0 rfl ?_
  refine z_getf zc3 4 dX5_fate_1 q871 (by decide) ha rfl ?_
  exact z_ret dX5_fate_4 rfl rfl ⟨rfl, rfl⟩
theorem k_lpool (ha : h a = some (zO 3 [.int x1, v2, v3, v4, v5])) (hd : 1 ≤ d) : zCon G fX5_pool d 0 0 [.ref a] h (zA (.int x1) h) nX := by
  refine zCon.of9 (L := [some (.ref a)]) (by simp [Value.category]) (Nat.le_of_ble_eq_true rfl) pX5 rfl rfl ?_
  refine z_aload_n dX5_pool_0 rfl ?_
  refine z_getf zc3 0 dX5_pool_1 q863 (by decide) ha rfl ?_
  exact z_ret dX5_pool_4 rfl rfl ⟨rfl, rfl⟩
theorem k_cfate (ha : h a = some (zO 5 [v1, v2, v3, v4, .int x5])) (hd : 1 ≤ d) : zCon G fX7_fate d 0 0 [.ref a] h (zA (.int x5) h) nX := by
  refine zCon.of9 (L := [some (.ref a)]) (by simp [Value.category]) (Nat.le_of_ble_eq_true rfl) pX7 rfl rfl ?_
  refine z_aload_n dX7_fate_0 rfl ?_
  refine z_getf zc5 4 dX7_fate_1 q976 (by decide) ha rfl ?_
  exact z_ret dX7_fate_4 rfl rfl ⟨rfl, rfl⟩
theorem k_cpool (ha : h a = some (zO 5 [.int x1, v2, v3, v4, v5])) (hd : 1 ≤ d) : zCon G fX7_pool d 0 0 [.ref a] h (zA (.int x1) h) nX := by
  refine zCon.of9 (L := [some (.ref a)]) (by simp [Value.category]) (Nat.le_of_ble_eq_true rfl) pX7 rfl rfl ?_
  refine z_aload_n dX7_pool_0 rfl ?_
  refine z_getf zc5 0 dX7_pool_1 q968 (by decide) ha rfl ?_
  exact z_ret dX7_pool_4 rfl rfl ⟨rfl, rfl⟩
theorem k_csize (ha : h a = some (zO 5 [v1, .int x2, v3, v4, v5])) (hd : 1 ≤ d) : zCon G fX7_size d 0 0 [.ref a] h (zA (.int x2) h) nX := by
  refine zCon.of9 (L := [some (.ref a)]) (by simp [Value.category]) (Nat.le_of_ble_eq_true rfl) pX7 rfl rfl ?_
  refine z_aload_n dX7_size_0 rfl ?_
  refine z_getf zc5 1 dX7_size_1 q970 (by decide) ha rfl ?_
  exact z_ret dX7_size_4 rfl rfl ⟨rfl, rfl⟩
theorem k_ssize (ha : h a = some (zO 4 [.int x1, v2, v3])) (hd : 1 ≤ d) : zCon G fX6_size d 0 0 [.ref a] h (zA (.int x1) h) nX := by
  refine zCon.of9 (L := [some (.ref a)]) (by simp [Value.category]) (Nat.le_of_ble_eq_true rfl) pX6 rfl rfl ?_
  refine z_aload_n dX6_size_0 rfl ?_
  refine z_getf zc4 0 dX6_size_1 q944 (by decide) ha rfl ?_
  exact z_ret dX6_size_4 rfl rfl ⟨rfl, rfl⟩
/-- lives(), of a limpet and of a crab -/
theorem k_llives (hG : zGG G) (ha : h a = some (zO 3 [v1, v2, v3, v4, .int x5])) (hd : 2 ≤ d) : zCon G fX10_lives d 0 0 [.ref a] h (zA (.int (if x5 = 0 then (1 : Int32) else 0)) h) nX := by
  refine zCon.of9 (L := [some (.ref a)]) (by simp [Value.category]) (Nat.le_of_ble_eq_true rfl) pX10 rfl rfl ?_
  refine z_aload_n dX10_lives_0 rfl ?_
  refine z_cF zc3 mX5_fate (k_lfate (d := d - 1) ha (by omega)) dX10_lives_1 q1041 q1051 (zi_fateL hG) (by decide +kernel) (by omega) rfl (Nat.le_of_ble_eq_true rfl) ha rfl ?_
  refine z_if_ne (tgt := 13) dX10_lives_6 (by decide) (fun c => ?_) (fun c => ?_)
  · refine z_iconst dX10_lives_13 (v := 0) rfl ?_
    exact z_ret dX10_lives_14 rfl rfl ⟨by rw [if_neg c], rfl⟩
  · refine z_iconst dX10_lives_9 (v := 1) rfl ?_
    refine z_goto (tgt := 14) dX10_lives_10 (by decide) ?_
    exact z_ret dX10_lives_14 rfl rfl ⟨by rw [if_pos c], rfl⟩
theorem k_clives (hG : zGG G) (ha : h a = some (zO 5 [v1, v2, v3, v4, .int x5])) (hd : 2 ≤ d) : zCon G fX10_lives d 0 0 [.ref a] h (zA (.int (if x5 = 0 then (1 : Int32) else 0)) h) nX := by
  refine zCon.of9 (L := [some (.ref a)]) (by simp [Value.category]) (Nat.le_of_ble_eq_true rfl) pX10 rfl rfl ?_
  refine z_aload_n dX10_lives_0 rfl ?_
  refine z_cF zc5 mX7_fate (k_cfate (d := d - 1) ha (by omega)) dX10_lives_1 q1041 q1045 (zi_fateC hG) (by decide +kernel) (by omega) rfl (Nat.le_of_ble_eq_true rfl) ha rfl ?_
  refine z_if_ne (tgt := 13) dX10_lives_6 (by decide) (fun c => ?_) (fun c => ?_)
  · refine z_iconst dX10_lives_13 (v := 0) rfl ?_
    exact z_ret dX10_lives_14 rfl rfl ⟨by rw [if_neg c], rfl⟩
  · refine z_iconst dX10_lives_9 (v := 1) rfl ?_
    refine z_goto (tgt := 14) dX10_lives_10 (by decide) ?_
    exact z_ret dX10_lives_14 rfl rfl ⟨by rw [if_pos c], rfl⟩
/-- livesIn(pool) -/
theorem k_llivesIn (hG : zGG G) (ha : h a = some (zO 3 [.int x1, v2, v3, v4, .int x5])) (hd : 3 ≤ d) : zCon G fX10_livesIn d 0 0 [.ref a, .int y1] h (zA (.int (if x5 = 0 ∧ x1 = y1 then (1 : Int32) else 0)) h) nX := by
  refine zCon.of9 (L := [some (.ref a), some (.int y1)]) (by simp [Value.category]) (Nat.le_of_ble_eq_true rfl) pX10 rfl rfl ?_
  refine z_aload_n dX10_livesIn_0 rfl ?_
  refine z_cFD zc3 mX10_lives (k_llives (d := d - 1) hG ha (by omega)) dX10_livesIn_1 q1233 (zi_livesL hG) (by decide +kernel) (by omega) rfl (Nat.le_of_ble_eq_true rfl) ha rfl ?_
  refine z_ifB_eq (tgt := 23) dX10_livesIn_6 (by decide) (fun c => ?_) (fun c => ?_)
  · refine z_iconst dX10_livesIn_23 (v := 0) rfl ?_
    exact z_ret dX10_livesIn_24 rfl rfl ⟨by rw [if_neg (fun q => c q.1)], rfl⟩
  · refine z_aload_n dX10_livesIn_9 rfl ?_
    refine z_cF zc3 mX5_pool (k_lpool (d := d - 1) ha (by omega)) dX10_livesIn_10 q1236 q1244 (zi_poolL hG) (by decide +kernel) (by omega) rfl (Nat.le_of_ble_eq_true rfl) ha rfl ?_
    refine z_iload_n dX10_livesIn_15 rfl ?_
    refine z_icmp_ne (tgt := 23) dX10_livesIn_16 (by decide) (fun e => ?_) (fun e => ?_)
    · refine z_iconst dX10_livesIn_23 (v := 0) rfl ?_
      exact z_ret dX10_livesIn_24 rfl rfl ⟨by rw [if_neg (fun q => e q.2)], rfl⟩
    · refine z_iconst dX10_livesIn_19 (v := 1) rfl ?_
      refine z_goto (tgt := 24) dX10_livesIn_20 (by decide) ?_
      exact z_ret dX10_livesIn_24 rfl rfl ⟨by rw [if_pos ⟨c, e⟩], rfl⟩
theorem k_clivesIn (hG : zGG G) (ha : h a = some (zO 5 [.int x1, v2, v3, v4, .int x5])) (hd : 3 ≤ d) : zCon G fX10_livesIn d 0 0 [.ref a, .int y1] h (zA (.int (if x5 = 0 ∧ x1 = y1 then (1 : Int32) else 0)) h) nX := by
  refine zCon.of9 (L := [some (.ref a), some (.int y1)]) (by simp [Value.category]) (Nat.le_of_ble_eq_true rfl) pX10 rfl rfl ?_
  refine z_aload_n dX10_livesIn_0 rfl ?_
  refine z_cFD zc5 mX10_lives (k_clives (d := d - 1) hG ha (by omega)) dX10_livesIn_1 q1233 (zi_livesC hG) (by decide +kernel) (by omega) rfl (Nat.le_of_ble_eq_true rfl) ha rfl ?_
  refine z_ifB_eq (tgt := 23) dX10_livesIn_6 (by decide) (fun c => ?_) (fun c => ?_)
  · refine z_iconst dX10_livesIn_23 (v := 0) rfl ?_
    exact z_ret dX10_livesIn_24 rfl rfl ⟨by rw [if_neg (fun q => c q.1)], rfl⟩
  · refine z_aload_n dX10_livesIn_9 rfl ?_
    refine z_cF zc5 mX7_pool (k_cpool (d := d - 1) ha (by omega)) dX10_livesIn_10 q1236 q1239 (zi_poolC hG) (by decide +kernel) (by omega) rfl (Nat.le_of_ble_eq_true rfl) ha rfl ?_
    refine z_iload_n dX10_livesIn_15 rfl ?_
    refine z_icmp_ne (tgt := 23) dX10_livesIn_16 (by decide) (fun e => ?_) (fun e => ?_)
    · refine z_iconst dX10_livesIn_23 (v := 0) rfl ?_
      exact z_ret dX10_livesIn_24 rfl rfl ⟨by rw [if_neg (fun q => e q.2)], rfl⟩
    · refine z_iconst dX10_livesIn_19 (v := 1) rfl ?_
      refine z_goto (tgt := 24) dX10_livesIn_20 (by decide) ?_
      exact z_ret dX10_livesIn_24 rfl rfl ⟨by rw [if_pos ⟨c, e⟩], rfl⟩
/-- what a shell is, for a crab -/
theorem k_gapFor (hG : zGG G) (ha : h a = some (zO 4 [.int x1, v2, v3])) (hb : h b = some (zO 5 [v4, .int y2, v5, .int y4, .int y5])) (hd : 2 ≤ d) : zCon G fX8_gapFor d 0 0 [.ref a, .ref b] h (zA (.int (x1 - y2)) h) nX := by
  refine zCon.of9 (L := [some (.ref a), some (.ref b)]) (by simp [Value.category]) (Nat.le_of_ble_eq_true rfl) pX8 rfl rfl ?_
  refine z_aload_n dX8_gapFor_0 rfl ?_
  refine z_cF zc4 mX6_size (k_ssize (d := d - 1) ha (by omega)) dX8_gapFor_1 q1157 q1166 (zi_sizeS hG) (by decide +kernel) (by omega) rfl (Nat.le_of_ble_eq_true rfl) ha rfl ?_
  refine z_aload_n dX8_gapFor_6 rfl ?_
  refine z_cF zc5 mX7_size (k_csize (d := d - 1) hb (by omega)) dX8_gapFor_7 q1157 q1160 (zi_sizeC hG) (by decide +kernel) (by omega) rfl (Nat.le_of_ble_eq_true rfl) hb rfl ?_
  refine z_isub dX8_gapFor_12 ?_
  exact z_ret dX8_gapFor_13 rfl rfl ⟨rfl, rfl⟩
theorem k_isTightFor (hG : zGG G) (ha : h a = some (zO 4 [.int x1, v2, v3])) (hb : h b = some (zO 5 [v4, .int y2, v5, .int y4, .int y5])) (hd : 3 ≤ d) : zCon G fX8_isTightFor d 0 0 [.ref a, .ref b] h (zA (.int (if x1 - y2 < 0 then (1 : Int32) else 0)) h) nX := by
  refine zCon.of9 (L := [some (.ref a), some (.ref b)]) (by simp [Value.category]) (Nat.le_of_ble_eq_true rfl) pX8 rfl rfl ?_
  refine z_aload_n dX8_isTightFor_0 rfl ?_
  refine z_aload_n dX8_isTightFor_1 rfl ?_
  refine z_cFD zc4 mX8_gapFor (k_gapFor (d := d - 1) hG ha hb (by omega)) dX8_isTightFor_2 q1148 (zi_gapS hG) (by decide +kernel) (by omega) rfl (Nat.le_of_ble_eq_true rfl) ha rfl ?_
  refine z_if_ge (tgt := 14) dX8_isTightFor_7 (by decide) (fun c => ?_) (fun c => ?_)
  · refine z_iconst dX8_isTightFor_14 (v := 0) rfl ?_
    exact z_ret dX8_isTightFor_15 rfl rfl ⟨by rw [if_neg (Int32.not_lt.mpr c)], rfl⟩
  · refine z_iconst dX8_isTightFor_10 (v := 1) rfl ?_
    refine z_goto (tgt := 15) dX8_isTightFor_11 (by decide) ?_
    exact z_ret dX8_isTightFor_15 rfl rfl ⟨by rw [if_pos (Int32.not_le.mp c)], rfl⟩
/-- the worth of a gap -/
def zwg (g : Int32) : Int32 := (20 - 3 * (if g ≤ 1 then 1 - g else g - 1)) - (if 0 ≤ g then (0 : Int32) else 10)
theorem k_worthOfGap {g : Int32} (hd : 1 ≤ d) : zCon G fX8_worthOfGap d 0 0 [.int g] h (zA (.int (zwg g)) h) nX := by
  refine zCon.of9 (L := [some (.int g), none]) (by simp [Value.category]) (Nat.le_of_ble_eq_true rfl) pX8 rfl rfl ?_
  refine z_iload_n dX8_worthOfGap_0 rfl ?_
  refine z_iconst dX8_worthOfGap_1 (v := 1) rfl ?_
  refine z_join 14 (.int (if g ≤ 1 then 1 - g else g - 1)) 2 ?_ (fun hJ => ?_)
  rotate_left
  · refine z_icmp_le (tgt := 11) dX8_worthOfGap_2 (by decide) (fun c => ?_) (fun c => ?_)
    · refine z_iconst dX8_worthOfGap_11 (v := 1) rfl ?_
      refine z_iload_n dX8_worthOfGap_12 rfl ?_
      refine z_isub dX8_worthOfGap_13 ?_
      exact z_jv (if_pos c) hJ
    · refine z_iload_n dX8_worthOfGap_5 rfl ?_
      refine z_iconst dX8_worthOfGap_6 (v := 1) rfl ?_
      refine z_isub dX8_worthOfGap_7 ?_
      refine z_goto (tgt := 14) dX8_worthOfGap_8 (by decide) ?_
      exact z_jv (if_neg c) hJ
  refine z_istore_n dX8_worthOfGap_14 (by decide) ?_
  refine z_bipush dX8_worthOfGap_15 (v := 20) rfl ?_
  refine z_iconst dX8_worthOfGap_17 (v := 3) rfl ?_
  refine z_iload_n dX8_worthOfGap_18 rfl ?_
  refine z_imul dX8_worthOfGap_19 ?_
  refine z_isub dX8_worthOfGap_20 ?_
  refine z_iload_n dX8_worthOfGap_21 rfl ?_
  refine z_join 31 (.int (if 0 ≤ g then (0 : Int32) else 10)) 1 ?_ (fun hJ => ?_)
  rotate_left
  · refine z_if_ge (tgt := 30) dX8_worthOfGap_22 (by decide) (fun c => ?_) (fun c => ?_)
    · refine z_iconst dX8_worthOfGap_30 (v := 0) rfl ?_
      exact z_jv (if_pos c) hJ
    · refine z_bipush dX8_worthOfGap_25 (v := 10) rfl ?_
      refine z_goto (tgt := 31) dX8_worthOfGap_27 (by decide) ?_
      exact z_jv (if_neg c) hJ
  refine z_isub dX8_worthOfGap_31 ?_
  exact z_ret dX8_worthOfGap_32 rfl rfl ⟨rfl, rfl⟩
theorem k_cworth (hG : zGG G) (ha : h a = some (zO 4 [.int x1, v2, v3])) (hb : h b = some (zO 5 [v4, .int y2, v5, .int y4, .int y5])) (hd : 3 ≤ d) : zCon G fX8_worth d 0 0 [.ref a, .ref b] h (zA (.int (zwg (x1 - y2))) h) nX := by
  refine zCon.of9 (L := [some (.ref a), some (.ref b)]) (by simp [Value.category]) (Nat.le_of_ble_eq_true rfl) pX8 rfl rfl ?_
  refine z_aload_n dX8_worth_0 rfl ?_
  refine z_aload_n dX8_worth_1 rfl ?_
  refine z_cFD zc4 mX8_gapFor (k_gapFor (d := d - 1) hG ha hb (by omega)) dX8_worth_2 q1148 (zi_gapS hG) (by decide +kernel) (by omega) rfl (Nat.le_of_ble_eq_true rfl) ha rfl ?_
  refine z_cS mX8_worthOfGap (k_worthOfGap (d := d - 1) (by omega)) dX8_worth_7 q1180 (by omega) rfl (Nat.le_of_ble_eq_true rfl) rfl ?_
  exact z_ret dX8_worth_10 rfl rfl ⟨rfl, rfl⟩
theorem k_liesIn {p : Int32} (ha : h a = some (zO 4 [v1, .int x2, .int x3])) (hd : 1 ≤ d) : zCon G fX6_liesIn d 0 0 [.ref a, .int p] h (zA (.int (if x3 = -1 ∧ x2 = p then (1 : Int32) else 0)) h) nX := by
  refine zCon.of9 (L := [some (.ref a), some (.int p)]) (by simp [Value.category]) (Nat.le_of_ble_eq_true rfl) pX6 rfl rfl ?_
  refine z_aload_n dX6_liesIn_0 rfl ?_
  refine z_getf zc4 2 dX6_liesIn_1 q948 (by decide) ha rfl ?_
  refine z_iconst dX6_liesIn_4 (v := (-1)) rfl ?_
  refine z_icmp_ne (tgt := 20) dX6_liesIn_5 (by decide) (fun c => ?_) (fun c => ?_)
  · refine z_iconst dX6_liesIn_20 (v := 0) rfl ?_
    exact z_ret dX6_liesIn_21 rfl rfl ⟨by rw [if_neg (fun q => c q.1)], rfl⟩
  · refine z_aload_n dX6_liesIn_8 rfl ?_
    refine z_getf zc4 1 dX6_liesIn_9 q946 (by decide) ha rfl ?_
    refine z_iload_n dX6_liesIn_12 rfl ?_
    refine z_icmp_ne (tgt := 20) dX6_liesIn_13 (by decide) (fun e => ?_) (fun e => ?_)
    · refine z_iconst dX6_liesIn_20 (v := 0) rfl ?_
      exact z_ret dX6_liesIn_21 rfl rfl ⟨by rw [if_neg (fun q => e q.2)], rfl⟩
    · refine z_iconst dX6_liesIn_16 (v := 1) rfl ?_
      refine z_goto (tgt := 21) dX6_liesIn_17 (by decide) ?_
      exact z_ret dX6_liesIn_21 rfl rfl ⟨by rw [if_pos ⟨c, e⟩], rfl⟩
end
