/-! THE REFERENCE, part 8: what is told -/
set_option maxRecDepth 100000
def zf_tells (σ : Nat → Int32) (j : Nat) : Int32 := σ j
set_option maxHeartbeats 4000000 in
theorem k_tells {G : zE} {A : Nat → Nat} (hA : zinj A 5) {σ s pa ke no f : Nat → Int32} {h0 : zH} {NL NS NC : Nat} (hok : zok σ NL NS NC) {i : Int32} {j : Nat} (hi : i = nI j) (lj : j < 287) {d : Nat} (hd : 1 ≤ d) : zCon G fX3_tells d 0 0 [.ref (A 0), .int i] (mdl G A (zput 0 σ s) pa ke no f h0) (zA (.int (zf_tells σ j)) (mdl G A (zput 0 σ s) pa ke no (upd f 7 0) h0)) nX := by
  refine zCon.of9 (L := [some (.ref (A 0)), some (.int i)]) (by simp [Value.category]) (Nat.le_of_ble_eq_true rfl) pX3 rfl rfl ?_
  obtain ⟨bL, bS, bC⟩ := hok.b
  refine z_aload_n dX3_tells_0 rfl ?_
  refine z_iconst dX3_tells_1 (v := 0) rfl ?_
  refine zm_put 7 dX3_tells_2 q1749 rfl rfl rfl rfl rfl ?_
  refine z_aload_n dX3_tells_5 rfl ?_
  refine zm_get 0 dX3_tells_6 q1742 rfl rfl ?_
  refine z_iload_n dX3_tells_9 rfl ?_
  refine zm_ld hA (by decide) (P := 0) (j) (v := σ j) dX3_tells_10 (zn_to (hi) (by omega)) (by omega) (rfl) ?_
  refine z_ret dX3_tells_11 rfl rfl ⟨rfl, rfl⟩
def zf_time (σ : Nat → Int32) : Int32 := zf_tells σ 0
set_option maxHeartbeats 4000000 in
theorem k_time {G : zE} {A : Nat → Nat} (hA : zinj A 5) {σ s pa ke no f : Nat → Int32} {h0 : zH} {NL NS NC : Nat} (hok : zok σ NL NS NC) {d : Nat} (hd : 2 ≤ d) : zCon G fX3_time d 0 0 [.ref (A 0)] (mdl G A (zput 0 σ s) pa ke no f h0) (zA (.int (zf_time σ)) (mdl G A (zput 0 σ s) pa ke no (upd f 7 0) h0)) nX := by
  refine zCon.of9 (L := [some (.ref (A 0))]) (by simp [Value.category]) (Nat.le_of_ble_eq_true rfl) pX3 rfl rfl ?_
  obtain ⟨bL, bS, bC⟩ := hok.b
  refine z_aload_n dX3_time_0 rfl ?_
  refine z_iconst dX3_time_1 (v := 0) rfl ?_
  refine z_cV zc7 mX3_tells (k_tells (d := d - 1) hA hok (zk 0) (by omega) (by omega)) dX3_time_2 q2033 (by omega) rfl (Nat.le_of_ble_eq_true rfl) rfl mdl_0 rfl ?_
  refine z_ret dX3_time_5 rfl rfl ⟨rfl, rfl⟩
def zf_heat (σ : Nat → Int32) : Int32 := zf_tells σ 3
set_option maxHeartbeats 4000000 in
theorem k_heat {G : zE} {A : Nat → Nat} (hA : zinj A 5) {σ s pa ke no f : Nat → Int32} {h0 : zH} {NL NS NC : Nat} (hok : zok σ NL NS NC) {d : Nat} (hd : 2 ≤ d) : zCon G fX3_heat d 0 0 [.ref (A 0)] (mdl G A (zput 0 σ s) pa ke no f h0) (zA (.int (zf_heat σ)) (mdl G A (zput 0 σ s) pa ke no (upd f 7 0) h0)) nX := by
  refine zCon.of9 (L := [some (.ref (A 0))]) (by simp [Value.category]) (Nat.le_of_ble_eq_true rfl) pX3 rfl rfl ?_
  obtain ⟨bL, bS, bC⟩ := hok.b
  refine z_aload_n dX3_heat_0 rfl ?_
  refine z_iconst dX3_heat_1 (v := 3) rfl ?_
  refine z_cV zc7 mX3_tells (k_tells (d := d - 1) hA hok (zk 3) (by omega) (by omega)) dX3_heat_2 q2033 (by omega) rfl (Nat.le_of_ble_eq_true rfl) rfl mdl_0 rfl ?_
  refine z_ret dX3_heat_5 rfl rfl ⟨rfl, rfl⟩
def zf_pause (σ : Nat → Int32) : Int32 := zf_tells σ 4
set_option maxHeartbeats 4000000 in
theorem k_pause {G : zE} {A : Nat → Nat} (hA : zinj A 5) {σ s pa ke no f : Nat → Int32} {h0 : zH} {NL NS NC : Nat} (hok : zok σ NL NS NC) {d : Nat} (hd : 2 ≤ d) : zCon G fX3_pause d 0 0 [.ref (A 0)] (mdl G A (zput 0 σ s) pa ke no f h0) (zA (.int (zf_pause σ)) (mdl G A (zput 0 σ s) pa ke no (upd f 7 0) h0)) nX := by
  refine zCon.of9 (L := [some (.ref (A 0))]) (by simp [Value.category]) (Nat.le_of_ble_eq_true rfl) pX3 rfl rfl ?_
  obtain ⟨bL, bS, bC⟩ := hok.b
  refine z_aload_n dX3_pause_0 rfl ?_
  refine z_iconst dX3_pause_1 (v := 4) rfl ?_
  refine z_cV zc7 mX3_tells (k_tells (d := d - 1) hA hok (zk 4) (by omega) (by omega)) dX3_pause_2 q2033 (by omega) rfl (Nat.le_of_ble_eq_true rfl) rfl mdl_0 rfl ?_
  refine z_ret dX3_pause_5 rfl rfl ⟨rfl, rfl⟩
def zf_limpets (σ : Nat → Int32) : Int32 := zf_tells σ 31
set_option maxHeartbeats 4000000 in
theorem k_limpets {G : zE} {A : Nat → Nat} (hA : zinj A 5) {σ s pa ke no f : Nat → Int32} {h0 : zH} {NL NS NC : Nat} (hok : zok σ NL NS NC) {d : Nat} (hd : 2 ≤ d) : zCon G fX3_limpets d 0 0 [.ref (A 0)] (mdl G A (zput 0 σ s) pa ke no f h0) (zA (.int (zf_limpets σ)) (mdl G A (zput 0 σ s) pa ke no (upd f 7 0) h0)) nX := by
  refine zCon.of9 (L := [some (.ref (A 0))]) (by simp [Value.category]) (Nat.le_of_ble_eq_true rfl) pX3 rfl rfl ?_
  obtain ⟨bL, bS, bC⟩ := hok.b
  refine z_aload_n dX3_limpets_0 rfl ?_
  refine z_bipush dX3_limpets_1 (v := 31) rfl ?_
  refine z_cV zc7 mX3_tells (k_tells (d := d - 1) hA hok (zk 31) (by omega) (by omega)) dX3_limpets_3 q2033 (by omega) rfl (Nat.le_of_ble_eq_true rfl) rfl mdl_0 rfl ?_
  refine z_ret dX3_limpets_6 rfl rfl ⟨rfl, rfl⟩
def zf_shells (σ : Nat → Int32) : Int32 := zf_tells σ 132
set_option maxHeartbeats 4000000 in
theorem k_shells {G : zE} {A : Nat → Nat} (hA : zinj A 5) {σ s pa ke no f : Nat → Int32} {h0 : zH} {NL NS NC : Nat} (hok : zok σ NL NS NC) {d : Nat} (hd : 2 ≤ d) : zCon G fX3_shells d 0 0 [.ref (A 0)] (mdl G A (zput 0 σ s) pa ke no f h0) (zA (.int (zf_shells σ)) (mdl G A (zput 0 σ s) pa ke no (upd f 7 0) h0)) nX := by
  refine zCon.of9 (L := [some (.ref (A 0))]) (by simp [Value.category]) (Nat.le_of_ble_eq_true rfl) pX3 rfl rfl ?_
  obtain ⟨bL, bS, bC⟩ := hok.b
  refine z_aload_n dX3_shells_0 rfl ?_
  refine z_sipush dX3_shells_1 (v := 132) rfl ?_
  refine z_cV zc7 mX3_tells (k_tells (d := d - 1) hA hok (zk 132) (by omega) (by omega)) dX3_shells_4 q2033 (by omega) rfl (Nat.le_of_ble_eq_true rfl) rfl mdl_0 rfl ?_
  refine z_ret dX3_shells_7 rfl rfl ⟨rfl, rfl⟩
def zf_crabs (σ : Nat → Int32) : Int32 := zf_tells σ 211
set_option maxHeartbeats 4000000 in
theorem k_crabs {G : zE} {A : Nat → Nat} (hA : zinj A 5) {σ s pa ke no f : Nat → Int32} {h0 : zH} {NL NS NC : Nat} (hok : zok σ NL NS NC) {d : Nat} (hd : 2 ≤ d) : zCon G fX3_crabs d 0 0 [.ref (A 0)] (mdl G A (zput 0 σ s) pa ke no f h0) (zA (.int (zf_crabs σ)) (mdl G A (zput 0 σ s) pa ke no (upd f 7 0) h0)) nX := by
  refine zCon.of9 (L := [some (.ref (A 0))]) (by simp [Value.category]) (Nat.le_of_ble_eq_true rfl) pX3 rfl rfl ?_
  obtain ⟨bL, bS, bC⟩ := hok.b
  refine z_aload_n dX3_crabs_0 rfl ?_
  refine z_sipush dX3_crabs_1 (v := 211) rfl ?_
  refine z_cV zc7 mX3_tells (k_tells (d := d - 1) hA hok (zk 211) (by omega) (by omega)) dX3_crabs_4 q2033 (by omega) rfl (Nat.le_of_ble_eq_true rfl) rfl mdl_0 rfl ?_
  refine z_ret dX3_crabs_7 rfl rfl ⟨rfl, rfl⟩
def zf_heronAt (σ : Nat → Int32) : Int32 := zf_tells σ 5
set_option maxHeartbeats 4000000 in
theorem k_heronAt {G : zE} {A : Nat → Nat} (hA : zinj A 5) {σ s pa ke no f : Nat → Int32} {h0 : zH} {NL NS NC : Nat} (hok : zok σ NL NS NC) {d : Nat} (hd : 2 ≤ d) : zCon G fX3_heronAt d 0 0 [.ref (A 0)] (mdl G A (zput 0 σ s) pa ke no f h0) (zA (.int (zf_heronAt σ)) (mdl G A (zput 0 σ s) pa ke no (upd f 7 0) h0)) nX := by
  refine zCon.of9 (L := [some (.ref (A 0))]) (by simp [Value.category]) (Nat.le_of_ble_eq_true rfl) pX3 rfl rfl ?_
  obtain ⟨bL, bS, bC⟩ := hok.b
  refine z_aload_n dX3_heronAt_0 rfl ?_
  refine z_iconst dX3_heronAt_1 (v := 5) rfl ?_
  refine z_cV zc7 mX3_tells (k_tells (d := d - 1) hA hok (zk 5) (by omega) (by omega)) dX3_heronAt_2 q2033 (by omega) rfl (Nat.le_of_ble_eq_true rfl) rfl mdl_0 rfl ?_
  refine z_ret dX3_heronAt_5 rfl rfl ⟨rfl, rfl⟩
def zf_taken (σ : Nat → Int32) : Int32 := zf_tells σ 6
set_option maxHeartbeats 4000000 in
theorem k_taken {G : zE} {A : Nat → Nat} (hA : zinj A 5) {σ s pa ke no f : Nat → Int32} {h0 : zH} {NL NS NC : Nat} (hok : zok σ NL NS NC) {d : Nat} (hd : 2 ≤ d) : zCon G fX3_taken d 0 0 [.ref (A 0)] (mdl G A (zput 0 σ s) pa ke no f h0) (zA (.int (zf_taken σ)) (mdl G A (zput 0 σ s) pa ke no (upd f 7 0) h0)) nX := by
  refine zCon.of9 (L := [some (.ref (A 0))]) (by simp [Value.category]) (Nat.le_of_ble_eq_true rfl) pX3 rfl rfl ?_
  obtain ⟨bL, bS, bC⟩ := hok.b
  refine z_aload_n dX3_taken_0 rfl ?_
  refine z_bipush dX3_taken_1 (v := 6) rfl ?_
  refine z_cV zc7 mX3_tells (k_tells (d := d - 1) hA hok (zk 6) (by omega) (by omega)) dX3_taken_3 q2033 (by omega) rfl (Nat.le_of_ble_eq_true rfl) rfl mdl_0 rfl ?_
  refine z_ret dX3_taken_6 rfl rfl ⟨rfl, rfl⟩
def zf_tide (σ : Nat → Int32) : Int32 := zf_tideOf σ (σ 0)
set_option maxHeartbeats 4000000 in
theorem k_tide {G : zE} {A : Nat → Nat} (hA : zinj A 5) {σ s pa ke no f : Nat → Int32} {h0 : zH} {NL NS NC : Nat} (hok : zok σ NL NS NC) {d : Nat} (hd : 2 ≤ d) : zCon G fX3_tide d 0 0 [.ref (A 0)] (mdl G A (zput 0 σ s) pa ke no f h0) (zA (.int (zf_tide σ)) (mdl G A (zput 0 σ s) pa ke no (upd f 7 0) h0)) nX := by
  refine zCon.of9 (L := [some (.ref (A 0))]) (by simp [Value.category]) (Nat.le_of_ble_eq_true rfl) pX3 rfl rfl ?_
  obtain ⟨bL, bS, bC⟩ := hok.b
  refine z_aload_n dX3_tide_0 rfl ?_
  refine z_iconst dX3_tide_1 (v := 0) rfl ?_
  refine zm_put 7 dX3_tide_2 q1749 rfl rfl rfl rfl rfl ?_
  refine z_aload_n dX3_tide_5 rfl ?_
  refine z_iconst dX3_tide_6 (v := 0) rfl ?_
  refine z_aload_n dX3_tide_7 rfl ?_
  refine zm_get 0 dX3_tide_8 q1742 rfl rfl ?_
  refine z_iconst dX3_tide_11 (v := 0) rfl ?_
  refine zm_ld hA (by decide) (P := 0) (0) (v := σ 0) dX3_tide_12 (zn_to (zk 0) (by omega)) (by omega) (rfl) ?_
  refine z_cV zc7 mX3_tideOf (k_tideOf (d := d - 1) hA (P := 0) (by decide) (zk 0) (by omega)) dX3_tide_13 q1857 (by omega) rfl (Nat.le_of_ble_eq_true rfl) rfl mdl_0 rfl ?_
  refine z_ret dX3_tide_16 rfl rfl ⟨rfl, rfl⟩
def zf_tideAt (σ : Nat → Int32) (t : Int32) : Int32 := if ¬ ((if ¬ (zf_in t 0 1999) then (1 : Int32) else 0) ≤ 0) then (0 : Int32) else (zf_tideOf σ t)
set_option maxHeartbeats 4000000 in
theorem k_tideAt {G : zE} {A : Nat → Nat} (hA : zinj A 5) {σ s pa ke no f : Nat → Int32} {h0 : zH} {NL NS NC : Nat} (hok : zok σ NL NS NC) {t : Int32} {d : Nat} (hd : 2 ≤ d) : zCon G fX3_tideAt d 0 0 [.ref (A 0), .int t] (mdl G A (zput 0 σ s) pa ke no f h0) (zA (.int (zf_tideAt σ t)) (mdl G A (zput 0 σ s) pa ke no (upd f 7 (if ¬ (zf_in t 0 1999) then (1 : Int32) else 0)) h0)) nX := by
  refine zCon.of9 (L := [some (.ref (A 0)), some (.int t)]) (by simp [Value.category]) (Nat.le_of_ble_eq_true rfl) pX3 rfl rfl ?_
  obtain ⟨bL, bS, bC⟩ := hok.b
  refine z_aload_n dX3_tideAt_0 rfl ?_
  refine z_iload_n dX3_tideAt_1 rfl ?_
  refine z_iconst dX3_tideAt_2 (v := 0) rfl ?_
  refine z_sipush dX3_tideAt_3 (v := 1999) rfl ?_
  refine z_cS mX3_in (k_in (d := d - 1) (by omega)) dX3_tideAt_6 q1793 (by omega) rfl (Nat.le_of_ble_eq_true rfl) rfl ?_
  refine z_join 17 (.int (if ¬ (zf_in t 0 1999) then (1 : Int32) else 0)) 1 ?_ (fun hJ => ?_)
  rotate_left
  ·
    refine z_ifB_eq (tgt := 16) dX3_tideAt_9 (by decide) (fun c_1 => ?_) (fun c_1 => ?_)
    ·
      refine z_iconst dX3_tideAt_16 (v := 1) rfl ?_
      exact z_jv (if_pos c_1) hJ
    ·
      refine z_iconst dX3_tideAt_12 (v := 0) rfl ?_
      refine z_goto (tgt := 17) dX3_tideAt_13 (by decide) ?_
      exact z_jv (if_neg (fun z => z c_1)) hJ
  refine z_cV zc7 mX3_throwsAt (k_throwsAt (d := d - 1) (by omega)) dX3_tideAt_17 q1796 (by omega) rfl (Nat.le_of_ble_eq_true rfl) rfl mdl_0 rfl ?_
  refine z_join 33 (.int (if ¬ ((if ¬ (zf_in t 0 1999) then (1 : Int32) else 0) ≤ 0) then (0 : Int32) else (zf_tideOf σ t))) 1 ?_ (fun hJ => ?_)
  rotate_left
  ·
    refine z_ifB_eq (tgt := 27) dX3_tideAt_20 (by decide) (fun c_2 => ?_) (fun c_2 => ?_)
    ·
      refine z_aload_n dX3_tideAt_27 rfl ?_
      refine z_iconst dX3_tideAt_28 (v := 0) rfl ?_
      refine z_iload_n dX3_tideAt_29 rfl ?_
      refine z_cV zc7 mX3_tideOf (k_tideOf (d := d - 1) hA (P := 0) (by decide) (zk 0) (by omega)) dX3_tideAt_30 q1857 (by omega) rfl (Nat.le_of_ble_eq_true rfl) rfl mdl_0 rfl ?_
      exact z_jv (by simp only [if_neg c_2] <;> rfl) hJ
    ·
      refine z_iconst dX3_tideAt_23 (v := 0) rfl ?_
      refine z_goto (tgt := 33) dX3_tideAt_24 (by decide) ?_
      exact z_jv (by simp only [if_pos c_2] <;> rfl) hJ
  refine z_ret dX3_tideAt_33 rfl rfl ⟨rfl, rfl⟩
def zf_ofPool (σ : Nat → Int32) (j : Nat) (pool : Int32) : Int32 := if ¬ ((if ¬ (zf_isPool pool) then (1 : Int32) else 0) ≤ 0) then (0 : Int32) else (σ (j + pool.toNatClampNeg))
set_option maxHeartbeats 4000000 in
theorem k_ofPool {G : zE} {A : Nat → Nat} (hA : zinj A 5) {σ s pa ke no f : Nat → Int32} {h0 : zH} {NL NS NC : Nat} (hok : zok σ NL NS NC) {i : Int32} {j : Nat} (hi : i = nI j) (lj : j < 24) {pool : Int32} {d : Nat} (hd : 3 ≤ d) : zCon G fX3_ofPool d 0 0 [.ref (A 0), .int i, .int pool] (mdl G A (zput 0 σ s) pa ke no f h0) (zA (.int (zf_ofPool σ j pool)) (mdl G A (zput 0 σ s) pa ke no (upd f 7 (if ¬ (zf_isPool pool) then (1 : Int32) else 0)) h0)) nX := by
  refine zCon.of9 (L := [some (.ref (A 0)), some (.int i), some (.int pool)]) (by simp [Value.category]) (Nat.le_of_ble_eq_true rfl) pX3 rfl rfl ?_
  obtain ⟨bL, bS, bC⟩ := hok.b
  refine z_aload_n dX3_ofPool_0 rfl ?_
  refine z_iload_n dX3_ofPool_1 rfl ?_
  refine z_cS mX3_isPool (k_isPool (d := d - 1) (by omega)) dX3_ofPool_2 q1790 (by omega) rfl (Nat.le_of_ble_eq_true rfl) rfl ?_
  refine z_join 13 (.int (if ¬ (zf_isPool pool) then (1 : Int32) else 0)) 1 ?_ (fun hJ => ?_)
  rotate_left
  ·
    refine z_ifB_eq (tgt := 12) dX3_ofPool_5 (by decide) (fun c_1 => ?_) (fun c_1 => ?_)
    ·
      refine z_iconst dX3_ofPool_12 (v := 1) rfl ?_
      exact z_jv (if_pos c_1) hJ
    ·
      refine z_iconst dX3_ofPool_8 (v := 0) rfl ?_
      refine z_goto (tgt := 13) dX3_ofPool_9 (by decide) ?_
      exact z_jv (if_neg (fun z => z c_1)) hJ
  refine z_cV zc7 mX3_throwsAt (k_throwsAt (d := d - 1) (by omega)) dX3_ofPool_13 q1796 (by omega) rfl (Nat.le_of_ble_eq_true rfl) rfl mdl_0 rfl ?_
  refine z_join 31 (.int (if ¬ ((if ¬ (zf_isPool pool) then (1 : Int32) else 0) ≤ 0) then (0 : Int32) else (σ (j + pool.toNatClampNeg)))) 1 ?_ (fun hJ => ?_)
  rotate_left
  ·
    refine z_ifB_eq (tgt := 23) dX3_ofPool_16 (by decide) (fun c_2 => ?_) (fun c_2 => ?_)
    ·
      refine z_aload_n dX3_ofPool_23 rfl ?_
      refine zm_get 0 dX3_ofPool_24 q1742 rfl rfl ?_
      refine z_iload_n dX3_ofPool_27 rfl ?_
      refine z_iload_n dX3_ofPool_28 rfl ?_
      have lb_3 := (zin_ix (n := 7) (by omega) rfl (by decide) (Decidable.not_not.mp ((zth2 ((Decidable.not_not.mp c_2)) (by decide)).1))).2
      refine z_iadd dX3_ofPool_29 ?_
      refine zm_ld hA (by decide) (P := 0) (j + pool.toNatClampNeg) (v := σ (j + pool.toNatClampNeg)) dX3_ofPool_30 (zn_to (zn_add hi ((zin_ix (n := 7) (by omega) rfl (by decide) (Decidable.not_not.mp ((zth2 ((Decidable.not_not.mp c_2)) (by decide)).1))).1)) (by omega)) (by omega) (rfl) ?_
      exact z_jv (by simp only [if_neg c_2] <;> rfl) hJ
    ·
      refine z_iconst dX3_ofPool_19 (v := 0) rfl ?_
      refine z_goto (tgt := 31) dX3_ofPool_20 (by decide) ?_
      exact z_jv (by simp only [if_pos c_2] <;> rfl) hJ
  refine z_ret dX3_ofPool_31 rfl rfl ⟨rfl, rfl⟩
def zf_heightOf (σ : Nat → Int32) (pool : Int32) : Int32 := zf_ofPool σ 7 pool
set_option maxHeartbeats 4000000 in
theorem k_heightOf {G : zE} {A : Nat → Nat} (hA : zinj A 5) {σ s pa ke no f : Nat → Int32} {h0 : zH} {NL NS NC : Nat} (hok : zok σ NL NS NC) {pool : Int32} {d : Nat} (hd : 4 ≤ d) : zCon G fX3_heightOf d 0 0 [.ref (A 0), .int pool] (mdl G A (zput 0 σ s) pa ke no f h0) (zA (.int (zf_heightOf σ pool)) (mdl G A (zput 0 σ s) pa ke no (upd f 7 (if ¬ (zf_isPool pool) then (1 : Int32) else 0)) h0)) nX := by
  refine zCon.of9 (L := [some (.ref (A 0)), some (.int pool)]) (by simp [Value.category]) (Nat.le_of_ble_eq_true rfl) pX3 rfl rfl ?_
  obtain ⟨bL, bS, bC⟩ := hok.b
  refine z_aload_n dX3_heightOf_0 rfl ?_
  refine z_bipush dX3_heightOf_1 (v := 7) rfl ?_
  refine z_iload_n dX3_heightOf_3 rfl ?_
  refine z_cV zc7 mX3_ofPool (k_ofPool (d := d - 1) hA hok (zk 7) (by omega) (by omega)) dX3_heightOf_4 q2057 (by omega) rfl (Nat.le_of_ble_eq_true rfl) rfl mdl_0 rfl ?_
  refine z_ret dX3_heightOf_7 rfl rfl ⟨rfl, rfl⟩
def zf_warmthOf (σ : Nat → Int32) (pool : Int32) : Int32 := zf_ofPool σ 15 pool
set_option maxHeartbeats 4000000 in
theorem k_warmthOf {G : zE} {A : Nat → Nat} (hA : zinj A 5) {σ s pa ke no f : Nat → Int32} {h0 : zH} {NL NS NC : Nat} (hok : zok σ NL NS NC) {pool : Int32} {d : Nat} (hd : 4 ≤ d) : zCon G fX3_warmthOf d 0 0 [.ref (A 0), .int pool] (mdl G A (zput 0 σ s) pa ke no f h0) (zA (.int (zf_warmthOf σ pool)) (mdl G A (zput 0 σ s) pa ke no (upd f 7 (if ¬ (zf_isPool pool) then (1 : Int32) else 0)) h0)) nX := by
  refine zCon.of9 (L := [some (.ref (A 0)), some (.int pool)]) (by simp [Value.category]) (Nat.le_of_ble_eq_true rfl) pX3 rfl rfl ?_
  obtain ⟨bL, bS, bC⟩ := hok.b
  refine z_aload_n dX3_warmthOf_0 rfl ?_
  refine z_bipush dX3_warmthOf_1 (v := 15) rfl ?_
  refine z_iload_n dX3_warmthOf_3 rfl ?_
  refine z_cV zc7 mX3_ofPool (k_ofPool (d := d - 1) hA hok (zk 15) (by omega) (by omega)) dX3_warmthOf_4 q2057 (by omega) rfl (Nat.le_of_ble_eq_true rfl) rfl mdl_0 rfl ?_
  refine z_ret dX3_warmthOf_7 rfl rfl ⟨rfl, rfl⟩
def zf_weedOf (σ : Nat → Int32) (pool : Int32) : Int32 := zf_ofPool σ 23 pool
set_option maxHeartbeats 4000000 in
theorem k_weedOf {G : zE} {A : Nat → Nat} (hA : zinj A 5) {σ s pa ke no f : Nat → Int32} {h0 : zH} {NL NS NC : Nat} (hok : zok σ NL NS NC) {pool : Int32} {d : Nat} (hd : 4 ≤ d) : zCon G fX3_weedOf d 0 0 [.ref (A 0), .int pool] (mdl G A (zput 0 σ s) pa ke no f h0) (zA (.int (zf_weedOf σ pool)) (mdl G A (zput 0 σ s) pa ke no (upd f 7 (if ¬ (zf_isPool pool) then (1 : Int32) else 0)) h0)) nX := by
  refine zCon.of9 (L := [some (.ref (A 0)), some (.int pool)]) (by simp [Value.category]) (Nat.le_of_ble_eq_true rfl) pX3 rfl rfl ?_
  obtain ⟨bL, bS, bC⟩ := hok.b
  refine z_aload_n dX3_weedOf_0 rfl ?_
  refine z_bipush dX3_weedOf_1 (v := 23) rfl ?_
  refine z_iload_n dX3_weedOf_3 rfl ?_
  refine z_cV zc7 mX3_ofPool (k_ofPool (d := d - 1) hA hok (zk 23) (by omega) (by omega)) dX3_weedOf_4 q2057 (by omega) rfl (Nat.le_of_ble_eq_true rfl) rfl mdl_0 rfl ?_
  refine z_ret dX3_weedOf_7 rfl rfl ⟨rfl, rfl⟩
abbrev zf_isFlooded (σ : Nat → Int32) (pool : Int32) : Prop := ¬ (¬ ((if ¬ (zf_isPool pool) then (1 : Int32) else 0) ≤ 0)) ∧ (zf_isWet σ pool.toNatClampNeg)
set_option maxHeartbeats 4000000 in
theorem k_isFlooded {G : zE} {A : Nat → Nat} (hA : zinj A 5) {σ s pa ke no f : Nat → Int32} {h0 : zH} {NL NS NC : Nat} (hok : zok σ NL NS NC) {pool : Int32} {d : Nat} (hd : 3 ≤ d) : zCon G fX3_isFlooded d 0 0 [.ref (A 0), .int pool] (mdl G A (zput 0 σ s) pa ke no f h0) (zA (.int (if zf_isFlooded σ pool then (1 : Int32) else 0)) (mdl G A (zput 0 σ s) pa ke no (upd f 7 (if ¬ (zf_isPool pool) then (1 : Int32) else 0)) h0)) nX := by
  refine zCon.of9 (L := [some (.ref (A 0)), some (.int pool)]) (by simp [Value.category]) (Nat.le_of_ble_eq_true rfl) pX3 rfl rfl ?_
  obtain ⟨bL, bS, bC⟩ := hok.b
  refine z_aload_n dX3_isFlooded_0 rfl ?_
  refine z_iload_n dX3_isFlooded_1 rfl ?_
  refine z_cS mX3_isPool (k_isPool (d := d - 1) (by omega)) dX3_isFlooded_2 q1790 (by omega) rfl (Nat.le_of_ble_eq_true rfl) rfl ?_
  refine z_join 13 (.int (if ¬ (zf_isPool pool) then (1 : Int32) else 0)) 1 ?_ (fun hJ => ?_)
  rotate_left
  ·
    refine z_ifB_eq (tgt := 12) dX3_isFlooded_5 (by decide) (fun c_1 => ?_) (fun c_1 => ?_)
    ·
      refine z_iconst dX3_isFlooded_12 (v := 1) rfl ?_
      exact z_jv (if_pos c_1) hJ
    ·
      refine z_iconst dX3_isFlooded_8 (v := 0) rfl ?_
      refine z_goto (tgt := 13) dX3_isFlooded_9 (by decide) ?_
      exact z_jv (if_neg (fun z => z c_1)) hJ
  refine z_cV zc7 mX3_throwsAt (k_throwsAt (d := d - 1) (by omega)) dX3_isFlooded_13 q1796 (by omega) rfl (Nat.le_of_ble_eq_true rfl) rfl mdl_0 rfl ?_
  refine z_join 33 (.int (if ¬ (¬ ((if ¬ (zf_isPool pool) then (1 : Int32) else 0) ≤ 0)) ∧ (zf_isWet σ pool.toNatClampNeg) then (1 : Int32) else 0)) 1 ?_ (fun hJ => ?_)
  rotate_left
  ·
    refine z_ifB_ne (tgt := 32) dX3_isFlooded_16 (by decide) (fun c_2 => ?_) (fun c_2 => ?_)
    ·
      refine z_iconst dX3_isFlooded_32 (v := 0) rfl ?_
      exact z_jv (if_neg (fun z => z.1 c_2)) hJ
    ·
      refine z_aload_n dX3_isFlooded_19 rfl ?_
      refine z_iconst dX3_isFlooded_20 (v := 0) rfl ?_
      refine z_iload_n dX3_isFlooded_21 rfl ?_
      have lb_3 := (zin_ix (n := 7) (by omega) rfl (by decide) (Decidable.not_not.mp ((zth2 ((Decidable.not_not.mp c_2)) (by decide)).1))).2
      refine z_cV zc7 mX3_isWet (k_isWet (d := d - 1) hA (P := 0) (by decide) (zk 0) ((zin_ix (n := 7) (by omega) rfl (by decide) (Decidable.not_not.mp ((zth2 ((Decidable.not_not.mp c_2)) (by decide)).1))).1) (by omega) (by omega)) dX3_isFlooded_22 q1885 (by omega) rfl (Nat.le_of_ble_eq_true rfl) rfl mdl_0 rfl ?_
      refine z_ifB_eq (tgt := 32) dX3_isFlooded_25 (by decide) (fun c_4 => ?_) (fun c_4 => ?_)
      ·
        refine z_iconst dX3_isFlooded_32 (v := 0) rfl ?_
        exact z_jv (if_neg (fun z => c_4 z.2)) hJ
      ·
        refine z_iconst dX3_isFlooded_28 (v := 1) rfl ?_
        refine z_goto (tgt := 33) dX3_isFlooded_29 (by decide) ?_
        exact z_jv (if_pos (⟨c_2, c_4⟩)) hJ
  refine z_ret dX3_isFlooded_33 rfl z_bool ⟨rfl, rfl⟩
def zf_ofLimpet (σ : Nat → Int32) (j : Nat) (limpet : Int32) : Int32 := if ¬ ((if ¬ (zf_isLimpet σ limpet) then (1 : Int32) else 0) ≤ 0) then (0 : Int32) else (σ (32 + 5 * limpet.toNatClampNeg + j))
set_option maxHeartbeats 4000000 in
theorem k_ofLimpet {G : zE} {A : Nat → Nat} (hA : zinj A 5) {σ s pa ke no f : Nat → Int32} {h0 : zH} {NL NS NC : Nat} (hok : zok σ NL NS NC) {i : Int32} {j : Nat} (hi : i = nI j) (lj : j < 5) {limpet : Int32} {d : Nat} (hd : 3 ≤ d) : zCon G fX3_ofLimpet d 0 0 [.ref (A 0), .int limpet, .int i] (mdl G A (zput 0 σ s) pa ke no f h0) (zA (.int (zf_ofLimpet σ j limpet)) (mdl G A (zput 0 σ s) pa ke no (upd f 7 (if ¬ (zf_isLimpet σ limpet) then (1 : Int32) else 0)) h0)) nX := by
  refine zCon.of9 (L := [some (.ref (A 0)), some (.int limpet), some (.int i)]) (by simp [Value.category]) (Nat.le_of_ble_eq_true rfl) pX3 rfl rfl ?_
  obtain ⟨bL, bS, bC⟩ := hok.b
  refine z_aload_n dX3_ofLimpet_0 rfl ?_
  refine z_aload_n dX3_ofLimpet_1 rfl ?_
  refine z_iload_n dX3_ofLimpet_2 rfl ?_
  refine z_cV zc7 mX3_isLimpet (k_isLimpet (d := d - 1) hA hok (by omega)) dX3_ofLimpet_3 q2109 (by omega) rfl (Nat.le_of_ble_eq_true rfl) rfl mdl_0 rfl ?_
  refine z_join 14 (.int (if ¬ (zf_isLimpet σ limpet) then (1 : Int32) else 0)) 1 ?_ (fun hJ => ?_)
  rotate_left
  ·
    refine z_ifB_eq (tgt := 13) dX3_ofLimpet_6 (by decide) (fun c_1 => ?_) (fun c_1 => ?_)
    ·
      refine z_iconst dX3_ofLimpet_13 (v := 1) rfl ?_
      exact z_jv (if_pos c_1) hJ
    ·
      refine z_iconst dX3_ofLimpet_9 (v := 0) rfl ?_
      refine z_goto (tgt := 14) dX3_ofLimpet_10 (by decide) ?_
      exact z_jv (if_neg (fun z => z c_1)) hJ
  refine z_cV zc7 mX3_throwsAt (k_throwsAt (d := d - 1) (by omega)) dX3_ofLimpet_14 q1796 (by omega) rfl (Nat.le_of_ble_eq_true rfl) rfl mdl_0 rfl ?_
  refine z_join 36 (.int (if ¬ ((if ¬ (zf_isLimpet σ limpet) then (1 : Int32) else 0) ≤ 0) then (0 : Int32) else (σ (32 + 5 * limpet.toNatClampNeg + j)))) 1 ?_ (fun hJ => ?_)
  rotate_left
  ·
    refine z_ifB_eq (tgt := 24) dX3_ofLimpet_17 (by decide) (fun c_2 => ?_) (fun c_2 => ?_)
    ·
      refine z_aload_n dX3_ofLimpet_24 rfl ?_
      refine zm_get 0 dX3_ofLimpet_25 q1742 rfl rfl ?_
      refine z_iconst dX3_ofLimpet_28 (v := 0) rfl ?_
      refine z_iload_n dX3_ofLimpet_29 rfl ?_
      have lb_3 := (zin_ixc (by omega) hok.nl (Decidable.not_not.mp ((zth2 ((Decidable.not_not.mp c_2)) (by decide)).1))).2
      refine z_cS mX3_limpet (k_limpet (d := d - 1) (zk 0) ((zin_ixc (by omega) hok.nl (Decidable.not_not.mp ((zth2 ((Decidable.not_not.mp c_2)) (by decide)).1))).1) (by omega)) dX3_ofLimpet_30 q1808 (by omega) rfl (Nat.le_of_ble_eq_true rfl) rfl ?_
      refine z_iload_n dX3_ofLimpet_33 rfl ?_
      refine z_iadd dX3_ofLimpet_34 ?_
      refine zm_ld hA (by decide) (P := 0) (32 + 5 * limpet.toNatClampNeg + j) (v := σ (32 + 5 * limpet.toNatClampNeg + j)) dX3_ofLimpet_35 (zn_to (zn_add rfl hi) (by omega)) (by omega) (rfl) ?_
      exact z_jv (by simp only [if_neg c_2] <;> rfl) hJ
    ·
      refine z_iconst dX3_ofLimpet_20 (v := 0) rfl ?_
      refine z_goto (tgt := 36) dX3_ofLimpet_21 (by decide) ?_
      exact z_jv (by simp only [if_pos c_2] <;> rfl) hJ
  refine z_ret dX3_ofLimpet_36 rfl rfl ⟨rfl, rfl⟩
def zf_ofShell (σ : Nat → Int32) (j : Nat) (shell : Int32) : Int32 := if ¬ ((if ¬ (zf_isShell σ shell) then (1 : Int32) else 0) ≤ 0) then (0 : Int32) else (σ (133 + 3 * shell.toNatClampNeg + j))
set_option maxHeartbeats 4000000 in
theorem k_ofShell {G : zE} {A : Nat → Nat} (hA : zinj A 5) {σ s pa ke no f : Nat → Int32} {h0 : zH} {NL NS NC : Nat} (hok : zok σ NL NS NC) {i : Int32} {j : Nat} (hi : i = nI j) (lj : j < 3) {shell : Int32} {d : Nat} (hd : 3 ≤ d) : zCon G fX3_ofShell d 0 0 [.ref (A 0), .int shell, .int i] (mdl G A (zput 0 σ s) pa ke no f h0) (zA (.int (zf_ofShell σ j shell)) (mdl G A (zput 0 σ s) pa ke no (upd f 7 (if ¬ (zf_isShell σ shell) then (1 : Int32) else 0)) h0)) nX := by
  refine zCon.of9 (L := [some (.ref (A 0)), some (.int shell), some (.int i)]) (by simp [Value.category]) (Nat.le_of_ble_eq_true rfl) pX3 rfl rfl ?_
  obtain ⟨bL, bS, bC⟩ := hok.b
  refine z_aload_n dX3_ofShell_0 rfl ?_
  refine z_aload_n dX3_ofShell_1 rfl ?_
  refine z_iload_n dX3_ofShell_2 rfl ?_
  refine z_cV zc7 mX3_isShell (k_isShell (d := d - 1) hA hok (by omega)) dX3_ofShell_3 q1841 (by omega) rfl (Nat.le_of_ble_eq_true rfl) rfl mdl_0 rfl ?_
  refine z_join 14 (.int (if ¬ (zf_isShell σ shell) then (1 : Int32) else 0)) 1 ?_ (fun hJ => ?_)
  rotate_left
  ·
    refine z_ifB_eq (tgt := 13) dX3_ofShell_6 (by decide) (fun c_1 => ?_) (fun c_1 => ?_)
    ·
      refine z_iconst dX3_ofShell_13 (v := 1) rfl ?_
      exact z_jv (if_pos c_1) hJ
    ·
      refine z_iconst dX3_ofShell_9 (v := 0) rfl ?_
      refine z_goto (tgt := 14) dX3_ofShell_10 (by decide) ?_
      exact z_jv (if_neg (fun z => z c_1)) hJ
  refine z_cV zc7 mX3_throwsAt (k_throwsAt (d := d - 1) (by omega)) dX3_ofShell_14 q1796 (by omega) rfl (Nat.le_of_ble_eq_true rfl) rfl mdl_0 rfl ?_
  refine z_join 36 (.int (if ¬ ((if ¬ (zf_isShell σ shell) then (1 : Int32) else 0) ≤ 0) then (0 : Int32) else (σ (133 + 3 * shell.toNatClampNeg + j)))) 1 ?_ (fun hJ => ?_)
  rotate_left
  ·
    refine z_ifB_eq (tgt := 24) dX3_ofShell_17 (by decide) (fun c_2 => ?_) (fun c_2 => ?_)
    ·
      refine z_aload_n dX3_ofShell_24 rfl ?_
      refine zm_get 0 dX3_ofShell_25 q1742 rfl rfl ?_
      refine z_iconst dX3_ofShell_28 (v := 0) rfl ?_
      refine z_iload_n dX3_ofShell_29 rfl ?_
      have lb_3 := (zin_ixc (by omega) hok.ns (Decidable.not_not.mp ((zth2 ((Decidable.not_not.mp c_2)) (by decide)).1))).2
      refine z_cS mX3_shell (k_shell (d := d - 1) (zk 0) ((zin_ixc (by omega) hok.ns (Decidable.not_not.mp ((zth2 ((Decidable.not_not.mp c_2)) (by decide)).1))).1) (by omega)) dX3_ofShell_30 q1834 (by omega) rfl (Nat.le_of_ble_eq_true rfl) rfl ?_
      refine z_iload_n dX3_ofShell_33 rfl ?_
      refine z_iadd dX3_ofShell_34 ?_
      refine zm_ld hA (by decide) (P := 0) (133 + 3 * shell.toNatClampNeg + j) (v := σ (133 + 3 * shell.toNatClampNeg + j)) dX3_ofShell_35 (zn_to (zn_add rfl hi) (by omega)) (by omega) (rfl) ?_
      exact z_jv (by simp only [if_neg c_2] <;> rfl) hJ
    ·
      refine z_iconst dX3_ofShell_20 (v := 0) rfl ?_
      refine z_goto (tgt := 36) dX3_ofShell_21 (by decide) ?_
      exact z_jv (by simp only [if_pos c_2] <;> rfl) hJ
  refine z_ret dX3_ofShell_36 rfl rfl ⟨rfl, rfl⟩
def zf_ofCrab (σ : Nat → Int32) (j : Nat) (crab : Int32) : Int32 := if ¬ ((if ¬ (zf_isCrab σ crab) then (1 : Int32) else 0) ≤ 0) then (0 : Int32) else (σ (212 + 5 * crab.toNatClampNeg + j))
set_option maxHeartbeats 4000000 in
theorem k_ofCrab {G : zE} {A : Nat → Nat} (hA : zinj A 5) {σ s pa ke no f : Nat → Int32} {h0 : zH} {NL NS NC : Nat} (hok : zok σ NL NS NC) {i : Int32} {j : Nat} (hi : i = nI j) (lj : j < 5) {crab : Int32} {d : Nat} (hd : 3 ≤ d) : zCon G fX3_ofCrab d 0 0 [.ref (A 0), .int crab, .int i] (mdl G A (zput 0 σ s) pa ke no f h0) (zA (.int (zf_ofCrab σ j crab)) (mdl G A (zput 0 σ s) pa ke no (upd f 7 (if ¬ (zf_isCrab σ crab) then (1 : Int32) else 0)) h0)) nX := by
  refine zCon.of9 (L := [some (.ref (A 0)), some (.int crab), some (.int i)]) (by simp [Value.category]) (Nat.le_of_ble_eq_true rfl) pX3 rfl rfl ?_
  obtain ⟨bL, bS, bC⟩ := hok.b
  refine z_aload_n dX3_ofCrab_0 rfl ?_
  refine z_aload_n dX3_ofCrab_1 rfl ?_
  refine z_iload_n dX3_ofCrab_2 rfl ?_
  refine z_cV zc7 mX3_isCrab (k_isCrab (d := d - 1) hA hok (by omega)) dX3_ofCrab_3 q2181 (by omega) rfl (Nat.le_of_ble_eq_true rfl) rfl mdl_0 rfl ?_
  refine z_join 14 (.int (if ¬ (zf_isCrab σ crab) then (1 : Int32) else 0)) 1 ?_ (fun hJ => ?_)
  rotate_left
  ·
    refine z_ifB_eq (tgt := 13) dX3_ofCrab_6 (by decide) (fun c_1 => ?_) (fun c_1 => ?_)
    ·
      refine z_iconst dX3_ofCrab_13 (v := 1) rfl ?_
      exact z_jv (if_pos c_1) hJ
    ·
      refine z_iconst dX3_ofCrab_9 (v := 0) rfl ?_
      refine z_goto (tgt := 14) dX3_ofCrab_10 (by decide) ?_
      exact z_jv (if_neg (fun z => z c_1)) hJ
  refine z_cV zc7 mX3_throwsAt (k_throwsAt (d := d - 1) (by omega)) dX3_ofCrab_14 q1796 (by omega) rfl (Nat.le_of_ble_eq_true rfl) rfl mdl_0 rfl ?_
  refine z_join 36 (.int (if ¬ ((if ¬ (zf_isCrab σ crab) then (1 : Int32) else 0) ≤ 0) then (0 : Int32) else (σ (212 + 5 * crab.toNatClampNeg + j)))) 1 ?_ (fun hJ => ?_)
  rotate_left
  ·
    refine z_ifB_eq (tgt := 24) dX3_ofCrab_17 (by decide) (fun c_2 => ?_) (fun c_2 => ?_)
    ·
      refine z_aload_n dX3_ofCrab_24 rfl ?_
      refine zm_get 0 dX3_ofCrab_25 q1742 rfl rfl ?_
      refine z_iconst dX3_ofCrab_28 (v := 0) rfl ?_
      refine z_iload_n dX3_ofCrab_29 rfl ?_
      have lb_3 := (zin_ixc (by omega) hok.nc (Decidable.not_not.mp ((zth2 ((Decidable.not_not.mp c_2)) (by decide)).1))).2
      refine z_cS mX3_crab (k_crab (d := d - 1) (zk 0) ((zin_ixc (by omega) hok.nc (Decidable.not_not.mp ((zth2 ((Decidable.not_not.mp c_2)) (by decide)).1))).1) (by omega)) dX3_ofCrab_30 q1819 (by omega) rfl (Nat.le_of_ble_eq_true rfl) rfl ?_
      refine z_iload_n dX3_ofCrab_33 rfl ?_
      refine z_iadd dX3_ofCrab_34 ?_
      refine zm_ld hA (by decide) (P := 0) (212 + 5 * crab.toNatClampNeg + j) (v := σ (212 + 5 * crab.toNatClampNeg + j)) dX3_ofCrab_35 (zn_to (zn_add rfl hi) (by omega)) (by omega) (rfl) ?_
      exact z_jv (by simp only [if_neg c_2] <;> rfl) hJ
    ·
      refine z_iconst dX3_ofCrab_20 (v := 0) rfl ?_
      refine z_goto (tgt := 36) dX3_ofCrab_21 (by decide) ?_
      exact z_jv (by simp only [if_pos c_2] <;> rfl) hJ
  refine z_ret dX3_ofCrab_36 rfl rfl ⟨rfl, rfl⟩
def zf_fateOfLimpet (σ : Nat → Int32) (limpet : Int32) : Int32 := zf_ofLimpet σ 4 limpet
set_option maxHeartbeats 4000000 in
theorem k_fateOfLimpet {G : zE} {A : Nat → Nat} (hA : zinj A 5) {σ s pa ke no f : Nat → Int32} {h0 : zH} {NL NS NC : Nat} (hok : zok σ NL NS NC) {limpet : Int32} {d : Nat} (hd : 4 ≤ d) : zCon G fX3_fateOfLimpet d 0 0 [.ref (A 0), .int limpet] (mdl G A (zput 0 σ s) pa ke no f h0) (zA (.int (zf_fateOfLimpet σ limpet)) (mdl G A (zput 0 σ s) pa ke no (upd f 7 (if ¬ (zf_isLimpet σ limpet) then (1 : Int32) else 0)) h0)) nX := by
  refine zCon.of9 (L := [some (.ref (A 0)), some (.int limpet)]) (by simp [Value.category]) (Nat.le_of_ble_eq_true rfl) pX3 rfl rfl ?_
  obtain ⟨bL, bS, bC⟩ := hok.b
  refine z_aload_n dX3_fateOfLimpet_0 rfl ?_
  refine z_iload_n dX3_fateOfLimpet_1 rfl ?_
  refine z_iconst dX3_fateOfLimpet_2 (v := 4) rfl ?_
  refine z_cV zc7 mX3_ofLimpet (k_ofLimpet (d := d - 1) hA hok (zk 4) (by omega) (by omega)) dX3_fateOfLimpet_3 q2105 (by omega) rfl (Nat.le_of_ble_eq_true rfl) rfl mdl_0 rfl ?_
  refine z_ret dX3_fateOfLimpet_6 rfl rfl ⟨rfl, rfl⟩
def zf_poolOfLimpet (σ : Nat → Int32) (limpet : Int32) : Int32 := zf_ofLimpet σ 0 limpet
set_option maxHeartbeats 4000000 in
theorem k_poolOfLimpet {G : zE} {A : Nat → Nat} (hA : zinj A 5) {σ s pa ke no f : Nat → Int32} {h0 : zH} {NL NS NC : Nat} (hok : zok σ NL NS NC) {limpet : Int32} {d : Nat} (hd : 4 ≤ d) : zCon G fX3_poolOfLimpet d 0 0 [.ref (A 0), .int limpet] (mdl G A (zput 0 σ s) pa ke no f h0) (zA (.int (zf_poolOfLimpet σ limpet)) (mdl G A (zput 0 σ s) pa ke no (upd f 7 (if ¬ (zf_isLimpet σ limpet) then (1 : Int32) else 0)) h0)) nX := by
  refine zCon.of9 (L := [some (.ref (A 0)), some (.int limpet)]) (by simp [Value.category]) (Nat.le_of_ble_eq_true rfl) pX3 rfl rfl ?_
  obtain ⟨bL, bS, bC⟩ := hok.b
  refine z_aload_n dX3_poolOfLimpet_0 rfl ?_
  refine z_iload_n dX3_poolOfLimpet_1 rfl ?_
  refine z_iconst dX3_poolOfLimpet_2 (v := 0) rfl ?_
  refine z_cV zc7 mX3_ofLimpet (k_ofLimpet (d := d - 1) hA hok (zk 0) (by omega) (by omega)) dX3_poolOfLimpet_3 q2105 (by omega) rfl (Nat.le_of_ble_eq_true rfl) rfl mdl_0 rfl ?_
  refine z_ret dX3_poolOfLimpet_6 rfl rfl ⟨rfl, rfl⟩
def zf_waterOf (σ : Nat → Int32) (limpet : Int32) : Int32 := zf_ofLimpet σ 1 limpet
set_option maxHeartbeats 4000000 in
theorem k_waterOf {G : zE} {A : Nat → Nat} (hA : zinj A 5) {σ s pa ke no f : Nat → Int32} {h0 : zH} {NL NS NC : Nat} (hok : zok σ NL NS NC) {limpet : Int32} {d : Nat} (hd : 4 ≤ d) : zCon G fX3_waterOf d 0 0 [.ref (A 0), .int limpet] (mdl G A (zput 0 σ s) pa ke no f h0) (zA (.int (zf_waterOf σ limpet)) (mdl G A (zput 0 σ s) pa ke no (upd f 7 (if ¬ (zf_isLimpet σ limpet) then (1 : Int32) else 0)) h0)) nX := by
  refine zCon.of9 (L := [some (.ref (A 0)), some (.int limpet)]) (by simp [Value.category]) (Nat.le_of_ble_eq_true rfl) pX3 rfl rfl ?_
  obtain ⟨bL, bS, bC⟩ := hok.b
  refine z_aload_n dX3_waterOf_0 rfl ?_
  refine z_iload_n dX3_waterOf_1 rfl ?_
  refine z_iconst dX3_waterOf_2 (v := 1) rfl ?_
  refine z_cV zc7 mX3_ofLimpet (k_ofLimpet (d := d - 1) hA hok (zk 1) (by omega) (by omega)) dX3_waterOf_3 q2105 (by omega) rfl (Nat.le_of_ble_eq_true rfl) rfl mdl_0 rfl ?_
  refine z_ret dX3_waterOf_6 rfl rfl ⟨rfl, rfl⟩
def zf_foodOf (σ : Nat → Int32) (limpet : Int32) : Int32 := zf_ofLimpet σ 2 limpet
set_option maxHeartbeats 4000000 in
theorem k_foodOf {G : zE} {A : Nat → Nat} (hA : zinj A 5) {σ s pa ke no f : Nat → Int32} {h0 : zH} {NL NS NC : Nat} (hok : zok σ NL NS NC) {limpet : Int32} {d : Nat} (hd : 4 ≤ d) : zCon G fX3_foodOf d 0 0 [.ref (A 0), .int limpet] (mdl G A (zput 0 σ s) pa ke no f h0) (zA (.int (zf_foodOf σ limpet)) (mdl G A (zput 0 σ s) pa ke no (upd f 7 (if ¬ (zf_isLimpet σ limpet) then (1 : Int32) else 0)) h0)) nX := by
  refine zCon.of9 (L := [some (.ref (A 0)), some (.int limpet)]) (by simp [Value.category]) (Nat.le_of_ble_eq_true rfl) pX3 rfl rfl ?_
  obtain ⟨bL, bS, bC⟩ := hok.b
  refine z_aload_n dX3_foodOf_0 rfl ?_
  refine z_iload_n dX3_foodOf_1 rfl ?_
  refine z_iconst dX3_foodOf_2 (v := 2) rfl ?_
  refine z_cV zc7 mX3_ofLimpet (k_ofLimpet (d := d - 1) hA hok (zk 2) (by omega) (by omega)) dX3_foodOf_3 q2105 (by omega) rfl (Nat.le_of_ble_eq_true rfl) rfl mdl_0 rfl ?_
  refine z_ret dX3_foodOf_6 rfl rfl ⟨rfl, rfl⟩
def zf_stepsOf (σ : Nat → Int32) (limpet : Int32) : Int32 := zf_ofLimpet σ 3 limpet
set_option maxHeartbeats 4000000 in
theorem k_stepsOf {G : zE} {A : Nat → Nat} (hA : zinj A 5) {σ s pa ke no f : Nat → Int32} {h0 : zH} {NL NS NC : Nat} (hok : zok σ NL NS NC) {limpet : Int32} {d : Nat} (hd : 4 ≤ d) : zCon G fX3_stepsOf d 0 0 [.ref (A 0), .int limpet] (mdl G A (zput 0 σ s) pa ke no f h0) (zA (.int (zf_stepsOf σ limpet)) (mdl G A (zput 0 σ s) pa ke no (upd f 7 (if ¬ (zf_isLimpet σ limpet) then (1 : Int32) else 0)) h0)) nX := by
  refine zCon.of9 (L := [some (.ref (A 0)), some (.int limpet)]) (by simp [Value.category]) (Nat.le_of_ble_eq_true rfl) pX3 rfl rfl ?_
  obtain ⟨bL, bS, bC⟩ := hok.b
  refine z_aload_n dX3_stepsOf_0 rfl ?_
  refine z_iload_n dX3_stepsOf_1 rfl ?_
  refine z_iconst dX3_stepsOf_2 (v := 3) rfl ?_
  refine z_cV zc7 mX3_ofLimpet (k_ofLimpet (d := d - 1) hA hok (zk 3) (by omega) (by omega)) dX3_stepsOf_3 q2105 (by omega) rfl (Nat.le_of_ble_eq_true rfl) rfl mdl_0 rfl ?_
  refine z_ret dX3_stepsOf_6 rfl rfl ⟨rfl, rfl⟩
def zf_sizeOfShell (σ : Nat → Int32) (shell : Int32) : Int32 := zf_ofShell σ 0 shell
set_option maxHeartbeats 4000000 in
theorem k_sizeOfShell {G : zE} {A : Nat → Nat} (hA : zinj A 5) {σ s pa ke no f : Nat → Int32} {h0 : zH} {NL NS NC : Nat} (hok : zok σ NL NS NC) {shell : Int32} {d : Nat} (hd : 4 ≤ d) : zCon G fX3_sizeOfShell d 0 0 [.ref (A 0), .int shell] (mdl G A (zput 0 σ s) pa ke no f h0) (zA (.int (zf_sizeOfShell σ shell)) (mdl G A (zput 0 σ s) pa ke no (upd f 7 (if ¬ (zf_isShell σ shell) then (1 : Int32) else 0)) h0)) nX := by
  refine zCon.of9 (L := [some (.ref (A 0)), some (.int shell)]) (by simp [Value.category]) (Nat.le_of_ble_eq_true rfl) pX3 rfl rfl ?_
  obtain ⟨bL, bS, bC⟩ := hok.b
  refine z_aload_n dX3_sizeOfShell_0 rfl ?_
  refine z_iload_n dX3_sizeOfShell_1 rfl ?_
  refine z_iconst dX3_sizeOfShell_2 (v := 0) rfl ?_
  refine z_cV zc7 mX3_ofShell (k_ofShell (d := d - 1) hA hok (zk 0) (by omega) (by omega)) dX3_sizeOfShell_3 q2161 (by omega) rfl (Nat.le_of_ble_eq_true rfl) rfl mdl_0 rfl ?_
  refine z_ret dX3_sizeOfShell_6 rfl rfl ⟨rfl, rfl⟩
def zf_poolOfShell (σ : Nat → Int32) (shell : Int32) : Int32 := zf_ofShell σ 1 shell
set_option maxHeartbeats 4000000 in
theorem k_poolOfShell {G : zE} {A : Nat → Nat} (hA : zinj A 5) {σ s pa ke no f : Nat → Int32} {h0 : zH} {NL NS NC : Nat} (hok : zok σ NL NS NC) {shell : Int32} {d : Nat} (hd : 4 ≤ d) : zCon G fX3_poolOfShell d 0 0 [.ref (A 0), .int shell] (mdl G A (zput 0 σ s) pa ke no f h0) (zA (.int (zf_poolOfShell σ shell)) (mdl G A (zput 0 σ s) pa ke no (upd f 7 (if ¬ (zf_isShell σ shell) then (1 : Int32) else 0)) h0)) nX := by
  refine zCon.of9 (L := [some (.ref (A 0)), some (.int shell)]) (by simp [Value.category]) (Nat.le_of_ble_eq_true rfl) pX3 rfl rfl ?_
  obtain ⟨bL, bS, bC⟩ := hok.b
  refine z_aload_n dX3_poolOfShell_0 rfl ?_
  refine z_iload_n dX3_poolOfShell_1 rfl ?_
  refine z_iconst dX3_poolOfShell_2 (v := 1) rfl ?_
  refine z_cV zc7 mX3_ofShell (k_ofShell (d := d - 1) hA hok (zk 1) (by omega) (by omega)) dX3_poolOfShell_3 q2161 (by omega) rfl (Nat.le_of_ble_eq_true rfl) rfl mdl_0 rfl ?_
  refine z_ret dX3_poolOfShell_6 rfl rfl ⟨rfl, rfl⟩
def zf_wearerOf (σ : Nat → Int32) (shell : Int32) : Int32 := zf_ofShell σ 2 shell
set_option maxHeartbeats 4000000 in
theorem k_wearerOf {G : zE} {A : Nat → Nat} (hA : zinj A 5) {σ s pa ke no f : Nat → Int32} {h0 : zH} {NL NS NC : Nat} (hok : zok σ NL NS NC) {shell : Int32} {d : Nat} (hd : 4 ≤ d) : zCon G fX3_wearerOf d 0 0 [.ref (A 0), .int shell] (mdl G A (zput 0 σ s) pa ke no f h0) (zA (.int (zf_wearerOf σ shell)) (mdl G A (zput 0 σ s) pa ke no (upd f 7 (if ¬ (zf_isShell σ shell) then (1 : Int32) else 0)) h0)) nX := by
  refine zCon.of9 (L := [some (.ref (A 0)), some (.int shell)]) (by simp [Value.category]) (Nat.le_of_ble_eq_true rfl) pX3 rfl rfl ?_
  obtain ⟨bL, bS, bC⟩ := hok.b
  refine z_aload_n dX3_wearerOf_0 rfl ?_
  refine z_iload_n dX3_wearerOf_1 rfl ?_
  refine z_iconst dX3_wearerOf_2 (v := 2) rfl ?_
  refine z_cV zc7 mX3_ofShell (k_ofShell (d := d - 1) hA hok (zk 2) (by omega) (by omega)) dX3_wearerOf_3 q2161 (by omega) rfl (Nat.le_of_ble_eq_true rfl) rfl mdl_0 rfl ?_
  refine z_ret dX3_wearerOf_6 rfl rfl ⟨rfl, rfl⟩
def zf_fateOfCrab (σ : Nat → Int32) (crab : Int32) : Int32 := zf_ofCrab σ 3 crab
set_option maxHeartbeats 4000000 in
theorem k_fateOfCrab {G : zE} {A : Nat → Nat} (hA : zinj A 5) {σ s pa ke no f : Nat → Int32} {h0 : zH} {NL NS NC : Nat} (hok : zok σ NL NS NC) {crab : Int32} {d : Nat} (hd : 4 ≤ d) : zCon G fX3_fateOfCrab d 0 0 [.ref (A 0), .int crab] (mdl G A (zput 0 σ s) pa ke no f h0) (zA (.int (zf_fateOfCrab σ crab)) (mdl G A (zput 0 σ s) pa ke no (upd f 7 (if ¬ (zf_isCrab σ crab) then (1 : Int32) else 0)) h0)) nX := by
  refine zCon.of9 (L := [some (.ref (A 0)), some (.int crab)]) (by simp [Value.category]) (Nat.le_of_ble_eq_true rfl) pX3 rfl rfl ?_
  obtain ⟨bL, bS, bC⟩ := hok.b
  refine z_aload_n dX3_fateOfCrab_0 rfl ?_
  refine z_iload_n dX3_fateOfCrab_1 rfl ?_
  refine z_iconst dX3_fateOfCrab_2 (v := 3) rfl ?_
  refine z_cV zc7 mX3_ofCrab (k_ofCrab (d := d - 1) hA hok (zk 3) (by omega) (by omega)) dX3_fateOfCrab_3 q2177 (by omega) rfl (Nat.le_of_ble_eq_true rfl) rfl mdl_0 rfl ?_
  refine z_ret dX3_fateOfCrab_6 rfl rfl ⟨rfl, rfl⟩
def zf_sizeOfCrab (σ : Nat → Int32) (crab : Int32) : Int32 := zf_ofCrab σ 0 crab
set_option maxHeartbeats 4000000 in
theorem k_sizeOfCrab {G : zE} {A : Nat → Nat} (hA : zinj A 5) {σ s pa ke no f : Nat → Int32} {h0 : zH} {NL NS NC : Nat} (hok : zok σ NL NS NC) {crab : Int32} {d : Nat} (hd : 4 ≤ d) : zCon G fX3_sizeOfCrab d 0 0 [.ref (A 0), .int crab] (mdl G A (zput 0 σ s) pa ke no f h0) (zA (.int (zf_sizeOfCrab σ crab)) (mdl G A (zput 0 σ s) pa ke no (upd f 7 (if ¬ (zf_isCrab σ crab) then (1 : Int32) else 0)) h0)) nX := by
  refine zCon.of9 (L := [some (.ref (A 0)), some (.int crab)]) (by simp [Value.category]) (Nat.le_of_ble_eq_true rfl) pX3 rfl rfl ?_
  obtain ⟨bL, bS, bC⟩ := hok.b
  refine z_aload_n dX3_sizeOfCrab_0 rfl ?_
  refine z_iload_n dX3_sizeOfCrab_1 rfl ?_
  refine z_iconst dX3_sizeOfCrab_2 (v := 0) rfl ?_
  refine z_cV zc7 mX3_ofCrab (k_ofCrab (d := d - 1) hA hok (zk 0) (by omega) (by omega)) dX3_sizeOfCrab_3 q2177 (by omega) rfl (Nat.le_of_ble_eq_true rfl) rfl mdl_0 rfl ?_
  refine z_ret dX3_sizeOfCrab_6 rfl rfl ⟨rfl, rfl⟩
def zf_poolOfCrab (σ : Nat → Int32) (crab : Int32) : Int32 := zf_ofCrab σ 1 crab
set_option maxHeartbeats 4000000 in
theorem k_poolOfCrab {G : zE} {A : Nat → Nat} (hA : zinj A 5) {σ s pa ke no f : Nat → Int32} {h0 : zH} {NL NS NC : Nat} (hok : zok σ NL NS NC) {crab : Int32} {d : Nat} (hd : 4 ≤ d) : zCon G fX3_poolOfCrab d 0 0 [.ref (A 0), .int crab] (mdl G A (zput 0 σ s) pa ke no f h0) (zA (.int (zf_poolOfCrab σ crab)) (mdl G A (zput 0 σ s) pa ke no (upd f 7 (if ¬ (zf_isCrab σ crab) then (1 : Int32) else 0)) h0)) nX := by
  refine zCon.of9 (L := [some (.ref (A 0)), some (.int crab)]) (by simp [Value.category]) (Nat.le_of_ble_eq_true rfl) pX3 rfl rfl ?_
  obtain ⟨bL, bS, bC⟩ := hok.b
  refine z_aload_n dX3_poolOfCrab_0 rfl ?_
  refine z_iload_n dX3_poolOfCrab_1 rfl ?_
  refine z_iconst dX3_poolOfCrab_2 (v := 1) rfl ?_
  refine z_cV zc7 mX3_ofCrab (k_ofCrab (d := d - 1) hA hok (zk 1) (by omega) (by omega)) dX3_poolOfCrab_3 q2177 (by omega) rfl (Nat.le_of_ble_eq_true rfl) rfl mdl_0 rfl ?_
  refine z_ret dX3_poolOfCrab_6 rfl rfl ⟨rfl, rfl⟩
def zf_shellOf (σ : Nat → Int32) (crab : Int32) : Int32 := zf_ofCrab σ 2 crab
set_option maxHeartbeats 4000000 in
theorem k_shellOf {G : zE} {A : Nat → Nat} (hA : zinj A 5) {σ s pa ke no f : Nat → Int32} {h0 : zH} {NL NS NC : Nat} (hok : zok σ NL NS NC) {crab : Int32} {d : Nat} (hd : 4 ≤ d) : zCon G fX3_shellOf d 0 0 [.ref (A 0), .int crab] (mdl G A (zput 0 σ s) pa ke no f h0) (zA (.int (zf_shellOf σ crab)) (mdl G A (zput 0 σ s) pa ke no (upd f 7 (if ¬ (zf_isCrab σ crab) then (1 : Int32) else 0)) h0)) nX := by
  refine zCon.of9 (L := [some (.ref (A 0)), some (.int crab)]) (by simp [Value.category]) (Nat.le_of_ble_eq_true rfl) pX3 rfl rfl ?_
  obtain ⟨bL, bS, bC⟩ := hok.b
  refine z_aload_n dX3_shellOf_0 rfl ?_
  refine z_iload_n dX3_shellOf_1 rfl ?_
  refine z_iconst dX3_shellOf_2 (v := 2) rfl ?_
  refine z_cV zc7 mX3_ofCrab (k_ofCrab (d := d - 1) hA hok (zk 2) (by omega) (by omega)) dX3_shellOf_3 q2177 (by omega) rfl (Nat.le_of_ble_eq_true rfl) rfl mdl_0 rfl ?_
  refine z_ret dX3_shellOf_6 rfl rfl ⟨rfl, rfl⟩
def zf_changesOf (σ : Nat → Int32) (crab : Int32) : Int32 := zf_ofCrab σ 4 crab
set_option maxHeartbeats 4000000 in
theorem k_changesOf {G : zE} {A : Nat → Nat} (hA : zinj A 5) {σ s pa ke no f : Nat → Int32} {h0 : zH} {NL NS NC : Nat} (hok : zok σ NL NS NC) {crab : Int32} {d : Nat} (hd : 4 ≤ d) : zCon G fX3_changesOf d 0 0 [.ref (A 0), .int crab] (mdl G A (zput 0 σ s) pa ke no f h0) (zA (.int (zf_changesOf σ crab)) (mdl G A (zput 0 σ s) pa ke no (upd f 7 (if ¬ (zf_isCrab σ crab) then (1 : Int32) else 0)) h0)) nX := by
  refine zCon.of9 (L := [some (.ref (A 0)), some (.int crab)]) (by simp [Value.category]) (Nat.le_of_ble_eq_true rfl) pX3 rfl rfl ?_
  obtain ⟨bL, bS, bC⟩ := hok.b
  refine z_aload_n dX3_changesOf_0 rfl ?_
  refine z_iload_n dX3_changesOf_1 rfl ?_
  refine z_iconst dX3_changesOf_2 (v := 4) rfl ?_
  refine z_cV zc7 mX3_ofCrab (k_ofCrab (d := d - 1) hA hok (zk 4) (by omega) (by omega)) dX3_changesOf_3 q2177 (by omega) rfl (Nat.le_of_ble_eq_true rfl) rfl mdl_0 rfl ?_
  refine z_ret dX3_changesOf_6 rfl rfl ⟨rfl, rfl⟩
def zf_worth (σ : Nat → Int32) (shell crab : Int32) : Int32 := if ¬ ((if ¬ (zf_isShell σ shell) ∨ (¬ (zf_isCrab σ crab)) then (1 : Int32) else 0) ≤ 0) then (0 : Int32) else (zf_worthOf σ shell.toNatClampNeg crab.toNatClampNeg)
set_option maxHeartbeats 4000000 in
theorem k_worth {G : zE} {A : Nat → Nat} (hA : zinj A 5) {σ s pa ke no f : Nat → Int32} {h0 : zH} {NL NS NC : Nat} (hok : zok σ NL NS NC) {shell crab : Int32} {d : Nat} (hd : 3 ≤ d) : zCon G fX3_worth d 0 0 [.ref (A 0), .int shell, .int crab] (mdl G A (zput 0 σ s) pa ke no f h0) (zA (.int (zf_worth σ shell crab)) (mdl G A (zput 0 σ s) pa ke no (upd f 7 (if ¬ (zf_isShell σ shell) ∨ (¬ (zf_isCrab σ crab)) then (1 : Int32) else 0)) h0)) nX := by
  refine zCon.of9 (L := [some (.ref (A 0)), some (.int shell), some (.int crab)]) (by simp [Value.category]) (Nat.le_of_ble_eq_true rfl) pX3 rfl rfl ?_
  obtain ⟨bL, bS, bC⟩ := hok.b
  refine z_aload_n dX3_worth_0 rfl ?_
  refine z_aload_n dX3_worth_1 rfl ?_
  refine z_iload_n dX3_worth_2 rfl ?_
  refine z_cV zc7 mX3_isShell (k_isShell (d := d - 1) hA hok (by omega)) dX3_worth_3 q1841 (by omega) rfl (Nat.le_of_ble_eq_true rfl) rfl mdl_0 rfl ?_
  refine z_join 22 (.int (if ¬ (zf_isShell σ shell) ∨ (¬ (zf_isCrab σ crab)) then (1 : Int32) else 0)) 1 ?_ (fun hJ => ?_)
  rotate_left
  ·
    refine z_ifB_eq (tgt := 21) dX3_worth_6 (by decide) (fun c_1 => ?_) (fun c_1 => ?_)
    ·
      refine z_iconst dX3_worth_21 (v := 1) rfl ?_
      exact z_jv (if_pos (Or.inl c_1)) hJ
    ·
      refine z_aload_n dX3_worth_9 rfl ?_
      refine z_iload_n dX3_worth_10 rfl ?_
      refine z_cV zc7 mX3_isCrab (k_isCrab (d := d - 1) hA hok (by omega)) dX3_worth_11 q2181 (by omega) rfl (Nat.le_of_ble_eq_true rfl) rfl mdl_0 rfl ?_
      refine z_ifB_eq (tgt := 21) dX3_worth_14 (by decide) (fun c_2 => ?_) (fun c_2 => ?_)
      ·
        refine z_iconst dX3_worth_21 (v := 1) rfl ?_
        exact z_jv (if_pos (Or.inr c_2)) hJ
      ·
        refine z_iconst dX3_worth_17 (v := 0) rfl ?_
        refine z_goto (tgt := 22) dX3_worth_18 (by decide) ?_
        exact z_jv (if_neg (fun z => z.elim (fun y => y c_1) (fun z => z c_2))) hJ
  refine z_cV zc7 mX3_throwsAt (k_throwsAt (d := d - 1) (by omega)) dX3_worth_22 q1796 (by omega) rfl (Nat.le_of_ble_eq_true rfl) rfl mdl_0 rfl ?_
  refine z_join 39 (.int (if ¬ ((if ¬ (zf_isShell σ shell) ∨ (¬ (zf_isCrab σ crab)) then (1 : Int32) else 0) ≤ 0) then (0 : Int32) else (zf_worthOf σ shell.toNatClampNeg crab.toNatClampNeg))) 1 ?_ (fun hJ => ?_)
  rotate_left
  ·
    refine z_ifB_eq (tgt := 32) dX3_worth_25 (by decide) (fun c_3 => ?_) (fun c_3 => ?_)
    ·
      refine z_aload_n dX3_worth_32 rfl ?_
      refine z_iconst dX3_worth_33 (v := 0) rfl ?_
      refine z_iload_n dX3_worth_34 rfl ?_
      refine z_iload_n dX3_worth_35 rfl ?_
      have lb_4 := (zin_ixc (by omega) hok.ns (Decidable.not_not.mp ((fun z => (zth2 ((Decidable.not_not.mp c_3)) (by decide)).1 (Or.inl z))))).2
      have lb_5 := (zin_ixc (by omega) hok.nc (Decidable.not_not.mp ((fun z => (zth2 ((Decidable.not_not.mp c_3)) (by decide)).1 (Or.inr z))))).2
      refine z_cV zc7 mX3_worthOf (k_worthOf (d := d - 1) hA (P := 0) (by decide) (zk 0) ((zin_ixc (by omega) hok.ns (Decidable.not_not.mp ((fun z => (zth2 ((Decidable.not_not.mp c_3)) (by decide)).1 (Or.inl z))))).1) ((zin_ixc (by omega) hok.nc (Decidable.not_not.mp ((fun z => (zth2 ((Decidable.not_not.mp c_3)) (by decide)).1 (Or.inr z))))).1) (by omega) (by omega) (by omega)) dX3_worth_36 q1921 (by omega) rfl (Nat.le_of_ble_eq_true rfl) rfl mdl_0 rfl ?_
      exact z_jv (by simp only [if_neg c_3] <;> rfl) hJ
    ·
      refine z_iconst dX3_worth_28 (v := 0) rfl ?_
      refine z_goto (tgt := 39) dX3_worth_29 (by decide) ?_
      exact z_jv (by simp only [if_pos c_3] <;> rfl) hJ
  refine z_ret dX3_worth_39 rfl rfl ⟨rfl, rfl⟩
def zf_wouldTake (σ : Nat → Int32) (NS : Nat) (crab : Int32) : Int32 := if ¬ ((if ¬ (zf_isCrab σ crab) then (1 : Int32) else 0) ≤ 0) then (0 : Int32) else (if zf_lives σ crab.toNatClampNeg then (zf_better σ crab.toNatClampNeg NS (σ (212 + 5 * crab.toNatClampNeg + 1))) else ((-1) : Int32))
set_option maxHeartbeats 4000000 in
theorem k_wouldTake {G : zE} {A : Nat → Nat} (hA : zinj A 5) {σ s pa ke no f : Nat → Int32} {h0 : zH} {NL NS NC : Nat} (hok : zok σ NL NS NC) {crab : Int32} {d : Nat} (hd : 5 ≤ d) : zCon G fX3_wouldTake d 0 0 [.ref (A 0), .int crab] (mdl G A (zput 0 σ s) pa ke no f h0) (zA (.int (zf_wouldTake σ NS crab)) (mdl G A (zput 0 σ s) pa ke no (upd f 7 (if ¬ (zf_isCrab σ crab) then (1 : Int32) else 0)) h0)) nX := by
  refine zCon.of9 (L := [some (.ref (A 0)), some (.int crab)]) (by simp [Value.category]) (Nat.le_of_ble_eq_true rfl) pX3 rfl rfl ?_
  obtain ⟨bL, bS, bC⟩ := hok.b
  refine z_aload_n dX3_wouldTake_0 rfl ?_
  refine z_aload_n dX3_wouldTake_1 rfl ?_
  refine z_iload_n dX3_wouldTake_2 rfl ?_
  refine z_cV zc7 mX3_isCrab (k_isCrab (d := d - 1) hA hok (by omega)) dX3_wouldTake_3 q2181 (by omega) rfl (Nat.le_of_ble_eq_true rfl) rfl mdl_0 rfl ?_
  refine z_join 14 (.int (if ¬ (zf_isCrab σ crab) then (1 : Int32) else 0)) 1 ?_ (fun hJ => ?_)
  rotate_left
  ·
    refine z_ifB_eq (tgt := 13) dX3_wouldTake_6 (by decide) (fun c_1 => ?_) (fun c_1 => ?_)
    ·
      refine z_iconst dX3_wouldTake_13 (v := 1) rfl ?_
      exact z_jv (if_pos c_1) hJ
    ·
      refine z_iconst dX3_wouldTake_9 (v := 0) rfl ?_
      refine z_goto (tgt := 14) dX3_wouldTake_10 (by decide) ?_
      exact z_jv (if_neg (fun z => z c_1)) hJ
  refine z_cV zc7 mX3_throwsAt (k_throwsAt (d := d - 1) (by omega)) dX3_wouldTake_14 q1796 (by omega) rfl (Nat.le_of_ble_eq_true rfl) rfl mdl_0 rfl ?_
  refine z_ifB_eq (tgt := 22) dX3_wouldTake_17 (by decide) (fun c_2 => ?_) (fun c_2 => ?_)
  ·
    refine z_aload_n dX3_wouldTake_22 rfl ?_
    refine z_iconst dX3_wouldTake_23 (v := 0) rfl ?_
    refine z_iload_n dX3_wouldTake_24 rfl ?_
    have lb_3 := (zin_ixc (by omega) hok.nc (Decidable.not_not.mp ((zth2 ((Decidable.not_not.mp c_2)) (by decide)).1))).2
    refine z_cV zc7 mX3_lives (k_lives (d := d - 1) hA (P := 0) (by decide) (zk 0) ((zin_ixc (by omega) hok.nc (Decidable.not_not.mp ((zth2 ((Decidable.not_not.mp c_2)) (by decide)).1))).1) (by omega) (by omega)) dX3_wouldTake_25 q1905 (by omega) rfl (Nat.le_of_ble_eq_true rfl) rfl mdl_0 rfl ?_
    refine z_join 53 (.int (if zf_lives σ crab.toNatClampNeg then (zf_better σ crab.toNatClampNeg NS (σ (212 + 5 * crab.toNatClampNeg + 1))) else ((-1) : Int32))) 1 ?_ (fun hJ => ?_)
    rotate_left
    ·
      refine z_ifB_eq (tgt := 52) dX3_wouldTake_28 (by decide) (fun c_4 => ?_) (fun c_4 => ?_)
      ·
        refine z_iconst dX3_wouldTake_52 (v := (-1)) rfl ?_
        exact z_jv (by simp only [if_neg c_4] <;> rfl) hJ
      ·
        refine z_aload_n dX3_wouldTake_31 rfl ?_
        refine z_iconst dX3_wouldTake_32 (v := 0) rfl ?_
        refine z_iload_n dX3_wouldTake_33 rfl ?_
        refine z_aload_n dX3_wouldTake_34 rfl ?_
        refine zm_get 0 dX3_wouldTake_35 q1742 rfl rfl ?_
        refine z_iconst dX3_wouldTake_38 (v := 0) rfl ?_
        refine z_iload_n dX3_wouldTake_39 rfl ?_
        refine z_cS mX3_crab (k_crab (d := d - 1) (zk 0) ((zin_ixc (by omega) hok.nc (Decidable.not_not.mp ((zth2 ((Decidable.not_not.mp c_2)) (by decide)).1))).1) (by omega)) dX3_wouldTake_40 q1819 (by omega) rfl (Nat.le_of_ble_eq_true rfl) rfl ?_
        refine z_iconst dX3_wouldTake_43 (v := 1) rfl ?_
        refine z_iadd dX3_wouldTake_44 ?_
        refine zm_ld hA (by decide) (P := 0) (212 + 5 * crab.toNatClampNeg + 1) (v := σ (212 + 5 * crab.toNatClampNeg + 1)) dX3_wouldTake_45 (zn_to (zn_add rfl (zk 1)) (by omega)) (by omega) (rfl) ?_
        refine z_cV zc7 mX3_better (k_better (d := d - 1) hA (P := 0) (by decide) (zk 0) hok ((zin_ixc (by omega) hok.nc (Decidable.not_not.mp ((zth2 ((Decidable.not_not.mp c_2)) (by decide)).1))).1) (by omega) (by omega)) dX3_wouldTake_46 q1925 (by omega) rfl (Nat.le_of_ble_eq_true rfl) rfl mdl_0 rfl ?_
        refine z_goto (tgt := 53) dX3_wouldTake_49 (by decide) ?_
        exact z_jv (by simp only [if_pos c_4] <;> rfl) hJ
    refine z_ret dX3_wouldTake_53 rfl rfl ⟨by simp only [zf_wouldTake, if_neg c_2], rfl⟩
  ·
    refine z_iconst dX3_wouldTake_20 (v := 0) rfl ?_
    refine z_ret dX3_wouldTake_21 rfl rfl ⟨by simp only [zf_wouldTake, if_pos c_2], rfl⟩
def zf_nextOfHeron (σ : Nat → Int32) : Int32 := zb_next σ 8 1
set_option maxHeartbeats 4000000 in
theorem k_nextOfHeron {G : zE} {A : Nat → Nat} (hA : zinj A 5) {σ s pa ke no f : Nat → Int32} {h0 : zH} {NL NS NC : Nat} (hok : zok σ NL NS NC) {d : Nat} (hd : 5 ≤ d) : zCon G fX3_nextOfHeron d 0 0 [.ref (A 0)] (mdl G A (zput 0 σ s) pa ke no f h0) (zA (.int (zf_nextOfHeron σ)) (mdl G A (zput 0 σ s) pa ke no (upd f 7 0) h0)) nX := by
  refine zCon.of9 (L := [some (.ref (A 0))]) (by simp [Value.category]) (Nat.le_of_ble_eq_true rfl) pX3 rfl rfl ?_
  obtain ⟨bL, bS, bC⟩ := hok.b
  refine z_aload_n dX3_nextOfHeron_0 rfl ?_
  refine z_iconst dX3_nextOfHeron_1 (v := 0) rfl ?_
  refine zm_put 7 dX3_nextOfHeron_2 q1749 rfl rfl rfl rfl rfl ?_
  refine z_aload_n dX3_nextOfHeron_5 rfl ?_
  refine z_iconst dX3_nextOfHeron_6 (v := 0) rfl ?_
  refine z_cV zc7 mX3_next (k_next (d := d - 1) hA (P := 0) (by decide) (zk 0) hok (by omega)) dX3_nextOfHeron_7 q1945 (by omega) rfl (Nat.le_of_ble_eq_true rfl) rfl mdl_0 rfl ?_
  refine z_ret dX3_nextOfHeron_10 rfl rfl ⟨rfl, rfl⟩
def zf_preyIn (σ : Nat → Int32) (NL NC : Nat) (pool : Int32) : Int32 := if ¬ ((if ¬ (zf_isPool pool) then (1 : Int32) else 0) ≤ 0) then (0 : Int32) else (zf_prey σ NL NC pool)
set_option maxHeartbeats 4000000 in
theorem k_preyIn {G : zE} {A : Nat → Nat} (hA : zinj A 5) {σ s pa ke no f : Nat → Int32} {h0 : zH} {NL NS NC : Nat} (hok : zok σ NL NS NC) {pool : Int32} {d : Nat} (hd : 6 ≤ d) : zCon G fX3_preyIn d 0 0 [.ref (A 0), .int pool] (mdl G A (zput 0 σ s) pa ke no f h0) (zA (.int (zf_preyIn σ NL NC pool)) (mdl G A (zput 0 σ s) pa ke no (upd f 7 (if ¬ (zf_isPool pool) then (1 : Int32) else 0)) h0)) nX := by
  refine zCon.of9 (L := [some (.ref (A 0)), some (.int pool)]) (by simp [Value.category]) (Nat.le_of_ble_eq_true rfl) pX3 rfl rfl ?_
  obtain ⟨bL, bS, bC⟩ := hok.b
  refine z_aload_n dX3_preyIn_0 rfl ?_
  refine z_iload_n dX3_preyIn_1 rfl ?_
  refine z_cS mX3_isPool (k_isPool (d := d - 1) (by omega)) dX3_preyIn_2 q1790 (by omega) rfl (Nat.le_of_ble_eq_true rfl) rfl ?_
  refine z_join 13 (.int (if ¬ (zf_isPool pool) then (1 : Int32) else 0)) 1 ?_ (fun hJ => ?_)
  rotate_left
  ·
    refine z_ifB_eq (tgt := 12) dX3_preyIn_5 (by decide) (fun c_1 => ?_) (fun c_1 => ?_)
    ·
      refine z_iconst dX3_preyIn_12 (v := 1) rfl ?_
      exact z_jv (if_pos c_1) hJ
    ·
      refine z_iconst dX3_preyIn_8 (v := 0) rfl ?_
      refine z_goto (tgt := 13) dX3_preyIn_9 (by decide) ?_
      exact z_jv (if_neg (fun z => z c_1)) hJ
  refine z_cV zc7 mX3_throwsAt (k_throwsAt (d := d - 1) (by omega)) dX3_preyIn_13 q1796 (by omega) rfl (Nat.le_of_ble_eq_true rfl) rfl mdl_0 rfl ?_
  refine z_join 29 (.int (if ¬ ((if ¬ (zf_isPool pool) then (1 : Int32) else 0) ≤ 0) then (0 : Int32) else (zf_prey σ NL NC pool))) 1 ?_ (fun hJ => ?_)
  rotate_left
  ·
    refine z_ifB_eq (tgt := 23) dX3_preyIn_16 (by decide) (fun c_2 => ?_) (fun c_2 => ?_)
    ·
      refine z_aload_n dX3_preyIn_23 rfl ?_
      refine z_iconst dX3_preyIn_24 (v := 0) rfl ?_
      refine z_iload_n dX3_preyIn_25 rfl ?_
      refine z_cV zc7 mX3_prey (k_prey (d := d - 1) hA (P := 0) (by decide) (zk 0) hok (by omega)) dX3_preyIn_26 q1949 (by omega) rfl (Nat.le_of_ble_eq_true rfl) rfl mdl_0 rfl ?_
      exact z_jv (by simp only [if_neg c_2] <;> rfl) hJ
    ·
      refine z_iconst dX3_preyIn_19 (v := 0) rfl ?_
      refine z_goto (tgt := 29) dX3_preyIn_20 (by decide) ?_
      exact z_jv (by simp only [if_pos c_2] <;> rfl) hJ
  refine z_ret dX3_preyIn_29 rfl rfl ⟨rfl, rfl⟩
def zb_limpetsWith (σ : Nat → Int32) (fate : Int32) : Nat → Nat → Int32 → Int32
  | 0, _, x => x
  | j + 1, K, x => zb_limpetsWith σ fate j (K + 1) (x + (if (σ (32 + 5 * K + 4)) = fate then (1 : Int32) else 0))
set_option maxHeartbeats 4000000 in
theorem l_limpetsWith {G : zE} {A : Nat → Nat} (hA : zinj A 5) {σ s pa ke no f : Nat → Int32} {h0 : zH} {NL NS NC : Nat} (hok : zok σ NL NS NC) {fate : Int32} {d k n : Nat} (hd : 2 ≤ d) {Q : Option Value → zH → Prop} {X : String → zH → Prop} : ∀ (j K : Nat) (x : Int32), K + j = NL → zV G fX3_limpetsWith d 45 [some (.ref (A 0)), some (.int fate), some (.int (zb_limpetsWith σ fate j K x)), none] [] (mdl G A (zput 0 σ s) pa ke no f h0) k n Q X → zV G fX3_limpetsWith d 4 [some (.ref (A 0)), some (.int fate), some (.int x), some (.int (nI K))] [] (mdl G A (zput 0 σ s) pa ke no f h0) k n Q X := by
  intro j
  induction j with
  | zero =>
    intro K x hK hx
    have hK9 : K = NL := by omega
    subst hK9
    refine z_iload_n dX3_limpetsWith_4 rfl ?_
    refine z_aload_n dX3_limpetsWith_5 rfl ?_
    refine zm_get 0 dX3_limpetsWith_6 q1742 rfl rfl ?_
    refine z_bipush dX3_limpetsWith_9 (v := 31) rfl ?_
    refine zm_ld hA (by decide) (P := 0) (31) (v := σ 31) dX3_limpetsWith_11 (zn_to (zk 31) (by omega)) (by omega) (rfl) ?_
    refine z_icmp_ge (tgt := 45) dX3_limpetsWith_12 (by decide) (fun hg => ?_) (fun hg => ?_)
    ·
      refine z_loc (L2 := [some (.ref (A 0)), some (.int fate), some (.int x), none]) ⟨rfl, rfl, rfl, trivial⟩ ?_
      exact hx
    · exact absurd (by rw [hok.nl]; exact Int32.le_refl _) hg
  | succ j ih =>
    intro K x hK hx
    obtain ⟨bL, bS, bC⟩ := hok.b
    refine z_iload_n dX3_limpetsWith_4 rfl ?_
    refine z_aload_n dX3_limpetsWith_5 rfl ?_
    refine zm_get 0 dX3_limpetsWith_6 q1742 rfl rfl ?_
    refine z_bipush dX3_limpetsWith_9 (v := 31) rfl ?_
    refine zm_ld hA (by decide) (P := 0) (31) (v := σ 31) dX3_limpetsWith_11 (zn_to (zk 31) (by omega)) (by omega) (rfl) ?_
    refine z_icmp_ge (tgt := 45) dX3_limpetsWith_12 (by decide) (fun hg => ?_) (fun hg => ?_)
    · exact absurd hg (by rw [hok.nl]; exact nI_ge (by omega) (by omega))
    ·
      refine z_iload_n dX3_limpetsWith_15 rfl ?_
      refine z_aload_n dX3_limpetsWith_16 rfl ?_
      refine zm_get 0 dX3_limpetsWith_17 q1742 rfl rfl ?_
      refine z_iconst dX3_limpetsWith_20 (v := 0) rfl ?_
      refine z_iload_n dX3_limpetsWith_21 rfl ?_
      refine z_cS mX3_limpet (k_limpet (d := d - 1) (zk 0) rfl (by omega)) dX3_limpetsWith_22 q1808 (by omega) rfl (Nat.le_of_ble_eq_true rfl) rfl ?_
      refine z_iconst dX3_limpetsWith_25 (v := 4) rfl ?_
      refine z_iadd dX3_limpetsWith_26 ?_
      refine zm_ld hA (by decide) (P := 0) (32 + 5 * K + 4) (v := σ (32 + 5 * K + 4)) dX3_limpetsWith_27 (zn_to (zn_add rfl (zk 4)) (by omega)) (by omega) (rfl) ?_
      refine z_iload_n dX3_limpetsWith_28 rfl ?_
      refine z_join 37 (.int (if (σ (32 + 5 * K + 4)) = fate then (1 : Int32) else 0)) 2 ?_ (fun hJ => ?_)
      rotate_left
      ·
        refine z_icmp_ne (tgt := 36) dX3_limpetsWith_29 (by decide) (fun c_1 => ?_) (fun c_1 => ?_)
        ·
          refine z_iconst dX3_limpetsWith_36 (v := 0) rfl ?_
          exact z_jv (if_neg c_1) hJ
        ·
          refine z_iconst dX3_limpetsWith_32 (v := 1) rfl ?_
          refine z_goto (tgt := 37) dX3_limpetsWith_33 (by decide) ?_
          exact z_jv (if_pos c_1) hJ
      refine z_iadd dX3_limpetsWith_37 ?_
      refine z_istore_n dX3_limpetsWith_38 (by decide) ?_
      refine z_iinc dX3_limpetsWith_39 rfl (v := nI (K + 1)) (z_inc rfl) ?_
      refine z_goto (tgt := 4) dX3_limpetsWith_42 (by decide) ?_
      refine z_loc (L2 := [some (.ref (A 0)), some (.int fate), some (.int (x + (if (σ (32 + 5 * K + 4)) = fate then (1 : Int32) else 0))), some (.int (nI (K + 1)))]) ⟨rfl, rfl, rfl, rfl, trivial⟩ ?_
      exact ih (K + 1) (x + (if (σ (32 + 5 * K + 4)) = fate then (1 : Int32) else 0)) (by omega) hx
def zf_limpetsWith (σ : Nat → Int32) (NL : Nat) (fate : Int32) : Int32 := zb_limpetsWith σ fate NL 0 (0 : Int32)
set_option maxHeartbeats 4000000 in
theorem k_limpetsWith {G : zE} {A : Nat → Nat} (hA : zinj A 5) {σ s pa ke no f : Nat → Int32} {h0 : zH} {NL NS NC : Nat} (hok : zok σ NL NS NC) {fate : Int32} {d : Nat} (hd : 3 ≤ d) : zCon G fX3_limpetsWith d 0 0 [.ref (A 0), .int fate] (mdl G A (zput 0 σ s) pa ke no f h0) (zA (.int (zf_limpetsWith σ NL fate)) (mdl G A (zput 0 σ s) pa ke no f h0)) nX := by
  refine zCon.of9 (L := [some (.ref (A 0)), some (.int fate), none, none]) (by simp [Value.category]) (Nat.le_of_ble_eq_true rfl) pX3 rfl rfl ?_
  obtain ⟨bL, bS, bC⟩ := hok.b
  refine z_iconst dX3_limpetsWith_0 (v := 0) rfl ?_
  refine z_istore_n dX3_limpetsWith_1 (by decide) ?_
  refine z_iconst dX3_limpetsWith_2 (v := 0) rfl ?_
  refine z_istore_n dX3_limpetsWith_3 (by decide) ?_
  refine z_loc (L2 := [some (.ref (A 0)), some (.int fate), some (.int 0), some (.int 0)]) ⟨rfl, rfl, rfl, rfl, trivial⟩ ?_
  refine l_limpetsWith hA hok (by omega) NL 0 (0 : Int32) (by omega) ?_
  refine z_iload_n dX3_limpetsWith_45 rfl ?_
  refine z_ret dX3_limpetsWith_46 rfl rfl ⟨rfl, rfl⟩
def zb_crabsWith (σ : Nat → Int32) (fate : Int32) : Nat → Nat → Int32 → Int32
  | 0, _, x => x
  | j + 1, K, x => zb_crabsWith σ fate j (K + 1) (x + (if (σ (212 + 5 * K + 3)) = fate then (1 : Int32) else 0))
set_option maxHeartbeats 4000000 in
theorem l_crabsWith {G : zE} {A : Nat → Nat} (hA : zinj A 5) {σ s pa ke no f : Nat → Int32} {h0 : zH} {NL NS NC : Nat} (hok : zok σ NL NS NC) {fate : Int32} {d k n : Nat} (hd : 2 ≤ d) {Q : Option Value → zH → Prop} {X : String → zH → Prop} : ∀ (j K : Nat) (x : Int32), K + j = NC → zV G fX3_crabsWith d 46 [some (.ref (A 0)), some (.int fate), some (.int (zb_crabsWith σ fate j K x)), none] [] (mdl G A (zput 0 σ s) pa ke no f h0) k n Q X → zV G fX3_crabsWith d 4 [some (.ref (A 0)), some (.int fate), some (.int x), some (.int (nI K))] [] (mdl G A (zput 0 σ s) pa ke no f h0) k n Q X := by
  intro j
  induction j with
  | zero =>
    intro K x hK hx
    have hK9 : K = NC := by omega
    subst hK9
    refine z_iload_n dX3_crabsWith_4 rfl ?_
    refine z_aload_n dX3_crabsWith_5 rfl ?_
    refine zm_get 0 dX3_crabsWith_6 q1742 rfl rfl ?_
    refine z_sipush dX3_crabsWith_9 (v := 211) rfl ?_
    refine zm_ld hA (by decide) (P := 0) (211) (v := σ 211) dX3_crabsWith_12 (zn_to (zk 211) (by omega)) (by omega) (rfl) ?_
    refine z_icmp_ge (tgt := 46) dX3_crabsWith_13 (by decide) (fun hg => ?_) (fun hg => ?_)
    ·
      refine z_loc (L2 := [some (.ref (A 0)), some (.int fate), some (.int x), none]) ⟨rfl, rfl, rfl, trivial⟩ ?_
      exact hx
    · exact absurd (by rw [hok.nc]; exact Int32.le_refl _) hg
  | succ j ih =>
    intro K x hK hx
    obtain ⟨bL, bS, bC⟩ := hok.b
    refine z_iload_n dX3_crabsWith_4 rfl ?_
    refine z_aload_n dX3_crabsWith_5 rfl ?_
    refine zm_get 0 dX3_crabsWith_6 q1742 rfl rfl ?_
    refine z_sipush dX3_crabsWith_9 (v := 211) rfl ?_
    refine zm_ld hA (by decide) (P := 0) (211) (v := σ 211) dX3_crabsWith_12 (zn_to (zk 211) (by omega)) (by omega) (rfl) ?_
    refine z_icmp_ge (tgt := 46) dX3_crabsWith_13 (by decide) (fun hg => ?_) (fun hg => ?_)
    · exact absurd hg (by rw [hok.nc]; exact nI_ge (by omega) (by omega))
    ·
      refine z_iload_n dX3_crabsWith_16 rfl ?_
      refine z_aload_n dX3_crabsWith_17 rfl ?_
      refine zm_get 0 dX3_crabsWith_18 q1742 rfl rfl ?_
      refine z_iconst dX3_crabsWith_21 (v := 0) rfl ?_
      refine z_iload_n dX3_crabsWith_22 rfl ?_
      refine z_cS mX3_crab (k_crab (d := d - 1) (zk 0) rfl (by omega)) dX3_crabsWith_23 q1819 (by omega) rfl (Nat.le_of_ble_eq_true rfl) rfl ?_
      refine z_iconst dX3_crabsWith_26 (v := 3) rfl ?_
      refine z_iadd dX3_crabsWith_27 ?_
      refine zm_ld hA (by decide) (P := 0) (212 + 5 * K + 3) (v := σ (212 + 5 * K + 3)) dX3_crabsWith_28 (zn_to (zn_add rfl (zk 3)) (by omega)) (by omega) (rfl) ?_
      refine z_iload_n dX3_crabsWith_29 rfl ?_
      refine z_join 38 (.int (if (σ (212 + 5 * K + 3)) = fate then (1 : Int32) else 0)) 2 ?_ (fun hJ => ?_)
      rotate_left
      ·
        refine z_icmp_ne (tgt := 37) dX3_crabsWith_30 (by decide) (fun c_1 => ?_) (fun c_1 => ?_)
        ·
          refine z_iconst dX3_crabsWith_37 (v := 0) rfl ?_
          exact z_jv (if_neg c_1) hJ
        ·
          refine z_iconst dX3_crabsWith_33 (v := 1) rfl ?_
          refine z_goto (tgt := 38) dX3_crabsWith_34 (by decide) ?_
          exact z_jv (if_pos c_1) hJ
      refine z_iadd dX3_crabsWith_38 ?_
      refine z_istore_n dX3_crabsWith_39 (by decide) ?_
      refine z_iinc dX3_crabsWith_40 rfl (v := nI (K + 1)) (z_inc rfl) ?_
      refine z_goto (tgt := 4) dX3_crabsWith_43 (by decide) ?_
      refine z_loc (L2 := [some (.ref (A 0)), some (.int fate), some (.int (x + (if (σ (212 + 5 * K + 3)) = fate then (1 : Int32) else 0))), some (.int (nI (K + 1)))]) ⟨rfl, rfl, rfl, rfl, trivial⟩ ?_
      exact ih (K + 1) (x + (if (σ (212 + 5 * K + 3)) = fate then (1 : Int32) else 0)) (by omega) hx
def zf_crabsWith (σ : Nat → Int32) (NC : Nat) (fate : Int32) : Int32 := zb_crabsWith σ fate NC 0 (0 : Int32)
set_option maxHeartbeats 4000000 in
theorem k_crabsWith {G : zE} {A : Nat → Nat} (hA : zinj A 5) {σ s pa ke no f : Nat → Int32} {h0 : zH} {NL NS NC : Nat} (hok : zok σ NL NS NC) {fate : Int32} {d : Nat} (hd : 3 ≤ d) : zCon G fX3_crabsWith d 0 0 [.ref (A 0), .int fate] (mdl G A (zput 0 σ s) pa ke no f h0) (zA (.int (zf_crabsWith σ NC fate)) (mdl G A (zput 0 σ s) pa ke no f h0)) nX := by
  refine zCon.of9 (L := [some (.ref (A 0)), some (.int fate), none, none]) (by simp [Value.category]) (Nat.le_of_ble_eq_true rfl) pX3 rfl rfl ?_
  obtain ⟨bL, bS, bC⟩ := hok.b
  refine z_iconst dX3_crabsWith_0 (v := 0) rfl ?_
  refine z_istore_n dX3_crabsWith_1 (by decide) ?_
  refine z_iconst dX3_crabsWith_2 (v := 0) rfl ?_
  refine z_istore_n dX3_crabsWith_3 (by decide) ?_
  refine z_loc (L2 := [some (.ref (A 0)), some (.int fate), some (.int 0), some (.int 0)]) ⟨rfl, rfl, rfl, rfl, trivial⟩ ?_
  refine l_crabsWith hA hok (by omega) NC 0 (0 : Int32) (by omega) ?_
  refine z_iload_n dX3_crabsWith_46 rfl ?_
  refine z_ret dX3_crabsWith_47 rfl rfl ⟨rfl, rfl⟩
def zf_livingLimpets (σ : Nat → Int32) (NL : Nat) : Int32 := zf_limpetsWith σ NL 0
set_option maxHeartbeats 4000000 in
theorem k_livingLimpets {G : zE} {A : Nat → Nat} (hA : zinj A 5) {σ s pa ke no f : Nat → Int32} {h0 : zH} {NL NS NC : Nat} (hok : zok σ NL NS NC) {d : Nat} (hd : 4 ≤ d) : zCon G fX3_livingLimpets d 0 0 [.ref (A 0)] (mdl G A (zput 0 σ s) pa ke no f h0) (zA (.int (zf_livingLimpets σ NL)) (mdl G A (zput 0 σ s) pa ke no (upd f 7 0) h0)) nX := by
  refine zCon.of9 (L := [some (.ref (A 0))]) (by simp [Value.category]) (Nat.le_of_ble_eq_true rfl) pX3 rfl rfl ?_
  obtain ⟨bL, bS, bC⟩ := hok.b
  refine z_aload_n dX3_livingLimpets_0 rfl ?_
  refine z_iconst dX3_livingLimpets_1 (v := 0) rfl ?_
  refine zm_put 7 dX3_livingLimpets_2 q1749 rfl rfl rfl rfl rfl ?_
  refine z_aload_n dX3_livingLimpets_5 rfl ?_
  refine z_iconst dX3_livingLimpets_6 (v := 0) rfl ?_
  refine z_cV zc7 mX3_limpetsWith (k_limpetsWith (d := d - 1) hA hok (by omega)) dX3_livingLimpets_7 q2097 (by omega) rfl (Nat.le_of_ble_eq_true rfl) rfl mdl_0 rfl ?_
  refine z_ret dX3_livingLimpets_10 rfl rfl ⟨rfl, rfl⟩
def zf_livingCrabs (σ : Nat → Int32) (NC : Nat) : Int32 := zf_crabsWith σ NC 0
set_option maxHeartbeats 4000000 in
theorem k_livingCrabs {G : zE} {A : Nat → Nat} (hA : zinj A 5) {σ s pa ke no f : Nat → Int32} {h0 : zH} {NL NS NC : Nat} (hok : zok σ NL NS NC) {d : Nat} (hd : 4 ≤ d) : zCon G fX3_livingCrabs d 0 0 [.ref (A 0)] (mdl G A (zput 0 σ s) pa ke no f h0) (zA (.int (zf_livingCrabs σ NC)) (mdl G A (zput 0 σ s) pa ke no (upd f 7 0) h0)) nX := by
  refine zCon.of9 (L := [some (.ref (A 0))]) (by simp [Value.category]) (Nat.le_of_ble_eq_true rfl) pX3 rfl rfl ?_
  obtain ⟨bL, bS, bC⟩ := hok.b
  refine z_aload_n dX3_livingCrabs_0 rfl ?_
  refine z_iconst dX3_livingCrabs_1 (v := 0) rfl ?_
  refine zm_put 7 dX3_livingCrabs_2 q1749 rfl rfl rfl rfl rfl ?_
  refine z_aload_n dX3_livingCrabs_5 rfl ?_
  refine z_iconst dX3_livingCrabs_6 (v := 0) rfl ?_
  refine z_cV zc7 mX3_crabsWith (k_crabsWith (d := d - 1) hA hok (by omega)) dX3_livingCrabs_7 q2145 (by omega) rfl (Nat.le_of_ble_eq_true rfl) rfl mdl_0 rfl ?_
  refine z_ret dX3_livingCrabs_10 rfl rfl ⟨rfl, rfl⟩
def zf_takenByFates (σ : Nat → Int32) (NL NC : Nat) : Int32 := (zf_limpetsWith σ NL 3) + (zf_crabsWith σ NC 3)
set_option maxHeartbeats 4000000 in
theorem k_takenByFates {G : zE} {A : Nat → Nat} (hA : zinj A 5) {σ s pa ke no f : Nat → Int32} {h0 : zH} {NL NS NC : Nat} (hok : zok σ NL NS NC) {d : Nat} (hd : 4 ≤ d) : zCon G fX3_takenByFates d 0 0 [.ref (A 0)] (mdl G A (zput 0 σ s) pa ke no f h0) (zA (.int (zf_takenByFates σ NL NC)) (mdl G A (zput 0 σ s) pa ke no (upd f 7 0) h0)) nX := by
  refine zCon.of9 (L := [some (.ref (A 0))]) (by simp [Value.category]) (Nat.le_of_ble_eq_true rfl) pX3 rfl rfl ?_
  obtain ⟨bL, bS, bC⟩ := hok.b
  refine z_aload_n dX3_takenByFates_0 rfl ?_
  refine z_iconst dX3_takenByFates_1 (v := 0) rfl ?_
  refine zm_put 7 dX3_takenByFates_2 q1749 rfl rfl rfl rfl rfl ?_
  refine z_aload_n dX3_takenByFates_5 rfl ?_
  refine z_iconst dX3_takenByFates_6 (v := 3) rfl ?_
  refine z_cV zc7 mX3_limpetsWith (k_limpetsWith (d := d - 1) hA hok (by omega)) dX3_takenByFates_7 q2097 (by omega) rfl (Nat.le_of_ble_eq_true rfl) rfl mdl_0 rfl ?_
  refine z_aload_n dX3_takenByFates_10 rfl ?_
  refine z_iconst dX3_takenByFates_11 (v := 3) rfl ?_
  refine z_cV zc7 mX3_crabsWith (k_crabsWith (d := d - 1) hA hok (by omega)) dX3_takenByFates_12 q2145 (by omega) rfl (Nat.le_of_ble_eq_true rfl) rfl mdl_0 rfl ?_
  refine z_iadd dX3_takenByFates_15 ?_
  refine z_ret dX3_takenByFates_16 rfl rfl ⟨rfl, rfl⟩
