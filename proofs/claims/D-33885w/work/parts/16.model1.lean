/-! THE REFERENCE, part 1: its small methods, over a row σ at P -/
set_option maxRecDepth 100000
abbrev zf_in (v lo hi : Int32) : Prop := ¬ (v < lo) ∧ (¬ (hi < v))
set_option maxHeartbeats 4000000 in
theorem k_in {G : zE} {h : zH} {v lo hi : Int32} {d : Nat} (hd : 1 ≤ d) : zCon G fX3_in d 0 0 [.int v, .int lo, .int hi] (h) (zA (.int (if zf_in v lo hi then (1 : Int32) else 0)) (h)) nX := by
  refine zCon.of9 (L := [some (.int v), some (.int lo), some (.int hi)]) (by simp [Value.category]) (Nat.le_of_ble_eq_true rfl) pX3 rfl rfl ?_
  refine z_iload_n dX3_in_0 rfl ?_
  refine z_iload_n dX3_in_1 rfl ?_
  refine z_join 15 (.int (if ¬ (v < lo) ∧ (¬ (hi < v)) then (1 : Int32) else 0)) 2 ?_ (fun hJ => ?_)
  rotate_left
  ·
    refine z_icmp_lt (tgt := 14) dX3_in_2 (by decide) (fun c_1 => ?_) (fun c_1 => ?_)
    ·
      refine z_iconst dX3_in_14 (v := 0) rfl ?_
      exact z_jv (if_neg (fun z => z.1 c_1)) hJ
    ·
      refine z_iload_n dX3_in_5 rfl ?_
      refine z_iload_n dX3_in_6 rfl ?_
      refine z_icmp_gt (tgt := 14) dX3_in_7 (by decide) (fun c_2 => ?_) (fun c_2 => ?_)
      ·
        refine z_iconst dX3_in_14 (v := 0) rfl ?_
        exact z_jv (if_neg (fun z => (fun z => z c_2) z.2)) hJ
      ·
        refine z_iconst dX3_in_10 (v := 1) rfl ?_
        refine z_goto (tgt := 15) dX3_in_11 (by decide) ?_
        exact z_jv (if_pos (⟨c_1, c_2⟩)) hJ
  refine z_ret dX3_in_15 rfl z_bool ⟨rfl, rfl⟩
abbrev zf_isPool (pool : Int32) : Prop := zf_in pool 0 7
set_option maxHeartbeats 4000000 in
theorem k_isPool {G : zE} {h : zH} {pool : Int32} {d : Nat} (hd : 2 ≤ d) : zCon G fX3_isPool d 0 0 [.int pool] (h) (zA (.int (if zf_isPool pool then (1 : Int32) else 0)) (h)) nX := by
  refine zCon.of9 (L := [some (.int pool)]) (by simp [Value.category]) (Nat.le_of_ble_eq_true rfl) pX3 rfl rfl ?_
  refine z_iload_n dX3_isPool_0 rfl ?_
  refine z_iconst dX3_isPool_1 (v := 0) rfl ?_
  refine z_bipush dX3_isPool_2 (v := 7) rfl ?_
  refine z_cS mX3_in (k_in (d := d - 1) (by omega)) dX3_isPool_4 q1793 (by omega) rfl (Nat.le_of_ble_eq_true rfl) rfl ?_
  refine z_ret dX3_isPool_7 rfl z_bool ⟨rfl, rfl⟩
set_option maxHeartbeats 4000000 in
theorem k_limpet {G : zE} {h : zH} {p i : Int32} {P a : Nat} (hp : p = nI P) (ha : i = nI a) {d : Nat} (hd : 1 ≤ d) : zCon G fX3_limpet d 0 0 [.int p, .int i] (h) (zA (.int (nI (P + (32 + 5 * a)))) (h)) nX := by
  refine zCon.of9 (L := [some (.int p), some (.int i)]) (by simp [Value.category]) (Nat.le_of_ble_eq_true rfl) pX3 rfl rfl ?_
  refine z_iload_n dX3_limpet_0 rfl ?_
  refine z_bipush dX3_limpet_1 (v := 32) rfl ?_
  refine z_iadd dX3_limpet_3 ?_
  refine z_iconst dX3_limpet_4 (v := 5) rfl ?_
  refine z_iload_n dX3_limpet_5 rfl ?_
  refine z_imul dX3_limpet_6 ?_
  refine z_iadd dX3_limpet_7 ?_
  refine z_ret dX3_limpet_8 rfl rfl ⟨(congrArg (fun z => some (Value.int z)) (zn_to (zn_add (zn_add hp (zk 32)) (zn_mul (zk 5) ha)) (by omega))), rfl⟩
set_option maxHeartbeats 4000000 in
theorem k_shell {G : zE} {h : zH} {p i : Int32} {P a : Nat} (hp : p = nI P) (ha : i = nI a) {d : Nat} (hd : 1 ≤ d) : zCon G fX3_shell d 0 0 [.int p, .int i] (h) (zA (.int (nI (P + (133 + 3 * a)))) (h)) nX := by
  refine zCon.of9 (L := [some (.int p), some (.int i)]) (by simp [Value.category]) (Nat.le_of_ble_eq_true rfl) pX3 rfl rfl ?_
  refine z_iload_n dX3_shell_0 rfl ?_
  refine z_sipush dX3_shell_1 (v := 133) rfl ?_
  refine z_iadd dX3_shell_4 ?_
  refine z_iconst dX3_shell_5 (v := 3) rfl ?_
  refine z_iload_n dX3_shell_6 rfl ?_
  refine z_imul dX3_shell_7 ?_
  refine z_iadd dX3_shell_8 ?_
  refine z_ret dX3_shell_9 rfl rfl ⟨(congrArg (fun z => some (Value.int z)) (zn_to (zn_add (zn_add hp (zk 133)) (zn_mul (zk 3) ha)) (by omega))), rfl⟩
set_option maxHeartbeats 4000000 in
theorem k_crab {G : zE} {h : zH} {p i : Int32} {P a : Nat} (hp : p = nI P) (ha : i = nI a) {d : Nat} (hd : 1 ≤ d) : zCon G fX3_crab d 0 0 [.int p, .int i] (h) (zA (.int (nI (P + (212 + 5 * a)))) (h)) nX := by
  refine zCon.of9 (L := [some (.int p), some (.int i)]) (by simp [Value.category]) (Nat.le_of_ble_eq_true rfl) pX3 rfl rfl ?_
  refine z_iload_n dX3_crab_0 rfl ?_
  refine z_sipush dX3_crab_1 (v := 212) rfl ?_
  refine z_iadd dX3_crab_4 ?_
  refine z_iconst dX3_crab_5 (v := 5) rfl ?_
  refine z_iload_n dX3_crab_6 rfl ?_
  refine z_imul dX3_crab_7 ?_
  refine z_iadd dX3_crab_8 ?_
  refine z_ret dX3_crab_9 rfl rfl ⟨(congrArg (fun z => some (Value.int z)) (zn_to (zn_add (zn_add hp (zk 212)) (zn_mul (zk 5) ha)) (by omega))), rfl⟩
def zf_tideOf (σ : Nat → Int32) (t : Int32) : Int32 := (σ 1) + ((((σ 2) - (σ 1)) * (if (t - t / 12 * 12) ≤ 6 then (t - t / 12 * 12) else (12 - (t - t / 12 * 12)))) / 6)
set_option maxHeartbeats 4000000 in
theorem k_tideOf {G : zE} {A : Nat → Nat} (hA : zinj A 5) {P : Nat} (hP : P ≤ 287) {σ s pa ke no f : Nat → Int32} {h0 : zH} {p : Int32} (hp : p = nI P) {t : Int32} {d : Nat} (hd : 1 ≤ d) : zCon G fX3_tideOf d 0 0 [.ref (A 0), .int p, .int t] (mdl G A (zput P σ s) pa ke no f h0) (zA (.int (zf_tideOf σ t)) (mdl G A (zput P σ s) pa ke no f h0)) nX := by
  refine zCon.of9 (L := [some (.ref (A 0)), some (.int p), some (.int t), none, none]) (by simp [Value.category]) (Nat.le_of_ble_eq_true rfl) pX3 rfl rfl ?_
  refine z_iload_n dX3_tideOf_0 rfl ?_
  refine z_bipush dX3_tideOf_1 (v := 12) rfl ?_
  refine z_irem dX3_tideOf_3 (by decide) ?_
  refine z_istore_n dX3_tideOf_4 (by decide) ?_
  refine z_iload_n dX3_tideOf_5 rfl ?_
  refine z_bipush dX3_tideOf_6 (v := 6) rfl ?_
  refine z_join 19 (.int (if (t - t / 12 * 12) ≤ 6 then (t - t / 12 * 12) else (12 - (t - t / 12 * 12)))) 2 ?_ (fun hJ => ?_)
  rotate_left
  ·
    refine z_icmp_le (tgt := 18) dX3_tideOf_8 (by decide) (fun c_1 => ?_) (fun c_1 => ?_)
    ·
      refine z_iload_n dX3_tideOf_18 rfl ?_
      exact z_jv (by simp only [if_pos c_1] <;> rfl) hJ
    ·
      refine z_bipush dX3_tideOf_11 (v := 12) rfl ?_
      refine z_iload_n dX3_tideOf_13 rfl ?_
      refine z_isub dX3_tideOf_14 ?_
      refine z_goto (tgt := 19) dX3_tideOf_15 (by decide) ?_
      exact z_jv (by simp only [if_neg c_1] <;> rfl) hJ
  refine z_istore dX3_tideOf_19 (by decide) ?_
  refine z_aload_n dX3_tideOf_21 rfl ?_
  refine zm_get 0 dX3_tideOf_22 q1742 rfl rfl ?_
  refine z_iload_n dX3_tideOf_25 rfl ?_
  refine z_iconst dX3_tideOf_26 (v := 1) rfl ?_
  refine z_iadd dX3_tideOf_27 ?_
  refine zm_ld hA hP (P := P) (1) (v := σ 1) dX3_tideOf_28 (zn_to (zn_add hp (zk 1)) (by omega)) (by omega) (rfl) ?_
  refine z_aload_n dX3_tideOf_29 rfl ?_
  refine zm_get 0 dX3_tideOf_30 q1742 rfl rfl ?_
  refine z_iload_n dX3_tideOf_33 rfl ?_
  refine z_iconst dX3_tideOf_34 (v := 2) rfl ?_
  refine z_iadd dX3_tideOf_35 ?_
  refine zm_ld hA hP (P := P) (2) (v := σ 2) dX3_tideOf_36 (zn_to (zn_add hp (zk 2)) (by omega)) (by omega) (rfl) ?_
  refine z_aload_n dX3_tideOf_37 rfl ?_
  refine zm_get 0 dX3_tideOf_38 q1742 rfl rfl ?_
  refine z_iload_n dX3_tideOf_41 rfl ?_
  refine z_iconst dX3_tideOf_42 (v := 1) rfl ?_
  refine z_iadd dX3_tideOf_43 ?_
  refine zm_ld hA hP (P := P) (1) (v := σ 1) dX3_tideOf_44 (zn_to (zn_add hp (zk 1)) (by omega)) (by omega) (rfl) ?_
  refine z_isub dX3_tideOf_45 ?_
  refine z_iload dX3_tideOf_46 rfl ?_
  refine z_imul dX3_tideOf_48 ?_
  refine z_bipush dX3_tideOf_49 (v := 6) rfl ?_
  refine z_idiv dX3_tideOf_51 (by decide) ?_
  refine z_iadd dX3_tideOf_52 ?_
  refine z_ret dX3_tideOf_53 rfl rfl ⟨rfl, rfl⟩
abbrev zf_isWet (σ : Nat → Int32) (a : Nat) : Prop := ¬ ((zf_tideOf σ (σ 0)) < (σ (7 + a)))
set_option maxHeartbeats 4000000 in
theorem k_isWet {G : zE} {A : Nat → Nat} (hA : zinj A 5) {P : Nat} (hP : P ≤ 287) {σ s pa ke no f : Nat → Int32} {h0 : zH} {p : Int32} (hp : p = nI P) {i : Int32} {a : Nat} (ha : i = nI a) (la : a < 8) {d : Nat} (hd : 2 ≤ d) : zCon G fX3_isWet d 0 0 [.ref (A 0), .int p, .int i] (mdl G A (zput P σ s) pa ke no f h0) (zA (.int (if zf_isWet σ a then (1 : Int32) else 0)) (mdl G A (zput P σ s) pa ke no f h0)) nX := by
  refine zCon.of9 (L := [some (.ref (A 0)), some (.int p), some (.int i)]) (by simp [Value.category]) (Nat.le_of_ble_eq_true rfl) pX3 rfl rfl ?_
  refine z_aload_n dX3_isWet_0 rfl ?_
  refine z_iload_n dX3_isWet_1 rfl ?_
  refine z_aload_n dX3_isWet_2 rfl ?_
  refine zm_get 0 dX3_isWet_3 q1742 rfl rfl ?_
  refine z_iload_n dX3_isWet_6 rfl ?_
  refine z_iconst dX3_isWet_7 (v := 0) rfl ?_
  refine z_iadd dX3_isWet_8 ?_
  refine zm_ld hA hP (P := P) (0) (v := σ 0) dX3_isWet_9 (zn_to (zn_add hp (zk 0)) (by omega)) (by omega) (rfl) ?_
  refine z_cV zc7 mX3_tideOf (k_tideOf (d := d - 1) hA (P := P) hP hp (by omega)) dX3_isWet_10 q1857 (by omega) rfl (Nat.le_of_ble_eq_true rfl) rfl mdl_0 rfl ?_
  refine z_aload_n dX3_isWet_13 rfl ?_
  refine zm_get 0 dX3_isWet_14 q1742 rfl rfl ?_
  refine z_iload_n dX3_isWet_17 rfl ?_
  refine z_bipush dX3_isWet_18 (v := 7) rfl ?_
  refine z_iadd dX3_isWet_20 ?_
  refine z_iload_n dX3_isWet_21 rfl ?_
  refine z_iadd dX3_isWet_22 ?_
  refine zm_ld hA hP (P := P) (7 + a) (v := σ (7 + a)) dX3_isWet_23 (zn_to (zn_add (zn_add hp (zk 7)) ha) (by omega)) (by omega) (rfl) ?_
  refine z_join 32 (.int (if ¬ ((zf_tideOf σ (σ 0)) < (σ (7 + a))) then (1 : Int32) else 0)) 2 ?_ (fun hJ => ?_)
  rotate_left
  ·
    refine z_icmp_lt (tgt := 31) dX3_isWet_24 (by decide) (fun c_1 => ?_) (fun c_1 => ?_)
    ·
      refine z_iconst dX3_isWet_31 (v := 0) rfl ?_
      exact z_jv (if_neg (fun z => z c_1)) hJ
    ·
      refine z_iconst dX3_isWet_27 (v := 1) rfl ?_
      refine z_goto (tgt := 32) dX3_isWet_28 (by decide) ?_
      exact z_jv (if_pos c_1) hJ
  refine z_ret dX3_isWet_32 rfl z_bool ⟨rfl, rfl⟩
def zf_worthOf (σ : Nat → Int32) (a b : Nat) : Int32 := (20 - (3 * (if ((σ (133 + 3 * a)) - (σ (212 + 5 * b))) ≤ 1 then (1 - ((σ (133 + 3 * a)) - (σ (212 + 5 * b)))) else (((σ (133 + 3 * a)) - (σ (212 + 5 * b))) - 1)))) - (if 0 ≤ ((σ (133 + 3 * a)) - (σ (212 + 5 * b))) then (0 : Int32) else (10 : Int32))
set_option maxHeartbeats 4000000 in
theorem k_worthOf {G : zE} {A : Nat → Nat} (hA : zinj A 5) {P : Nat} (hP : P ≤ 287) {σ s pa ke no f : Nat → Int32} {h0 : zH} {p : Int32} (hp : p = nI P) {i c : Int32} {a b : Nat} (ha : i = nI a) (hb : c = nI b) (la : a < 26) (lb : b < 15) {d : Nat} (hd : 2 ≤ d) : zCon G fX3_worthOf d 0 0 [.ref (A 0), .int p, .int i, .int c] (mdl G A (zput P σ s) pa ke no f h0) (zA (.int (zf_worthOf σ a b)) (mdl G A (zput P σ s) pa ke no f h0)) nX := by
  refine zCon.of9 (L := [some (.ref (A 0)), some (.int p), some (.int i), some (.int c), none, none]) (by simp [Value.category]) (Nat.le_of_ble_eq_true rfl) pX3 rfl rfl ?_
  refine z_aload_n dX3_worthOf_0 rfl ?_
  refine zm_get 0 dX3_worthOf_1 q1742 rfl rfl ?_
  refine z_iload_n dX3_worthOf_4 rfl ?_
  refine z_iload_n dX3_worthOf_5 rfl ?_
  refine z_cS mX3_shell (k_shell (d := d - 1) hp ha (by omega)) dX3_worthOf_6 q1834 (by omega) rfl (Nat.le_of_ble_eq_true rfl) rfl ?_
  refine zm_ld hA hP (P := P) (133 + 3 * a) (v := σ (133 + 3 * a)) dX3_worthOf_9 (zn_to (rfl) (by omega)) (by omega) (rfl) ?_
  refine z_aload_n dX3_worthOf_10 rfl ?_
  refine zm_get 0 dX3_worthOf_11 q1742 rfl rfl ?_
  refine z_iload_n dX3_worthOf_14 rfl ?_
  refine z_iload_n dX3_worthOf_15 rfl ?_
  refine z_cS mX3_crab (k_crab (d := d - 1) hp hb (by omega)) dX3_worthOf_16 q1819 (by omega) rfl (Nat.le_of_ble_eq_true rfl) rfl ?_
  refine zm_ld hA hP (P := P) (212 + 5 * b) (v := σ (212 + 5 * b)) dX3_worthOf_19 (zn_to (rfl) (by omega)) (by omega) (rfl) ?_
  refine z_isub dX3_worthOf_20 ?_
  refine z_istore dX3_worthOf_21 (by decide) ?_
  refine z_iload dX3_worthOf_23 rfl ?_
  refine z_iconst dX3_worthOf_25 (v := 1) rfl ?_
  refine z_join 40 (.int (if ((σ (133 + 3 * a)) - (σ (212 + 5 * b))) ≤ 1 then (1 - ((σ (133 + 3 * a)) - (σ (212 + 5 * b)))) else (((σ (133 + 3 * a)) - (σ (212 + 5 * b))) - 1))) 2 ?_ (fun hJ => ?_)
  rotate_left
  ·
    refine z_icmp_le (tgt := 36) dX3_worthOf_26 (by decide) (fun c_1 => ?_) (fun c_1 => ?_)
    ·
      refine z_iconst dX3_worthOf_36 (v := 1) rfl ?_
      refine z_iload dX3_worthOf_37 rfl ?_
      refine z_isub dX3_worthOf_39 ?_
      exact z_jv (by simp only [if_pos c_1] <;> rfl) hJ
    ·
      refine z_iload dX3_worthOf_29 rfl ?_
      refine z_iconst dX3_worthOf_31 (v := 1) rfl ?_
      refine z_isub dX3_worthOf_32 ?_
      refine z_goto (tgt := 40) dX3_worthOf_33 (by decide) ?_
      exact z_jv (by simp only [if_neg c_1] <;> rfl) hJ
  refine z_istore dX3_worthOf_40 (by decide) ?_
  refine z_bipush dX3_worthOf_42 (v := 20) rfl ?_
  refine z_iconst dX3_worthOf_44 (v := 3) rfl ?_
  refine z_iload dX3_worthOf_45 rfl ?_
  refine z_imul dX3_worthOf_47 ?_
  refine z_isub dX3_worthOf_48 ?_
  refine z_iload dX3_worthOf_49 rfl ?_
  refine z_join 60 (.int (if 0 ≤ ((σ (133 + 3 * a)) - (σ (212 + 5 * b))) then (0 : Int32) else (10 : Int32))) 1 ?_ (fun hJ => ?_)
  rotate_left
  ·
    refine z_if_ge (tgt := 59) dX3_worthOf_51 (by decide) (fun c_2 => ?_) (fun c_2 => ?_)
    ·
      refine z_iconst dX3_worthOf_59 (v := 0) rfl ?_
      exact z_jv (by simp only [if_pos c_2] <;> rfl) hJ
    ·
      refine z_bipush dX3_worthOf_54 (v := 10) rfl ?_
      refine z_goto (tgt := 60) dX3_worthOf_56 (by decide) ?_
      exact z_jv (by simp only [if_neg c_2] <;> rfl) hJ
  refine z_isub dX3_worthOf_60 ?_
  refine z_ret dX3_worthOf_61 rfl rfl ⟨rfl, rfl⟩
abbrev zf_lives (σ : Nat → Int32) (b : Nat) : Prop := (σ (212 + 5 * b + 3)) = 0
set_option maxHeartbeats 4000000 in
theorem k_lives {G : zE} {A : Nat → Nat} (hA : zinj A 5) {P : Nat} (hP : P ≤ 287) {σ s pa ke no f : Nat → Int32} {h0 : zH} {p : Int32} (hp : p = nI P) {c : Int32} {b : Nat} (hb : c = nI b) (lb : b < 15) {d : Nat} (hd : 2 ≤ d) : zCon G fX3_lives d 0 0 [.ref (A 0), .int p, .int c] (mdl G A (zput P σ s) pa ke no f h0) (zA (.int (if zf_lives σ b then (1 : Int32) else 0)) (mdl G A (zput P σ s) pa ke no f h0)) nX := by
  refine zCon.of9 (L := [some (.ref (A 0)), some (.int p), some (.int c)]) (by simp [Value.category]) (Nat.le_of_ble_eq_true rfl) pX3 rfl rfl ?_
  refine z_aload_n dX3_lives_0 rfl ?_
  refine zm_get 0 dX3_lives_1 q1742 rfl rfl ?_
  refine z_iload_n dX3_lives_4 rfl ?_
  refine z_iload_n dX3_lives_5 rfl ?_
  refine z_cS mX3_crab (k_crab (d := d - 1) hp hb (by omega)) dX3_lives_6 q1819 (by omega) rfl (Nat.le_of_ble_eq_true rfl) rfl ?_
  refine z_iconst dX3_lives_9 (v := 3) rfl ?_
  refine z_iadd dX3_lives_10 ?_
  refine zm_ld hA hP (P := P) (212 + 5 * b + 3) (v := σ (212 + 5 * b + 3)) dX3_lives_11 (zn_to (zn_add rfl (zk 3)) (by omega)) (by omega) (rfl) ?_
  refine z_join 20 (.int (if (σ (212 + 5 * b + 3)) = 0 then (1 : Int32) else 0)) 1 ?_ (fun hJ => ?_)
  rotate_left
  ·
    refine z_if_ne (tgt := 19) dX3_lives_12 (by decide) (fun c_1 => ?_) (fun c_1 => ?_)
    ·
      refine z_iconst dX3_lives_19 (v := 0) rfl ?_
      exact z_jv (if_neg c_1) hJ
    ·
      refine z_iconst dX3_lives_15 (v := 1) rfl ?_
      refine z_goto (tgt := 20) dX3_lives_16 (by decide) ?_
      exact z_jv (if_pos c_1) hJ
  refine z_ret dX3_lives_20 rfl z_bool ⟨rfl, rfl⟩
/-- a number that is a place below n -/
def zix (x : Int32) (n : Nat) : Prop := x = nI x.toNatClampNeg ∧ x.toNatClampNeg < n
/-- what a row must hold for its places to be in range: NL limpets, NS shells, NC crabs -/
def zok (σ : Nat → Int32) (NL NS NC : Nat) : Prop := (NL ≤ 20 ∧ NS ≤ 26 ∧ NC ≤ 15) ∧ (σ 31 = nI NL ∧ σ 132 = nI NS ∧ σ 211 = nI NC) ∧ (∀ k, k < NL → zix (σ (32 + 5 * k)) 8) ∧ (∀ k, k < NC → zix (σ (212 + 5 * k + 1)) 8) ∧ (∀ k, k < NC → ¬ σ (212 + 5 * k + 2) = -1 → zix (σ (212 + 5 * k + 2)) NS) ∧ zix (σ 5) 8 ∧ zix (σ 4) 13 ∧ ¬ σ 4 = 0
section Zok
variable {σ : Nat → Int32} {NL NS NC k : Nat}
theorem zok.b (h : zok σ NL NS NC) : NL ≤ 20 ∧ NS ≤ 26 ∧ NC ≤ 15 := h.1
theorem zok.nl (h : zok σ NL NS NC) : σ 31 = nI NL := h.2.1.1
theorem zok.ns (h : zok σ NL NS NC) : σ 132 = nI NS := h.2.1.2.1
theorem zok.nc (h : zok σ NL NS NC) : σ 211 = nI NC := h.2.1.2.2
theorem zok.lp (h : zok σ NL NS NC) (hk : k < NL) : zix (σ (32 + 5 * k)) 8 := h.2.2.1 k hk
theorem zok.cp (h : zok σ NL NS NC) (hk : k < NC) : zix (σ (212 + 5 * k + 1)) 8 := h.2.2.2.1 k hk
theorem zok.cw (h : zok σ NL NS NC) (hk : k < NC) (hn : ¬ σ (212 + 5 * k + 2) = -1) : zix (σ (212 + 5 * k + 2)) NS := h.2.2.2.2.1 k hk hn
theorem zok.hp (h : zok σ NL NS NC) : zix (σ 5) 8 := h.2.2.2.2.2.1
theorem zok.pz (h : zok σ NL NS NC) : zix (σ 4) 13 := h.2.2.2.2.2.2.1
theorem zok.p0 (h : zok σ NL NS NC) : ¬ σ 4 = 0 := h.2.2.2.2.2.2.2
end Zok
