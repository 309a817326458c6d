/-! THE REFERENCE, part 7: throwing, what comes, settings -/
set_option maxRecDepth 100000
abbrev zf_throwsAt (x : Int32) : Prop := ¬ (x ≤ 0)
set_option maxHeartbeats 4000000 in
theorem k_throwsAt {G : zE} {A : Nat → Nat} {s pa ke no f : Nat → Int32} {h0 : zH} {x : Int32} {d : Nat} (hd : 1 ≤ d) : zCon G fX3_throwsAt d 0 0 [.ref (A 0), .int x] (mdl G A s pa ke no f h0) (zA (.int (if zf_throwsAt x then (1 : Int32) else 0)) (mdl G A s pa ke no (upd f 7 x) h0)) nX := by
  refine zCon.of9 (L := [some (.ref (A 0)), some (.int x)]) (by simp [Value.category]) (Nat.le_of_ble_eq_true rfl) pX3 rfl rfl ?_
  refine z_aload_n dX3_throwsAt_0 rfl ?_
  refine z_iload_n dX3_throwsAt_1 rfl ?_
  refine zm_put 7 dX3_throwsAt_2 q1749 rfl rfl rfl rfl rfl ?_
  refine z_iload_n dX3_throwsAt_5 rfl ?_
  refine z_join 14 (.int (if ¬ (x ≤ 0) then (1 : Int32) else 0)) 1 ?_ (fun hJ => ?_)
  rotate_left
  ·
    refine z_if_le (tgt := 13) dX3_throwsAt_6 (by decide) (fun c_1 => ?_) (fun c_1 => ?_)
    ·
      refine z_iconst dX3_throwsAt_13 (v := 0) rfl ?_
      exact z_jv (if_neg (fun z => z c_1)) hJ
    ·
      refine z_iconst dX3_throwsAt_9 (v := 1) rfl ?_
      refine z_goto (tgt := 14) dX3_throwsAt_10 (by decide) ?_
      exact z_jv (if_pos c_1) hJ
  refine z_ret dX3_throwsAt_14 rfl z_bool ⟨rfl, rfl⟩
theorem zok.c15 {σ : Nat → Int32} {NL NS NC : Nat} (h : zok σ NL NS NC) (hn : ¬ σ 211 = 15) : NC < 15 := by
  have h1 := h.nc
  have h2 := h.b
  rcases Nat.lt_or_ge NC 15 with q | q
  · exact q
  · exact absurd (by rw [h1, show NC = 15 by omega]; rfl) hn
def zf_comesLimpet (σ : Nat → Int32) (NL : Nat) (pool : Int32) : Int32 := if (σ 31) = 20 then (0 : Int32) else (1 : Int32)
def zr_comesLimpet (σ : Nat → Int32) (NL : Nat) (pool : Int32) : Nat → Int32 := if (σ 31) = 20 then σ else (upd (upd (upd (upd (upd (upd σ (32 + 5 * NL) pool) (32 + 5 * NL + 1) 12) (32 + 5 * NL + 2) 10) (32 + 5 * NL + 3) 0) (32 + 5 * NL + 4) 0) 31 ((σ 31) + 1))
set_option maxHeartbeats 4000000 in
theorem k_comesLimpet {G : zE} {A : Nat → Nat} (hA : zinj A 5) {P : Nat} (hP : P ≤ 287) {σ s pa ke no f : Nat → Int32} {h0 : zH} {p : Int32} (hp : p = nI P) {NL NS NC : Nat} (hok : zok σ NL NS NC) {pool : Int32} {d : Nat} (hd : 2 ≤ d) : zCon G fX3_comesLimpet d 0 0 [.ref (A 0), .int p, .int pool] (mdl G A (zput P σ s) pa ke no f h0) (zA (.int (zf_comesLimpet σ NL pool)) (mdl G A (zput P (zr_comesLimpet σ NL pool) s) pa ke no f h0)) nX := by
  refine zCon.of9 (L := [some (.ref (A 0)), some (.int p), some (.int pool), none]) (by simp [Value.category]) (Nat.le_of_ble_eq_true rfl) pX3 rfl rfl ?_
  obtain ⟨bL, bS, bC⟩ := hok.b
  refine z_aload_n dX3_comesLimpet_0 rfl ?_
  refine zm_get 0 dX3_comesLimpet_1 q1742 rfl rfl ?_
  refine z_iload_n dX3_comesLimpet_4 rfl ?_
  refine z_bipush dX3_comesLimpet_5 (v := 31) rfl ?_
  refine z_iadd dX3_comesLimpet_7 ?_
  refine zm_ld hA hP (P := P) (31) (v := σ 31) dX3_comesLimpet_8 (zn_to (zn_add hp (zk 31)) (by omega)) (by omega) (rfl) ?_
  refine z_bipush dX3_comesLimpet_9 (v := 20) rfl ?_
  refine z_icmp_ne (tgt := 16) dX3_comesLimpet_11 (by decide) (fun c_1 => ?_) (fun c_1 => ?_)
  ·
    refine z_iload_n dX3_comesLimpet_16 rfl ?_
    refine z_aload_n dX3_comesLimpet_17 rfl ?_
    refine zm_get 0 dX3_comesLimpet_18 q1742 rfl rfl ?_
    refine z_iload_n dX3_comesLimpet_21 rfl ?_
    refine z_bipush dX3_comesLimpet_22 (v := 31) rfl ?_
    refine z_iadd dX3_comesLimpet_24 ?_
    refine zm_ld hA hP (P := P) (31) (v := σ 31) dX3_comesLimpet_25 (zn_to (zn_add hp (zk 31)) (by omega)) (by omega) (rfl) ?_
    refine z_cS mX3_limpet (k_limpet (d := d - 1) hp hok.nl (by omega)) dX3_comesLimpet_26 q1808 (by omega) rfl (Nat.le_of_ble_eq_true rfl) rfl ?_
    refine z_istore_n dX3_comesLimpet_29 (by decide) ?_
    refine z_aload_n dX3_comesLimpet_30 rfl ?_
    refine zm_get 0 dX3_comesLimpet_31 q1742 rfl rfl ?_
    refine z_iload_n dX3_comesLimpet_34 rfl ?_
    refine z_iload_n dX3_comesLimpet_35 rfl ?_
    refine zm_st hA hP (P := P) (32 + 5 * NL) dX3_comesLimpet_36 (zn_to (rfl) (by omega)) (by omega) ?_
    refine z_aload_n dX3_comesLimpet_37 rfl ?_
    refine zm_get 0 dX3_comesLimpet_38 q1742 rfl rfl ?_
    refine z_iload_n dX3_comesLimpet_41 rfl ?_
    refine z_iconst dX3_comesLimpet_42 (v := 1) rfl ?_
    refine z_iadd dX3_comesLimpet_43 ?_
    refine z_bipush dX3_comesLimpet_44 (v := 12) rfl ?_
    refine zm_st hA hP (P := P) (32 + 5 * NL + 1) dX3_comesLimpet_46 (zn_to (zn_add rfl (zk 1)) (by omega)) (by omega) ?_
    refine z_aload_n dX3_comesLimpet_47 rfl ?_
    refine zm_get 0 dX3_comesLimpet_48 q1742 rfl rfl ?_
    refine z_iload_n dX3_comesLimpet_51 rfl ?_
    refine z_iconst dX3_comesLimpet_52 (v := 2) rfl ?_
    refine z_iadd dX3_comesLimpet_53 ?_
    refine z_bipush dX3_comesLimpet_54 (v := 10) rfl ?_
    refine zm_st hA hP (P := P) (32 + 5 * NL + 2) dX3_comesLimpet_56 (zn_to (zn_add rfl (zk 2)) (by omega)) (by omega) ?_
    refine z_aload_n dX3_comesLimpet_57 rfl ?_
    refine zm_get 0 dX3_comesLimpet_58 q1742 rfl rfl ?_
    refine z_iload_n dX3_comesLimpet_61 rfl ?_
    refine z_iconst dX3_comesLimpet_62 (v := 3) rfl ?_
    refine z_iadd dX3_comesLimpet_63 ?_
    refine z_iconst dX3_comesLimpet_64 (v := 0) rfl ?_
    refine zm_st hA hP (P := P) (32 + 5 * NL + 3) dX3_comesLimpet_65 (zn_to (zn_add rfl (zk 3)) (by omega)) (by omega) ?_
    refine z_aload_n dX3_comesLimpet_66 rfl ?_
    refine zm_get 0 dX3_comesLimpet_67 q1742 rfl rfl ?_
    refine z_iload_n dX3_comesLimpet_70 rfl ?_
    refine z_iconst dX3_comesLimpet_71 (v := 4) rfl ?_
    refine z_iadd dX3_comesLimpet_72 ?_
    refine z_iconst dX3_comesLimpet_73 (v := 0) rfl ?_
    refine zm_st hA hP (P := P) (32 + 5 * NL + 4) dX3_comesLimpet_74 (zn_to (zn_add rfl (zk 4)) (by omega)) (by omega) ?_
    refine z_aload_n dX3_comesLimpet_75 rfl ?_
    refine zm_get 0 dX3_comesLimpet_76 q1742 rfl rfl ?_
    refine z_iload_n dX3_comesLimpet_79 rfl ?_
    refine z_bipush dX3_comesLimpet_80 (v := 31) rfl ?_
    refine z_iadd dX3_comesLimpet_82 ?_
    refine z_dup2 dX3_comesLimpet_83 rfl rfl ?_
    refine zm_ld hA hP (P := P) (31) (v := σ 31) dX3_comesLimpet_84 (zn_to (zn_add hp (zk 31)) (by omega)) (by omega) ((pk_un (by omega)).trans ((pk_un (by omega)).trans ((pk_un (by omega)).trans ((pk_un (by omega)).trans ((pk_un (by omega)).trans (rfl)))))) ?_
    refine z_iconst dX3_comesLimpet_85 (v := 1) rfl ?_
    refine z_iadd dX3_comesLimpet_86 ?_
    refine zm_st hA hP (P := P) (31) dX3_comesLimpet_87 (zn_to (zn_add hp (zk 31)) (by omega)) (by omega) ?_
    refine z_iconst dX3_comesLimpet_88 (v := 1) rfl ?_
    refine z_ret dX3_comesLimpet_89 rfl rfl ⟨by simp only [zf_comesLimpet, if_neg c_1], by simp only [zr_comesLimpet, if_neg c_1]⟩
  ·
    refine z_iconst dX3_comesLimpet_14 (v := 0) rfl ?_
    refine z_ret dX3_comesLimpet_15 rfl rfl ⟨by simp only [zf_comesLimpet, if_pos c_1], by simp only [zr_comesLimpet, if_pos c_1]⟩
def zf_comesCrab (σ : Nat → Int32) (NC : Nat) (pool size : Int32) : Int32 := if (σ 211) = 15 then (0 : Int32) else (1 : Int32)
def zr_comesCrab (σ : Nat → Int32) (NC : Nat) (pool size : Int32) : Nat → Int32 := if (σ 211) = 15 then σ else (upd (upd (upd (upd (upd (upd σ (212 + 5 * NC) size) (212 + 5 * NC + 1) pool) (212 + 5 * NC + 2) (-1)) (212 + 5 * NC + 3) 0) (212 + 5 * NC + 4) 0) 211 ((σ 211) + 1))
set_option maxHeartbeats 4000000 in
theorem k_comesCrab {G : zE} {A : Nat → Nat} (hA : zinj A 5) {P : Nat} (hP : P ≤ 287) {σ s pa ke no f : Nat → Int32} {h0 : zH} {p : Int32} (hp : p = nI P) {NL NS NC : Nat} (hok : zok σ NL NS NC) {pool size : Int32} {d : Nat} (hd : 2 ≤ d) : zCon G fX3_comesCrab d 0 0 [.ref (A 0), .int p, .int pool, .int size] (mdl G A (zput P σ s) pa ke no f h0) (zA (.int (zf_comesCrab σ NC pool size)) (mdl G A (zput P (zr_comesCrab σ NC pool size) s) pa ke no f h0)) nX := by
  refine zCon.of9 (L := [some (.ref (A 0)), some (.int p), some (.int pool), some (.int size), none]) (by simp [Value.category]) (Nat.le_of_ble_eq_true rfl) pX3 rfl rfl ?_
  obtain ⟨bL, bS, bC⟩ := hok.b
  refine z_aload_n dX3_comesCrab_0 rfl ?_
  refine zm_get 0 dX3_comesCrab_1 q1742 rfl rfl ?_
  refine z_iload_n dX3_comesCrab_4 rfl ?_
  refine z_sipush dX3_comesCrab_5 (v := 211) rfl ?_
  refine z_iadd dX3_comesCrab_8 ?_
  refine zm_ld hA hP (P := P) (211) (v := σ 211) dX3_comesCrab_9 (zn_to (zn_add hp (zk 211)) (by omega)) (by omega) (rfl) ?_
  refine z_bipush dX3_comesCrab_10 (v := 15) rfl ?_
  refine z_icmp_ne (tgt := 17) dX3_comesCrab_12 (by decide) (fun c_1 => ?_) (fun c_1 => ?_)
  ·
    refine z_iload_n dX3_comesCrab_17 rfl ?_
    refine z_aload_n dX3_comesCrab_18 rfl ?_
    refine zm_get 0 dX3_comesCrab_19 q1742 rfl rfl ?_
    refine z_iload_n dX3_comesCrab_22 rfl ?_
    refine z_sipush dX3_comesCrab_23 (v := 211) rfl ?_
    refine z_iadd dX3_comesCrab_26 ?_
    refine zm_ld hA hP (P := P) (211) (v := σ 211) dX3_comesCrab_27 (zn_to (zn_add hp (zk 211)) (by omega)) (by omega) (rfl) ?_
    have lb_2 := zok.c15 hok c_1
    refine z_cS mX3_crab (k_crab (d := d - 1) hp hok.nc (by omega)) dX3_comesCrab_28 q1819 (by omega) rfl (Nat.le_of_ble_eq_true rfl) rfl ?_
    refine z_istore dX3_comesCrab_31 (by decide) ?_
    refine z_aload_n dX3_comesCrab_33 rfl ?_
    refine zm_get 0 dX3_comesCrab_34 q1742 rfl rfl ?_
    refine z_iload dX3_comesCrab_37 rfl ?_
    refine z_iload_n dX3_comesCrab_39 rfl ?_
    refine zm_st hA hP (P := P) (212 + 5 * NC) dX3_comesCrab_40 (zn_to (rfl) (by omega)) (by omega) ?_
    refine z_aload_n dX3_comesCrab_41 rfl ?_
    refine zm_get 0 dX3_comesCrab_42 q1742 rfl rfl ?_
    refine z_iload dX3_comesCrab_45 rfl ?_
    refine z_iconst dX3_comesCrab_47 (v := 1) rfl ?_
    refine z_iadd dX3_comesCrab_48 ?_
    refine z_iload_n dX3_comesCrab_49 rfl ?_
    refine zm_st hA hP (P := P) (212 + 5 * NC + 1) dX3_comesCrab_50 (zn_to (zn_add rfl (zk 1)) (by omega)) (by omega) ?_
    refine z_aload_n dX3_comesCrab_51 rfl ?_
    refine zm_get 0 dX3_comesCrab_52 q1742 rfl rfl ?_
    refine z_iload dX3_comesCrab_55 rfl ?_
    refine z_iconst dX3_comesCrab_57 (v := 2) rfl ?_
    refine z_iadd dX3_comesCrab_58 ?_
    refine z_iconst dX3_comesCrab_59 (v := (-1)) rfl ?_
    refine zm_st hA hP (P := P) (212 + 5 * NC + 2) dX3_comesCrab_60 (zn_to (zn_add rfl (zk 2)) (by omega)) (by omega) ?_
    refine z_aload_n dX3_comesCrab_61 rfl ?_
    refine zm_get 0 dX3_comesCrab_62 q1742 rfl rfl ?_
    refine z_iload dX3_comesCrab_65 rfl ?_
    refine z_iconst dX3_comesCrab_67 (v := 3) rfl ?_
    refine z_iadd dX3_comesCrab_68 ?_
    refine z_iconst dX3_comesCrab_69 (v := 0) rfl ?_
    refine zm_st hA hP (P := P) (212 + 5 * NC + 3) dX3_comesCrab_70 (zn_to (zn_add rfl (zk 3)) (by omega)) (by omega) ?_
    refine z_aload_n dX3_comesCrab_71 rfl ?_
    refine zm_get 0 dX3_comesCrab_72 q1742 rfl rfl ?_
    refine z_iload dX3_comesCrab_75 rfl ?_
    refine z_iconst dX3_comesCrab_77 (v := 4) rfl ?_
    refine z_iadd dX3_comesCrab_78 ?_
    refine z_iconst dX3_comesCrab_79 (v := 0) rfl ?_
    refine zm_st hA hP (P := P) (212 + 5 * NC + 4) dX3_comesCrab_80 (zn_to (zn_add rfl (zk 4)) (by omega)) (by omega) ?_
    refine z_aload_n dX3_comesCrab_81 rfl ?_
    refine zm_get 0 dX3_comesCrab_82 q1742 rfl rfl ?_
    refine z_iload_n dX3_comesCrab_85 rfl ?_
    refine z_sipush dX3_comesCrab_86 (v := 211) rfl ?_
    refine z_iadd dX3_comesCrab_89 ?_
    refine z_dup2 dX3_comesCrab_90 rfl rfl ?_
    refine zm_ld hA hP (P := P) (211) (v := σ 211) dX3_comesCrab_91 (zn_to (zn_add hp (zk 211)) (by omega)) (by omega) ((pk_un (by omega)).trans ((pk_un (by omega)).trans ((pk_un (by omega)).trans ((pk_un (by omega)).trans ((pk_un (by omega)).trans (rfl)))))) ?_
    refine z_iconst dX3_comesCrab_92 (v := 1) rfl ?_
    refine z_iadd dX3_comesCrab_93 ?_
    refine zm_st hA hP (P := P) (211) dX3_comesCrab_94 (zn_to (zn_add hp (zk 211)) (by omega)) (by omega) ?_
    refine z_iconst dX3_comesCrab_95 (v := 1) rfl ?_
    refine z_ret dX3_comesCrab_96 rfl rfl ⟨by simp only [zf_comesCrab, if_neg c_1], by simp only [zr_comesCrab, if_neg c_1]⟩
  ·
    refine z_iconst dX3_comesCrab_15 (v := 0) rfl ?_
    refine z_ret dX3_comesCrab_16 rfl rfl ⟨by simp only [zf_comesCrab, if_pos c_1], by simp only [zr_comesCrab, if_pos c_1]⟩
def zr_laysShell (σ : Nat → Int32) (NS : Nat) (pool size : Int32) : Nat → Int32 := upd (upd (upd (upd σ (133 + 3 * NS) size) (133 + 3 * NS + 1) pool) (133 + 3 * NS + 2) (-1)) 132 ((σ 132) + 1)
set_option maxHeartbeats 4000000 in
theorem k_laysShell {G : zE} {A : Nat → Nat} (hA : zinj A 5) {P : Nat} (hP : P ≤ 287) {σ s pa ke no f : Nat → Int32} {h0 : zH} {p : Int32} (hp : p = nI P) {NL NS NC : Nat} (hok : zok σ NL NS NC) {pool size : Int32} {d : Nat} (hd : 2 ≤ d) : zCon G fX3_laysShell d 0 0 [.ref (A 0), .int p, .int pool, .int size] (mdl G A (zput P σ s) pa ke no f h0) (zAv (mdl G A (zput P (zr_laysShell σ NS pool size) s) pa ke no f h0)) nX := by
  refine zCon.of9 (L := [some (.ref (A 0)), some (.int p), some (.int pool), some (.int size), none]) (by simp [Value.category]) (Nat.le_of_ble_eq_true rfl) pX3 rfl rfl ?_
  obtain ⟨bL, bS, bC⟩ := hok.b
  refine z_iload_n dX3_laysShell_0 rfl ?_
  refine z_aload_n dX3_laysShell_1 rfl ?_
  refine zm_get 0 dX3_laysShell_2 q1742 rfl rfl ?_
  refine z_iload_n dX3_laysShell_5 rfl ?_
  refine z_sipush dX3_laysShell_6 (v := 132) rfl ?_
  refine z_iadd dX3_laysShell_9 ?_
  refine zm_ld hA hP (P := P) (132) (v := σ 132) dX3_laysShell_10 (zn_to (zn_add hp (zk 132)) (by omega)) (by omega) (rfl) ?_
  refine z_cS mX3_shell (k_shell (d := d - 1) hp hok.ns (by omega)) dX3_laysShell_11 q1834 (by omega) rfl (Nat.le_of_ble_eq_true rfl) rfl ?_
  refine z_istore dX3_laysShell_14 (by decide) ?_
  refine z_aload_n dX3_laysShell_16 rfl ?_
  refine zm_get 0 dX3_laysShell_17 q1742 rfl rfl ?_
  refine z_iload dX3_laysShell_20 rfl ?_
  refine z_iload_n dX3_laysShell_22 rfl ?_
  refine zm_st hA hP (P := P) (133 + 3 * NS) dX3_laysShell_23 (zn_to (rfl) (by omega)) (by omega) ?_
  refine z_aload_n dX3_laysShell_24 rfl ?_
  refine zm_get 0 dX3_laysShell_25 q1742 rfl rfl ?_
  refine z_iload dX3_laysShell_28 rfl ?_
  refine z_iconst dX3_laysShell_30 (v := 1) rfl ?_
  refine z_iadd dX3_laysShell_31 ?_
  refine z_iload_n dX3_laysShell_32 rfl ?_
  refine zm_st hA hP (P := P) (133 + 3 * NS + 1) dX3_laysShell_33 (zn_to (zn_add rfl (zk 1)) (by omega)) (by omega) ?_
  refine z_aload_n dX3_laysShell_34 rfl ?_
  refine zm_get 0 dX3_laysShell_35 q1742 rfl rfl ?_
  refine z_iload dX3_laysShell_38 rfl ?_
  refine z_iconst dX3_laysShell_40 (v := 2) rfl ?_
  refine z_iadd dX3_laysShell_41 ?_
  refine z_iconst dX3_laysShell_42 (v := (-1)) rfl ?_
  refine zm_st hA hP (P := P) (133 + 3 * NS + 2) dX3_laysShell_43 (zn_to (zn_add rfl (zk 2)) (by omega)) (by omega) ?_
  refine z_aload_n dX3_laysShell_44 rfl ?_
  refine zm_get 0 dX3_laysShell_45 q1742 rfl rfl ?_
  refine z_iload_n dX3_laysShell_48 rfl ?_
  refine z_sipush dX3_laysShell_49 (v := 132) rfl ?_
  refine z_iadd dX3_laysShell_52 ?_
  refine z_dup2 dX3_laysShell_53 rfl rfl ?_
  refine zm_ld hA hP (P := P) (132) (v := σ 132) dX3_laysShell_54 (zn_to (zn_add hp (zk 132)) (by omega)) (by omega) ((pk_un (by omega)).trans ((pk_un (by omega)).trans ((pk_un (by omega)).trans (rfl)))) ?_
  refine z_iconst dX3_laysShell_55 (v := 1) rfl ?_
  refine z_iadd dX3_laysShell_56 ?_
  refine zm_st hA hP (P := P) (132) dX3_laysShell_57 (zn_to (zn_add hp (zk 132)) (by omega)) (by omega) ?_
  refine z_vret dX3_laysShell_58 rfl ⟨rfl, rfl⟩
def zr_comesShell_34 (σ : Nat → Int32) (NS : Nat) (pool size : Int32) : Nat → Int32 := if ¬ (25 ≤ (σ 132)) then (zr_laysShell σ NS pool size) else σ
abbrev zf_comesShell (σ : Nat → Int32) (NS : Nat) (pool size : Int32) : Prop := ¬ (25 ≤ (σ 132))
def zr_comesShell (σ : Nat → Int32) (NS : Nat) (pool size : Int32) : Nat → Int32 := zr_comesShell_34 σ NS pool size
set_option maxHeartbeats 4000000 in
theorem k_comesShell {G : zE} {A : Nat → Nat} (hA : zinj A 5) {P : Nat} (hP : P ≤ 287) {σ s pa ke no f : Nat → Int32} {h0 : zH} {p : Int32} (hp : p = nI P) {NL NS NC : Nat} (hok : zok σ NL NS NC) {pool size : Int32} {d : Nat} (hd : 3 ≤ d) : zCon G fX3_comesShell d 0 0 [.ref (A 0), .int p, .int pool, .int size] (mdl G A (zput P σ s) pa ke no f h0) (zA (.int (if zf_comesShell σ NS pool size then (1 : Int32) else 0)) (mdl G A (zput P (zr_comesShell σ NS pool size) s) pa ke no f h0)) nX := by
  refine zCon.of9 (L := [some (.ref (A 0)), some (.int p), some (.int pool), some (.int size), none]) (by simp [Value.category]) (Nat.le_of_ble_eq_true rfl) pX3 rfl rfl ?_
  obtain ⟨bL, bS, bC⟩ := hok.b
  refine z_aload_n dX3_comesShell_0 rfl ?_
  refine zm_get 0 dX3_comesShell_1 q1742 rfl rfl ?_
  refine z_iload_n dX3_comesShell_4 rfl ?_
  refine z_sipush dX3_comesShell_5 (v := 132) rfl ?_
  refine z_iadd dX3_comesShell_8 ?_
  refine zm_ld hA hP (P := P) (132) (v := σ 132) dX3_comesShell_9 (zn_to (zn_add hp (zk 132)) (by omega)) (by omega) (rfl) ?_
  refine z_bipush dX3_comesShell_10 (v := 25) rfl ?_
  refine z_join 20 (.int (if ¬ (25 ≤ (σ 132)) then (1 : Int32) else 0)) 2 ?_ (fun hJ => ?_)
  rotate_left
  ·
    refine z_icmp_ge (tgt := 19) dX3_comesShell_12 (by decide) (fun c_1 => ?_) (fun c_1 => ?_)
    ·
      refine z_iconst dX3_comesShell_19 (v := 0) rfl ?_
      exact z_jv (if_neg (fun z => z c_1)) hJ
    ·
      refine z_iconst dX3_comesShell_15 (v := 1) rfl ?_
      refine z_goto (tgt := 20) dX3_comesShell_16 (by decide) ?_
      exact z_jv (if_pos c_1) hJ
  refine z_istore dX3_comesShell_20 (by decide) ?_
  refine z_iload dX3_comesShell_22 rfl ?_
  refine z_joinH 34 [some (.ref (A 0)), some (.int p), some (.int pool), some (.int size), some (.int (if ¬ (25 ≤ (σ 132)) then (1 : Int32) else 0))] (mdl G A (zput P (zr_comesShell_34 σ NS pool size) s) pa ke no f h0) 1 ?_ (fun hJ => ?_)
  rotate_left
  ·
    refine z_ifB_eq (tgt := 34) dX3_comesShell_24 (by decide) (fun c_2 => ?_) (fun c_2 => ?_)
    ·
      exact z_jH (by first | rfl | (simp only [if_neg c_2] <;> rfl)) (by simp only [zr_comesShell_34, if_neg c_2]) hJ
    ·
      refine z_aload_n dX3_comesShell_27 rfl ?_
      refine z_iload_n dX3_comesShell_28 rfl ?_
      refine z_iload_n dX3_comesShell_29 rfl ?_
      refine z_iload_n dX3_comesShell_30 rfl ?_
      refine z_cVv zc7 mX3_laysShell (k_laysShell (d := d - 1) hA (P := P) hP hp hok (by omega)) dX3_comesShell_31 q1830 (by omega) rfl (Nat.le_of_ble_eq_true rfl) rfl mdl_0 rfl ?_
      exact z_jH (by first | rfl | (simp only [if_pos c_2] <;> rfl)) (by simp only [zr_comesShell_34, if_pos c_2]) hJ
  refine z_iload dX3_comesShell_34 rfl ?_
  refine z_ret dX3_comesShell_36 rfl z_bool ⟨rfl, rfl⟩
theorem zth {c : Prop} [Decidable c] {x y : Int32} (h : (if c then x else y) ≤ 0) (hy : ¬ y ≤ 0) : c ∧ x ≤ 0 := by
  by_cases hc : c
  · rw [if_pos hc] at h; exact ⟨hc, h⟩
  · rw [if_neg hc] at h; exact absurd h hy
theorem zth2 {c : Prop} [Decidable c] {x y : Int32} (h : (if c then x else y) ≤ 0) (hx : ¬ x ≤ 0) : ¬ c ∧ y ≤ 0 := by
  by_cases hc : c
  · rw [if_pos hc] at h; exact absurd h hx
  · rw [if_neg hc] at h; exact ⟨hc, h⟩
theorem zin_ix {v hi : Int32} {n : Nat} (hn : n < 2 ^ 30) (hh : hi = nI n) {lo : Int32} (hlo : 0 ≤ lo) (h : zf_in v lo hi) : zix v (n + 1) := by
  obtain ⟨h1, h2⟩ := h
  have h3 : ¬ v < 0 := fun q => h1 (Int32.lt_of_lt_of_le q hlo)
  obtain ⟨j, hj, rfl⟩ := nI_of h3
  refine zix_nI ?_ (by omega)
  rw [hh] at h2
  have := zn_nlt h2 (by omega) hj
  omega
theorem zin_ix1 {v : Int32} {n : Nat} (hn : n < 2 ^ 30) (h : zf_in v 0 (nI n - 1)) : zix v n := by
  cases n with
  | zero => obtain ⟨h1, h2⟩ := h; exact absurd (Int32.lt_of_lt_of_le (show nI 0 - 1 < 0 by decide) (Int32.not_lt.mp h1)) h2
  | succ n =>
    rw [nI_pred] at h
    exact zin_ix (n := n) (by omega) rfl (Int32.le_refl 0) h
theorem zin_ixc {v x : Int32} {n : Nat} (hn : n < 2 ^ 30) (hx : x = nI n) (h : zf_in v 0 (x - 1)) : zix v n := by
  subst hx
  exact zin_ix1 hn h
abbrev zf_isLimpet (σ : Nat → Int32) (v : Int32) : Prop := zf_in v 0 ((σ 31) - 1)
set_option maxHeartbeats 4000000 in
theorem k_isLimpet {G : zE} {A : Nat → Nat} (hA : zinj A 5) {σ s pa ke no f : Nat → Int32} {h0 : zH} {NL NS NC : Nat} (hok : zok σ NL NS NC) {v : Int32} {d : Nat} (hd : 2 ≤ d) : zCon G fX3_isLimpet d 0 0 [.ref (A 0), .int v] (mdl G A (zput 0 σ s) pa ke no f h0) (zA (.int (if zf_isLimpet σ v then (1 : Int32) else 0)) (mdl G A (zput 0 σ s) pa ke no f h0)) nX := by
  refine zCon.of9 (L := [some (.ref (A 0)), some (.int v)]) (by simp [Value.category]) (Nat.le_of_ble_eq_true rfl) pX3 rfl rfl ?_
  refine z_iload_n dX3_isLimpet_0 rfl ?_
  refine z_iconst dX3_isLimpet_1 (v := 0) rfl ?_
  refine z_aload_n dX3_isLimpet_2 rfl ?_
  refine zm_get 0 dX3_isLimpet_3 q1742 rfl rfl ?_
  refine z_bipush dX3_isLimpet_6 (v := 31) rfl ?_
  refine zm_ld hA (by decide) (P := 0) (31) (v := σ 31) dX3_isLimpet_8 (zn_to (zk 31) (by omega)) (by omega) (rfl) ?_
  refine z_iconst dX3_isLimpet_9 (v := 1) rfl ?_
  refine z_isub dX3_isLimpet_10 ?_
  refine z_cS mX3_in (k_in (d := d - 1) (by omega)) dX3_isLimpet_11 q1793 (by omega) rfl (Nat.le_of_ble_eq_true rfl) rfl ?_
  refine z_ret dX3_isLimpet_14 rfl z_bool ⟨rfl, rfl⟩
abbrev zf_isShell (σ : Nat → Int32) (v : Int32) : Prop := zf_in v 0 ((σ 132) - 1)
set_option maxHeartbeats 4000000 in
theorem k_isShell {G : zE} {A : Nat → Nat} (hA : zinj A 5) {σ s pa ke no f : Nat → Int32} {h0 : zH} {NL NS NC : Nat} (hok : zok σ NL NS NC) {v : Int32} {d : Nat} (hd : 2 ≤ d) : zCon G fX3_isShell d 0 0 [.ref (A 0), .int v] (mdl G A (zput 0 σ s) pa ke no f h0) (zA (.int (if zf_isShell σ v then (1 : Int32) else 0)) (mdl G A (zput 0 σ s) pa ke no f h0)) nX := by
  refine zCon.of9 (L := [some (.ref (A 0)), some (.int v)]) (by simp [Value.category]) (Nat.le_of_ble_eq_true rfl) pX3 rfl rfl ?_
  refine z_iload_n dX3_isShell_0 rfl ?_
  refine z_iconst dX3_isShell_1 (v := 0) rfl ?_
  refine z_aload_n dX3_isShell_2 rfl ?_
  refine zm_get 0 dX3_isShell_3 q1742 rfl rfl ?_
  refine z_sipush dX3_isShell_6 (v := 132) rfl ?_
  refine zm_ld hA (by decide) (P := 0) (132) (v := σ 132) dX3_isShell_9 (zn_to (zk 132) (by omega)) (by omega) (rfl) ?_
  refine z_iconst dX3_isShell_10 (v := 1) rfl ?_
  refine z_isub dX3_isShell_11 ?_
  refine z_cS mX3_in (k_in (d := d - 1) (by omega)) dX3_isShell_12 q1793 (by omega) rfl (Nat.le_of_ble_eq_true rfl) rfl ?_
  refine z_ret dX3_isShell_15 rfl z_bool ⟨rfl, rfl⟩
abbrev zf_isCrab (σ : Nat → Int32) (v : Int32) : Prop := zf_in v 0 ((σ 211) - 1)
set_option maxHeartbeats 4000000 in
theorem k_isCrab {G : zE} {A : Nat → Nat} (hA : zinj A 5) {σ s pa ke no f : Nat → Int32} {h0 : zH} {NL NS NC : Nat} (hok : zok σ NL NS NC) {v : Int32} {d : Nat} (hd : 2 ≤ d) : zCon G fX3_isCrab d 0 0 [.ref (A 0), .int v] (mdl G A (zput 0 σ s) pa ke no f h0) (zA (.int (if zf_isCrab σ v then (1 : Int32) else 0)) (mdl G A (zput 0 σ s) pa ke no f h0)) nX := by
  refine zCon.of9 (L := [some (.ref (A 0)), some (.int v)]) (by simp [Value.category]) (Nat.le_of_ble_eq_true rfl) pX3 rfl rfl ?_
  refine z_iload_n dX3_isCrab_0 rfl ?_
  refine z_iconst dX3_isCrab_1 (v := 0) rfl ?_
  refine z_aload_n dX3_isCrab_2 rfl ?_
  refine zm_get 0 dX3_isCrab_3 q1742 rfl rfl ?_
  refine z_sipush dX3_isCrab_6 (v := 211) rfl ?_
  refine zm_ld hA (by decide) (P := 0) (211) (v := σ 211) dX3_isCrab_9 (zn_to (zk 211) (by omega)) (by omega) (rfl) ?_
  refine z_iconst dX3_isCrab_10 (v := 1) rfl ?_
  refine z_isub dX3_isCrab_11 ?_
  refine z_cS mX3_in (k_in (d := d - 1) (by omega)) dX3_isCrab_12 q1793 (by omega) rfl (Nat.le_of_ble_eq_true rfl) rfl ?_
  refine z_ret dX3_isCrab_15 rfl z_bool ⟨rfl, rfl⟩
def zf_sets (σ : Nat → Int32) (j : Nat) (Kn : Nat) (v : Int32) : Int32 := σ j
set_option maxHeartbeats 4000000 in
theorem k_sets {G : zE} {A : Nat → Nat} (hA : zinj A 5) {σ s pa ke no f : Nat → Int32} {h0 : zH} {NL NS NC : Nat} (hok : zok σ NL NS NC) {Kn : Nat} (hKn : f 2 = nI Kn) (lKn : Kn ≤ 4) {i v : Int32} {j : Nat} (hi : i = nI j) (lj : j < 287) {d : Nat} (hd : 2 ≤ d) : zCon G fX3_sets d 0 0 [.ref (A 0), .int i, .int v] (mdl G A (zput 0 σ s) pa ke no f h0) (zA (.int (zf_sets σ j Kn v)) (mdl G A (zput 0 (upd σ j v) s) (zpa σ Kn pa) ke no (upd f 2 (nI (zkn Kn))) h0)) nX := by
  refine zCon.of9 (L := [some (.ref (A 0)), some (.int i), some (.int v), none]) (by simp [Value.category]) (Nat.le_of_ble_eq_true rfl) pX3 rfl rfl ?_
  refine z_aload_n dX3_sets_0 rfl ?_
  refine z_cVv zc7 mX3_records (k_records (d := d - 1) hA (Kn := Kn) (f := f) hKn lKn (by omega)) dX3_sets_1 q1800 (by omega) rfl (Nat.le_of_ble_eq_true rfl) rfl mdl_0 rfl ?_
  refine z_aload_n dX3_sets_4 rfl ?_
  refine zm_get 0 dX3_sets_5 q1742 rfl rfl ?_
  refine z_iload_n dX3_sets_8 rfl ?_
  refine zm_ld hA (by decide) (P := 0) (j) (v := σ j) dX3_sets_9 (zn_to (hi) (by omega)) (by omega) (rfl) ?_
  refine z_istore_n dX3_sets_10 (by decide) ?_
  refine z_aload_n dX3_sets_11 rfl ?_
  refine zm_get 0 dX3_sets_12 q1742 rfl rfl ?_
  refine z_iload_n dX3_sets_15 rfl ?_
  refine z_iload_n dX3_sets_16 rfl ?_
  refine zm_st hA (by decide) (P := 0) (j) dX3_sets_17 (zn_to (hi) (by omega)) (by omega) ?_
  refine z_iload_n dX3_sets_18 rfl ?_
  refine z_ret dX3_sets_19 rfl rfl ⟨rfl, rfl⟩
def zf_addLimpet (σ : Nat → Int32) (NL Kn : Nat) (pool : Int32) : Int32 := if ¬ ((if zf_isPool pool then (if (σ 31) = 20 then (2 : Int32) else (0 : Int32)) else (1 : Int32)) ≤ 0) then (0 : Int32) else (if (zf_comesLimpet σ NL pool) = 0 then (0 : Int32) else ((zr_comesLimpet σ NL pool 31) - 1))
def zh_addLimpet (G : zE) (A : Nat → Nat) (σ : Nat → Int32) (NL Kn : Nat) (pool : Int32) (s pa ke no f : Nat → Int32) (h0 : zH) : zH := if ¬ ((if zf_isPool pool then (if (σ 31) = 20 then (2 : Int32) else (0 : Int32)) else (1 : Int32)) ≤ 0) then (mdl G A (zput 0 σ s) pa ke no (upd f 7 (if zf_isPool pool then (if (σ 31) = 20 then (2 : Int32) else (0 : Int32)) else (1 : Int32))) h0) else (mdl G A (zput 0 (zr_comesLimpet σ NL pool) s) (zpa σ Kn pa) ke no (upd (upd f 7 (if zf_isPool pool then (if (σ 31) = 20 then (2 : Int32) else (0 : Int32)) else (1 : Int32))) 2 (nI (zkn Kn))) h0)
set_option maxHeartbeats 4000000 in
theorem k_addLimpet {G : zE} {A : Nat → Nat} (hA : zinj A 5) {σ s pa ke no f : Nat → Int32} {h0 : zH} {NL NS NC : Nat} (hok : zok σ NL NS NC) {Kn : Nat} (hKn : f 2 = nI Kn) (lKn : Kn ≤ 4) {pool : Int32} {d : Nat} (hd : 3 ≤ d) : zCon G fX3_addLimpet d 0 0 [.ref (A 0), .int pool] (mdl G A (zput 0 σ s) pa ke no f h0) (zA (.int (zf_addLimpet σ NL Kn pool)) (zh_addLimpet G A σ NL Kn pool s pa ke no f h0)) nX := by
  refine zCon.of9 (L := [some (.ref (A 0)), some (.int pool)]) (by simp [Value.category]) (Nat.le_of_ble_eq_true rfl) pX3 rfl rfl ?_
  obtain ⟨bL, bS, bC⟩ := hok.b
  refine z_aload_n dX3_addLimpet_0 rfl ?_
  refine z_iload_n dX3_addLimpet_1 rfl ?_
  refine z_cS mX3_isPool (k_isPool (d := d - 1) (by omega)) dX3_addLimpet_2 q1790 (by omega) rfl (Nat.le_of_ble_eq_true rfl) rfl ?_
  refine z_join 29 (.int (if zf_isPool pool then (if (σ 31) = 20 then (2 : Int32) else (0 : Int32)) else (1 : Int32))) 1 ?_ (fun hJ => ?_)
  rotate_left
  ·
    refine z_ifB_ne (tgt := 12) dX3_addLimpet_5 (by decide) (fun c_1 => ?_) (fun c_1 => ?_)
    ·
      refine z_aload_n dX3_addLimpet_12 rfl ?_
      refine zm_get 0 dX3_addLimpet_13 q1742 rfl rfl ?_
      refine z_bipush dX3_addLimpet_16 (v := 31) rfl ?_
      refine zm_ld hA (by decide) (P := 0) (31) (v := σ 31) dX3_addLimpet_18 (zn_to (zk 31) (by omega)) (by omega) (rfl) ?_
      refine z_bipush dX3_addLimpet_19 (v := 20) rfl ?_
      refine z_icmp_ne (tgt := 28) dX3_addLimpet_21 (by decide) (fun c_2 => ?_) (fun c_2 => ?_)
      ·
        refine z_iconst dX3_addLimpet_28 (v := 0) rfl ?_
        exact z_jv (by simp only [if_pos c_1, if_neg c_2] <;> rfl) hJ
      ·
        refine z_iconst dX3_addLimpet_24 (v := 2) rfl ?_
        refine z_goto (tgt := 29) dX3_addLimpet_25 (by decide) ?_
        exact z_jv (by simp only [if_pos c_1, if_pos c_2] <;> rfl) hJ
    ·
      refine z_iconst dX3_addLimpet_8 (v := 1) rfl ?_
      refine z_goto (tgt := 29) dX3_addLimpet_9 (by decide) ?_
      exact z_jv (by simp only [if_neg c_1] <;> rfl) hJ
  refine z_cV zc7 mX3_throwsAt (k_throwsAt (d := d - 1) (by omega)) dX3_addLimpet_29 q1796 (by omega) rfl (Nat.le_of_ble_eq_true rfl) rfl mdl_0 rfl ?_
  refine z_ifB_eq (tgt := 37) dX3_addLimpet_32 (by decide) (fun c_3 => ?_) (fun c_3 => ?_)
  ·
    refine z_aload_n dX3_addLimpet_37 rfl ?_
    refine z_cVv zc7 mX3_records (k_records (d := d - 1) hA (Kn := Kn) (f := upd f 7 (if zf_isPool pool then (if (σ 31) = 20 then (2 : Int32) else (0 : Int32)) else (1 : Int32))) ((upd_n (by decide)).trans hKn) lKn (by omega)) dX3_addLimpet_38 q1800 (by omega) rfl (Nat.le_of_ble_eq_true rfl) rfl mdl_0 rfl ?_
    refine z_aload_n dX3_addLimpet_41 rfl ?_
    refine z_iconst dX3_addLimpet_42 (v := 0) rfl ?_
    refine z_iload_n dX3_addLimpet_43 rfl ?_
    refine z_cV zc7 mX3_comesLimpet (k_comesLimpet (d := d - 1) hA (P := 0) (by decide) (zk 0) hok (by omega)) dX3_addLimpet_44 q1804 (by omega) rfl (Nat.le_of_ble_eq_true rfl) rfl mdl_0 rfl ?_
    refine z_join 63 (.int (if (zf_comesLimpet σ NL pool) = 0 then (0 : Int32) else ((zr_comesLimpet σ NL pool 31) - 1))) 1 ?_ (fun hJ => ?_)
    rotate_left
    ·
      refine z_if_eq (tgt := 62) dX3_addLimpet_47 (by decide) (fun c_4 => ?_) (fun c_4 => ?_)
      ·
        refine z_iconst dX3_addLimpet_62 (v := 0) rfl ?_
        exact z_jv (by simp only [if_pos c_4] <;> rfl) hJ
      ·
        refine z_aload_n dX3_addLimpet_50 rfl ?_
        refine zm_get 0 dX3_addLimpet_51 q1742 rfl rfl ?_
        refine z_bipush dX3_addLimpet_54 (v := 31) rfl ?_
        refine zm_ld hA (by decide) (P := 0) (31) (v := zr_comesLimpet σ NL pool 31) dX3_addLimpet_56 (zn_to (zk 31) (by omega)) (by omega) (rfl) ?_
        refine z_iconst dX3_addLimpet_57 (v := 1) rfl ?_
        refine z_isub dX3_addLimpet_58 ?_
        refine z_goto (tgt := 63) dX3_addLimpet_59 (by decide) ?_
        exact z_jv (by simp only [if_neg c_4] <;> rfl) hJ
    refine z_ret dX3_addLimpet_63 rfl rfl ⟨by simp only [zf_addLimpet, if_neg c_3], by simp only [zh_addLimpet, if_neg c_3]⟩
  ·
    refine z_iconst dX3_addLimpet_35 (v := 0) rfl ?_
    refine z_ret dX3_addLimpet_36 rfl rfl ⟨by simp only [zf_addLimpet, if_pos c_3], by simp only [zh_addLimpet, if_pos c_3]⟩
def zf_addCrab (σ : Nat → Int32) (NC Kn : Nat) (pool size : Int32) : Int32 := if ¬ ((if zf_isPool pool then (if zf_in size 1 20 then (if (σ 211) = 15 then (3 : Int32) else (0 : Int32)) else (2 : Int32)) else (1 : Int32)) ≤ 0) then (0 : Int32) else (if (zf_comesCrab σ NC pool size) = 0 then (0 : Int32) else ((zr_comesCrab σ NC pool size 211) - 1))
def zh_addCrab (G : zE) (A : Nat → Nat) (σ : Nat → Int32) (NC Kn : Nat) (pool size : Int32) (s pa ke no f : Nat → Int32) (h0 : zH) : zH := if ¬ ((if zf_isPool pool then (if zf_in size 1 20 then (if (σ 211) = 15 then (3 : Int32) else (0 : Int32)) else (2 : Int32)) else (1 : Int32)) ≤ 0) then (mdl G A (zput 0 σ s) pa ke no (upd f 7 (if zf_isPool pool then (if zf_in size 1 20 then (if (σ 211) = 15 then (3 : Int32) else (0 : Int32)) else (2 : Int32)) else (1 : Int32))) h0) else (mdl G A (zput 0 (zr_comesCrab σ NC pool size) s) (zpa σ Kn pa) ke no (upd (upd f 7 (if zf_isPool pool then (if zf_in size 1 20 then (if (σ 211) = 15 then (3 : Int32) else (0 : Int32)) else (2 : Int32)) else (1 : Int32))) 2 (nI (zkn Kn))) h0)
set_option maxHeartbeats 4000000 in
theorem k_addCrab {G : zE} {A : Nat → Nat} (hA : zinj A 5) {σ s pa ke no f : Nat → Int32} {h0 : zH} {NL NS NC : Nat} (hok : zok σ NL NS NC) {Kn : Nat} (hKn : f 2 = nI Kn) (lKn : Kn ≤ 4) {pool size : Int32} {d : Nat} (hd : 3 ≤ d) : zCon G fX3_addCrab d 0 0 [.ref (A 0), .int pool, .int size] (mdl G A (zput 0 σ s) pa ke no f h0) (zA (.int (zf_addCrab σ NC Kn pool size)) (zh_addCrab G A σ NC Kn pool size s pa ke no f h0)) nX := by
  refine zCon.of9 (L := [some (.ref (A 0)), some (.int pool), some (.int size)]) (by simp [Value.category]) (Nat.le_of_ble_eq_true rfl) pX3 rfl rfl ?_
  obtain ⟨bL, bS, bC⟩ := hok.b
  refine z_aload_n dX3_addCrab_0 rfl ?_
  refine z_iload_n dX3_addCrab_1 rfl ?_
  refine z_cS mX3_isPool (k_isPool (d := d - 1) (by omega)) dX3_addCrab_2 q1790 (by omega) rfl (Nat.le_of_ble_eq_true rfl) rfl ?_
  refine z_join 44 (.int (if zf_isPool pool then (if zf_in size 1 20 then (if (σ 211) = 15 then (3 : Int32) else (0 : Int32)) else (2 : Int32)) else (1 : Int32))) 1 ?_ (fun hJ => ?_)
  rotate_left
  ·
    refine z_ifB_ne (tgt := 12) dX3_addCrab_5 (by decide) (fun c_1 => ?_) (fun c_1 => ?_)
    ·
      refine z_iload_n dX3_addCrab_12 rfl ?_
      refine z_iconst dX3_addCrab_13 (v := 1) rfl ?_
      refine z_bipush dX3_addCrab_14 (v := 20) rfl ?_
      refine z_cS mX3_in (k_in (d := d - 1) (by omega)) dX3_addCrab_16 q1793 (by omega) rfl (Nat.le_of_ble_eq_true rfl) rfl ?_
      refine z_ifB_ne (tgt := 26) dX3_addCrab_19 (by decide) (fun c_2 => ?_) (fun c_2 => ?_)
      ·
        refine z_aload_n dX3_addCrab_26 rfl ?_
        refine zm_get 0 dX3_addCrab_27 q1742 rfl rfl ?_
        refine z_sipush dX3_addCrab_30 (v := 211) rfl ?_
        refine zm_ld hA (by decide) (P := 0) (211) (v := σ 211) dX3_addCrab_33 (zn_to (zk 211) (by omega)) (by omega) (rfl) ?_
        refine z_bipush dX3_addCrab_34 (v := 15) rfl ?_
        refine z_icmp_ne (tgt := 43) dX3_addCrab_36 (by decide) (fun c_3 => ?_) (fun c_3 => ?_)
        ·
          refine z_iconst dX3_addCrab_43 (v := 0) rfl ?_
          exact z_jv (by simp only [if_pos c_1, if_pos c_2, if_neg c_3] <;> rfl) hJ
        ·
          refine z_iconst dX3_addCrab_39 (v := 3) rfl ?_
          refine z_goto (tgt := 44) dX3_addCrab_40 (by decide) ?_
          exact z_jv (by simp only [if_pos c_1, if_pos c_2, if_pos c_3] <;> rfl) hJ
      ·
        refine z_iconst dX3_addCrab_22 (v := 2) rfl ?_
        refine z_goto (tgt := 44) dX3_addCrab_23 (by decide) ?_
        exact z_jv (by simp only [if_pos c_1, if_neg c_2] <;> rfl) hJ
    ·
      refine z_iconst dX3_addCrab_8 (v := 1) rfl ?_
      refine z_goto (tgt := 44) dX3_addCrab_9 (by decide) ?_
      exact z_jv (by simp only [if_neg c_1] <;> rfl) hJ
  refine z_cV zc7 mX3_throwsAt (k_throwsAt (d := d - 1) (by omega)) dX3_addCrab_44 q1796 (by omega) rfl (Nat.le_of_ble_eq_true rfl) rfl mdl_0 rfl ?_
  refine z_ifB_eq (tgt := 52) dX3_addCrab_47 (by decide) (fun c_4 => ?_) (fun c_4 => ?_)
  ·
    refine z_aload_n dX3_addCrab_52 rfl ?_
    refine z_cVv zc7 mX3_records (k_records (d := d - 1) hA (Kn := Kn) (f := upd f 7 (if zf_isPool pool then (if zf_in size 1 20 then (if (σ 211) = 15 then (3 : Int32) else (0 : Int32)) else (2 : Int32)) else (1 : Int32))) ((upd_n (by decide)).trans hKn) lKn (by omega)) dX3_addCrab_53 q1800 (by omega) rfl (Nat.le_of_ble_eq_true rfl) rfl mdl_0 rfl ?_
    refine z_aload_n dX3_addCrab_56 rfl ?_
    refine z_iconst dX3_addCrab_57 (v := 0) rfl ?_
    refine z_iload_n dX3_addCrab_58 rfl ?_
    refine z_iload_n dX3_addCrab_59 rfl ?_
    refine z_cV zc7 mX3_comesCrab (k_comesCrab (d := d - 1) hA (P := 0) (by decide) (zk 0) hok (by omega)) dX3_addCrab_60 q1815 (by omega) rfl (Nat.le_of_ble_eq_true rfl) rfl mdl_0 rfl ?_
    refine z_join 80 (.int (if (zf_comesCrab σ NC pool size) = 0 then (0 : Int32) else ((zr_comesCrab σ NC pool size 211) - 1))) 1 ?_ (fun hJ => ?_)
    rotate_left
    ·
      refine z_if_eq (tgt := 79) dX3_addCrab_63 (by decide) (fun c_5 => ?_) (fun c_5 => ?_)
      ·
        refine z_iconst dX3_addCrab_79 (v := 0) rfl ?_
        exact z_jv (by simp only [if_pos c_5] <;> rfl) hJ
      ·
        refine z_aload_n dX3_addCrab_66 rfl ?_
        refine zm_get 0 dX3_addCrab_67 q1742 rfl rfl ?_
        refine z_sipush dX3_addCrab_70 (v := 211) rfl ?_
        refine zm_ld hA (by decide) (P := 0) (211) (v := zr_comesCrab σ NC pool size 211) dX3_addCrab_73 (zn_to (zk 211) (by omega)) (by omega) (rfl) ?_
        refine z_iconst dX3_addCrab_74 (v := 1) rfl ?_
        refine z_isub dX3_addCrab_75 ?_
        refine z_goto (tgt := 80) dX3_addCrab_76 (by decide) ?_
        exact z_jv (by simp only [if_neg c_5] <;> rfl) hJ
    refine z_ret dX3_addCrab_80 rfl rfl ⟨by simp only [zf_addCrab, if_neg c_4], by simp only [zh_addCrab, if_neg c_4]⟩
  ·
    refine z_iconst dX3_addCrab_50 (v := 0) rfl ?_
    refine z_ret dX3_addCrab_51 rfl rfl ⟨by simp only [zf_addCrab, if_pos c_4], by simp only [zh_addCrab, if_pos c_4]⟩
def zf_addShell (σ : Nat → Int32) (NS Kn : Nat) (pool size : Int32) : Int32 := if ¬ ((if zf_isPool pool then (if zf_in size 1 20 then (if (σ 132) = 25 then (3 : Int32) else (0 : Int32)) else (2 : Int32)) else (1 : Int32)) ≤ 0) then (0 : Int32) else (if zf_comesShell σ NS pool size then ((zr_comesShell σ NS pool size 132) - 1) else (0 : Int32))
def zh_addShell (G : zE) (A : Nat → Nat) (σ : Nat → Int32) (NS Kn : Nat) (pool size : Int32) (s pa ke no f : Nat → Int32) (h0 : zH) : zH := if ¬ ((if zf_isPool pool then (if zf_in size 1 20 then (if (σ 132) = 25 then (3 : Int32) else (0 : Int32)) else (2 : Int32)) else (1 : Int32)) ≤ 0) then (mdl G A (zput 0 σ s) pa ke no (upd f 7 (if zf_isPool pool then (if zf_in size 1 20 then (if (σ 132) = 25 then (3 : Int32) else (0 : Int32)) else (2 : Int32)) else (1 : Int32))) h0) else (mdl G A (zput 0 (zr_comesShell σ NS pool size) s) (zpa σ Kn pa) ke no (upd (upd f 7 (if zf_isPool pool then (if zf_in size 1 20 then (if (σ 132) = 25 then (3 : Int32) else (0 : Int32)) else (2 : Int32)) else (1 : Int32))) 2 (nI (zkn Kn))) h0)
set_option maxHeartbeats 4000000 in
theorem k_addShell {G : zE} {A : Nat → Nat} (hA : zinj A 5) {σ s pa ke no f : Nat → Int32} {h0 : zH} {NL NS NC : Nat} (hok : zok σ NL NS NC) {Kn : Nat} (hKn : f 2 = nI Kn) (lKn : Kn ≤ 4) {pool size : Int32} {d : Nat} (hd : 4 ≤ d) : zCon G fX3_addShell d 0 0 [.ref (A 0), .int pool, .int size] (mdl G A (zput 0 σ s) pa ke no f h0) (zA (.int (zf_addShell σ NS Kn pool size)) (zh_addShell G A σ NS Kn pool size s pa ke no f h0)) nX := by
  refine zCon.of9 (L := [some (.ref (A 0)), some (.int pool), some (.int size)]) (by simp [Value.category]) (Nat.le_of_ble_eq_true rfl) pX3 rfl rfl ?_
  obtain ⟨bL, bS, bC⟩ := hok.b
  refine z_aload_n dX3_addShell_0 rfl ?_
  refine z_iload_n dX3_addShell_1 rfl ?_
  refine z_cS mX3_isPool (k_isPool (d := d - 1) (by omega)) dX3_addShell_2 q1790 (by omega) rfl (Nat.le_of_ble_eq_true rfl) rfl ?_
  refine z_join 44 (.int (if zf_isPool pool then (if zf_in size 1 20 then (if (σ 132) = 25 then (3 : Int32) else (0 : Int32)) else (2 : Int32)) else (1 : Int32))) 1 ?_ (fun hJ => ?_)
  rotate_left
  ·
    refine z_ifB_ne (tgt := 12) dX3_addShell_5 (by decide) (fun c_1 => ?_) (fun c_1 => ?_)
    ·
      refine z_iload_n dX3_addShell_12 rfl ?_
      refine z_iconst dX3_addShell_13 (v := 1) rfl ?_
      refine z_bipush dX3_addShell_14 (v := 20) rfl ?_
      refine z_cS mX3_in (k_in (d := d - 1) (by omega)) dX3_addShell_16 q1793 (by omega) rfl (Nat.le_of_ble_eq_true rfl) rfl ?_
      refine z_ifB_ne (tgt := 26) dX3_addShell_19 (by decide) (fun c_2 => ?_) (fun c_2 => ?_)
      ·
        refine z_aload_n dX3_addShell_26 rfl ?_
        refine zm_get 0 dX3_addShell_27 q1742 rfl rfl ?_
        refine z_sipush dX3_addShell_30 (v := 132) rfl ?_
        refine zm_ld hA (by decide) (P := 0) (132) (v := σ 132) dX3_addShell_33 (zn_to (zk 132) (by omega)) (by omega) (rfl) ?_
        refine z_bipush dX3_addShell_34 (v := 25) rfl ?_
        refine z_icmp_ne (tgt := 43) dX3_addShell_36 (by decide) (fun c_3 => ?_) (fun c_3 => ?_)
        ·
          refine z_iconst dX3_addShell_43 (v := 0) rfl ?_
          exact z_jv (by simp only [if_pos c_1, if_pos c_2, if_neg c_3] <;> rfl) hJ
        ·
          refine z_iconst dX3_addShell_39 (v := 3) rfl ?_
          refine z_goto (tgt := 44) dX3_addShell_40 (by decide) ?_
          exact z_jv (by simp only [if_pos c_1, if_pos c_2, if_pos c_3] <;> rfl) hJ
      ·
        refine z_iconst dX3_addShell_22 (v := 2) rfl ?_
        refine z_goto (tgt := 44) dX3_addShell_23 (by decide) ?_
        exact z_jv (by simp only [if_pos c_1, if_neg c_2] <;> rfl) hJ
    ·
      refine z_iconst dX3_addShell_8 (v := 1) rfl ?_
      refine z_goto (tgt := 44) dX3_addShell_9 (by decide) ?_
      exact z_jv (by simp only [if_neg c_1] <;> rfl) hJ
  refine z_cV zc7 mX3_throwsAt (k_throwsAt (d := d - 1) (by omega)) dX3_addShell_44 q1796 (by omega) rfl (Nat.le_of_ble_eq_true rfl) rfl mdl_0 rfl ?_
  refine z_ifB_eq (tgt := 52) dX3_addShell_47 (by decide) (fun c_4 => ?_) (fun c_4 => ?_)
  ·
    refine z_aload_n dX3_addShell_52 rfl ?_
    refine z_cVv zc7 mX3_records (k_records (d := d - 1) hA (Kn := Kn) (f := upd f 7 (if zf_isPool pool then (if zf_in size 1 20 then (if (σ 132) = 25 then (3 : Int32) else (0 : Int32)) else (2 : Int32)) else (1 : Int32))) ((upd_n (by decide)).trans hKn) lKn (by omega)) dX3_addShell_53 q1800 (by omega) rfl (Nat.le_of_ble_eq_true rfl) rfl mdl_0 rfl ?_
    refine z_aload_n dX3_addShell_56 rfl ?_
    refine z_iconst dX3_addShell_57 (v := 0) rfl ?_
    refine z_iload_n dX3_addShell_58 rfl ?_
    refine z_iload_n dX3_addShell_59 rfl ?_
    refine z_cV zc7 mX3_comesShell (k_comesShell (d := d - 1) hA (P := 0) (by decide) (zk 0) hok (by omega)) dX3_addShell_60 q1826 (by omega) rfl (Nat.le_of_ble_eq_true rfl) rfl mdl_0 rfl ?_
    refine z_join 80 (.int (if zf_comesShell σ NS pool size then ((zr_comesShell σ NS pool size 132) - 1) else (0 : Int32))) 1 ?_ (fun hJ => ?_)
    rotate_left
    ·
      refine z_ifB_eq (tgt := 79) dX3_addShell_63 (by decide) (fun c_5 => ?_) (fun c_5 => ?_)
      ·
        refine z_iconst dX3_addShell_79 (v := 0) rfl ?_
        exact z_jv (by simp only [if_neg c_5] <;> rfl) hJ
      ·
        refine z_aload_n dX3_addShell_66 rfl ?_
        refine zm_get 0 dX3_addShell_67 q1742 rfl rfl ?_
        refine z_sipush dX3_addShell_70 (v := 132) rfl ?_
        refine zm_ld hA (by decide) (P := 0) (132) (v := zr_comesShell σ NS pool size 132) dX3_addShell_73 (zn_to (zk 132) (by omega)) (by omega) (rfl) ?_
        refine z_iconst dX3_addShell_74 (v := 1) rfl ?_
        refine z_isub dX3_addShell_75 ?_
        refine z_goto (tgt := 80) dX3_addShell_76 (by decide) ?_
        exact z_jv (by simp only [if_pos c_5] <;> rfl) hJ
    refine z_ret dX3_addShell_80 rfl rfl ⟨by simp only [zf_addShell, if_neg c_4], by simp only [zh_addShell, if_neg c_4]⟩
  ·
    refine z_iconst dX3_addShell_50 (v := 0) rfl ?_
    refine z_ret dX3_addShell_51 rfl rfl ⟨by simp only [zf_addShell, if_pos c_4], by simp only [zh_addShell, if_pos c_4]⟩
def zf_carryShell (σ : Nat → Int32) (Kn : Nat) (shell pool : Int32) : Int32 := if ¬ ((if (zf_isShell σ shell) ∧ (zf_isPool pool) then (if (σ (133 + 3 * shell.toNatClampNeg + 2)) = (-1) then (0 : Int32) else (2 : Int32)) else (1 : Int32)) ≤ 0) then (0 : Int32) else (zf_sets σ (0 + (133 + 3 * shell.toNatClampNeg) + 1) Kn pool)
def zh_carryShell (G : zE) (A : Nat → Nat) (σ : Nat → Int32) (Kn : Nat) (shell pool : Int32) (s pa ke no f : Nat → Int32) (h0 : zH) : zH := if ¬ ((if (zf_isShell σ shell) ∧ (zf_isPool pool) then (if (σ (133 + 3 * shell.toNatClampNeg + 2)) = (-1) then (0 : Int32) else (2 : Int32)) else (1 : Int32)) ≤ 0) then (mdl G A (zput 0 σ s) pa ke no (upd f 7 (if (zf_isShell σ shell) ∧ (zf_isPool pool) then (if (σ (133 + 3 * shell.toNatClampNeg + 2)) = (-1) then (0 : Int32) else (2 : Int32)) else (1 : Int32))) h0) else (mdl G A (zput 0 (upd σ (0 + (133 + 3 * shell.toNatClampNeg) + 1) pool) s) (zpa σ Kn pa) ke no (upd (upd f 7 (if (zf_isShell σ shell) ∧ (zf_isPool pool) then (if (σ (133 + 3 * shell.toNatClampNeg + 2)) = (-1) then (0 : Int32) else (2 : Int32)) else (1 : Int32))) 2 (nI (zkn Kn))) h0)
set_option maxHeartbeats 4000000 in
theorem k_carryShell {G : zE} {A : Nat → Nat} (hA : zinj A 5) {σ s pa ke no f : Nat → Int32} {h0 : zH} {NL NS NC : Nat} (hok : zok σ NL NS NC) {Kn : Nat} (hKn : f 2 = nI Kn) (lKn : Kn ≤ 4) {shell pool : Int32} {d : Nat} (hd : 3 ≤ d) : zCon G fX3_carryShell d 0 0 [.ref (A 0), .int shell, .int pool] (mdl G A (zput 0 σ s) pa ke no f h0) (zA (.int (zf_carryShell σ Kn shell pool)) (zh_carryShell G A σ Kn shell pool s pa ke no f h0)) nX := by
  refine zCon.of9 (L := [some (.ref (A 0)), some (.int shell), some (.int pool), none]) (by simp [Value.category]) (Nat.le_of_ble_eq_true rfl) pX3 rfl rfl ?_
  obtain ⟨bL, bS, bC⟩ := hok.b
  refine z_aload_n dX3_carryShell_0 rfl ?_
  refine z_iload_n dX3_carryShell_1 rfl ?_
  refine z_cV zc7 mX3_isShell (k_isShell (d := d - 1) hA hok (by omega)) dX3_carryShell_2 q1841 (by omega) rfl (Nat.le_of_ble_eq_true rfl) rfl mdl_0 rfl ?_
  refine z_join 20 (.int (if (zf_isShell σ shell) ∧ (zf_isPool pool) then (1 : Int32) else 0)) 1 ?_ (fun hJ => ?_)
  rotate_left
  ·
    refine z_ifB_eq (tgt := 19) dX3_carryShell_5 (by decide) (fun c_1 => ?_) (fun c_1 => ?_)
    ·
      refine z_iconst dX3_carryShell_19 (v := 0) rfl ?_
      exact z_jv (if_neg (fun z => c_1 z.1)) hJ
    ·
      refine z_iload_n dX3_carryShell_8 rfl ?_
      refine z_cS mX3_isPool (k_isPool (d := d - 1) (by omega)) dX3_carryShell_9 q1790 (by omega) rfl (Nat.le_of_ble_eq_true rfl) rfl ?_
      refine z_ifB_eq (tgt := 19) dX3_carryShell_12 (by decide) (fun c_2 => ?_) (fun c_2 => ?_)
      ·
        refine z_iconst dX3_carryShell_19 (v := 0) rfl ?_
        exact z_jv (if_neg (fun z => c_2 z.2)) hJ
      ·
        refine z_iconst dX3_carryShell_15 (v := 1) rfl ?_
        refine z_goto (tgt := 20) dX3_carryShell_16 (by decide) ?_
        exact z_jv (if_pos (⟨c_1, c_2⟩)) hJ
  refine z_istore_n dX3_carryShell_20 (by decide) ?_
  refine z_aload_n dX3_carryShell_21 rfl ?_
  refine z_iload_n dX3_carryShell_22 rfl ?_
  refine z_join 51 (.int (if (zf_isShell σ shell) ∧ (zf_isPool pool) then (if (σ (133 + 3 * shell.toNatClampNeg + 2)) = (-1) then (0 : Int32) else (2 : Int32)) else (1 : Int32))) 1 ?_ (fun hJ => ?_)
  rotate_left
  ·
    refine z_ifB_ne (tgt := 30) dX3_carryShell_23 (by decide) (fun c_3 => ?_) (fun c_3 => ?_)
    ·
      refine z_aload_n dX3_carryShell_30 rfl ?_
      refine zm_get 0 dX3_carryShell_31 q1742 rfl rfl ?_
      refine z_iconst dX3_carryShell_34 (v := 0) rfl ?_
      refine z_iload_n dX3_carryShell_35 rfl ?_
      have lb_4 := (zin_ixc (by omega) hok.ns c_3.1).2
      refine z_cS mX3_shell (k_shell (d := d - 1) (zk 0) ((zin_ixc (by omega) hok.ns c_3.1).1) (by omega)) dX3_carryShell_36 q1834 (by omega) rfl (Nat.le_of_ble_eq_true rfl) rfl ?_
      refine z_iconst dX3_carryShell_39 (v := 2) rfl ?_
      refine z_iadd dX3_carryShell_40 ?_
      refine zm_ld hA (by decide) (P := 0) (133 + 3 * shell.toNatClampNeg + 2) (v := σ (133 + 3 * shell.toNatClampNeg + 2)) dX3_carryShell_41 (zn_to (zn_add rfl (zk 2)) (by omega)) (by omega) (rfl) ?_
      refine z_iconst dX3_carryShell_42 (v := (-1)) rfl ?_
      refine z_icmp_ne (tgt := 50) dX3_carryShell_43 (by decide) (fun c_5 => ?_) (fun c_5 => ?_)
      ·
        refine z_iconst dX3_carryShell_50 (v := 2) rfl ?_
        exact z_jv (by simp only [if_pos c_3, if_neg c_5] <;> rfl) hJ
      ·
        refine z_iconst dX3_carryShell_46 (v := 0) rfl ?_
        refine z_goto (tgt := 51) dX3_carryShell_47 (by decide) ?_
        exact z_jv (by simp only [if_pos c_3, if_pos c_5] <;> rfl) hJ
    ·
      refine z_iconst dX3_carryShell_26 (v := 1) rfl ?_
      refine z_goto (tgt := 51) dX3_carryShell_27 (by decide) ?_
      exact z_jv (by simp only [if_neg c_3] <;> rfl) hJ
  refine z_cV zc7 mX3_throwsAt (k_throwsAt (d := d - 1) (by omega)) dX3_carryShell_51 q1796 (by omega) rfl (Nat.le_of_ble_eq_true rfl) rfl mdl_0 rfl ?_
  refine z_ifB_eq (tgt := 59) dX3_carryShell_54 (by decide) (fun c_6 => ?_) (fun c_6 => ?_)
  ·
    refine z_aload_n dX3_carryShell_59 rfl ?_
    refine z_iconst dX3_carryShell_60 (v := 0) rfl ?_
    refine z_iload_n dX3_carryShell_61 rfl ?_
    have lb_7 := (zin_ixc (by omega) hok.ns ((zth ((Decidable.not_not.mp c_6)) (by decide)).1).1).2
    refine z_cS mX3_shell (k_shell (d := d - 1) (zk 0) ((zin_ixc (by omega) hok.ns ((zth ((Decidable.not_not.mp c_6)) (by decide)).1).1).1) (by omega)) dX3_carryShell_62 q1834 (by omega) rfl (Nat.le_of_ble_eq_true rfl) rfl ?_
    refine z_iconst dX3_carryShell_65 (v := 1) rfl ?_
    refine z_iadd dX3_carryShell_66 ?_
    refine z_iload_n dX3_carryShell_67 rfl ?_
    refine z_cV zc7 mX3_sets (k_sets (d := d - 1) hA hok (Kn := Kn) (f := upd f 7 (if (zf_isShell σ shell) ∧ (zf_isPool pool) then (if (σ (133 + 3 * shell.toNatClampNeg + 2)) = (-1) then (0 : Int32) else (2 : Int32)) else (1 : Int32))) ((upd_n (by decide)).trans hKn) lKn (zn_add rfl (zk 1)) (by omega) (by omega)) dX3_carryShell_68 q1845 (by omega) rfl (Nat.le_of_ble_eq_true rfl) rfl mdl_0 rfl ?_
    refine z_ret dX3_carryShell_71 rfl rfl ⟨by simp only [zf_carryShell, if_neg c_6], by simp only [zh_carryShell, if_neg c_6]⟩
  ·
    refine z_iconst dX3_carryShell_57 (v := 0) rfl ?_
    refine z_ret dX3_carryShell_58 rfl rfl ⟨by simp only [zf_carryShell, if_pos c_6], by simp only [zh_carryShell, if_pos c_6]⟩
def zr_setHeight_46 (σ : Nat → Int32) (Kn : Nat) (pool height : Int32) : Nat → Int32 := if ¬ ((if zf_isPool pool then (if zf_in height 0 60 then (0 : Int32) else (2 : Int32)) else (1 : Int32)) ≤ 0) then σ else (upd σ (7 + pool.toNatClampNeg) height)
def zf_setHeight (σ : Nat → Int32) (Kn : Nat) (pool height : Int32) : Int32 := if ¬ ((if zf_isPool pool then (if zf_in height 0 60 then (0 : Int32) else (2 : Int32)) else (1 : Int32)) ≤ 0) then (0 : Int32) else (zf_sets σ (7 + pool.toNatClampNeg) Kn height)
def zh_setHeight (G : zE) (A : Nat → Nat) (σ : Nat → Int32) (Kn : Nat) (pool height : Int32) (s pa ke no f : Nat → Int32) (h0 : zH) : zH := if ¬ ((if zf_isPool pool then (if zf_in height 0 60 then (0 : Int32) else (2 : Int32)) else (1 : Int32)) ≤ 0) then (mdl G A (zput 0 σ s) pa ke no (upd f 7 (if zf_isPool pool then (if zf_in height 0 60 then (0 : Int32) else (2 : Int32)) else (1 : Int32))) h0) else (mdl G A (zput 0 (upd σ (7 + pool.toNatClampNeg) height) s) (zpa σ Kn pa) ke no (upd (upd f 7 (if zf_isPool pool then (if zf_in height 0 60 then (0 : Int32) else (2 : Int32)) else (1 : Int32))) 2 (nI (zkn Kn))) h0)
set_option maxHeartbeats 4000000 in
theorem k_setHeight {G : zE} {A : Nat → Nat} (hA : zinj A 5) {σ s pa ke no f : Nat → Int32} {h0 : zH} {NL NS NC : Nat} (hok : zok σ NL NS NC) {Kn : Nat} (hKn : f 2 = nI Kn) (lKn : Kn ≤ 4) {pool height : Int32} {d : Nat} (hd : 3 ≤ d) : zCon G fX3_setHeight d 0 0 [.ref (A 0), .int pool, .int height] (mdl G A (zput 0 σ s) pa ke no f h0) (zA (.int (zf_setHeight σ Kn pool height)) (zh_setHeight G A σ Kn pool height s pa ke no f h0)) nX := by
  refine zCon.of9 (L := [some (.ref (A 0)), some (.int pool), some (.int height)]) (by simp [Value.category]) (Nat.le_of_ble_eq_true rfl) pX3 rfl rfl ?_
  obtain ⟨bL, bS, bC⟩ := hok.b
  refine z_aload_n dX3_setHeight_0 rfl ?_
  refine z_iload_n dX3_setHeight_1 rfl ?_
  refine z_cS mX3_isPool (k_isPool (d := d - 1) (by omega)) dX3_setHeight_2 q1790 (by omega) rfl (Nat.le_of_ble_eq_true rfl) rfl ?_
  refine z_join 27 (.int (if zf_isPool pool then (if zf_in height 0 60 then (0 : Int32) else (2 : Int32)) else (1 : Int32))) 1 ?_ (fun hJ => ?_)
  rotate_left
  ·
    refine z_ifB_ne (tgt := 12) dX3_setHeight_5 (by decide) (fun c_1 => ?_) (fun c_1 => ?_)
    ·
      refine z_iload_n dX3_setHeight_12 rfl ?_
      refine z_iconst dX3_setHeight_13 (v := 0) rfl ?_
      refine z_bipush dX3_setHeight_14 (v := 60) rfl ?_
      refine z_cS mX3_in (k_in (d := d - 1) (by omega)) dX3_setHeight_16 q1793 (by omega) rfl (Nat.le_of_ble_eq_true rfl) rfl ?_
      refine z_ifB_eq (tgt := 26) dX3_setHeight_19 (by decide) (fun c_2 => ?_) (fun c_2 => ?_)
      ·
        refine z_iconst dX3_setHeight_26 (v := 2) rfl ?_
        exact z_jv (by simp only [if_pos c_1, if_neg c_2] <;> rfl) hJ
      ·
        refine z_iconst dX3_setHeight_22 (v := 0) rfl ?_
        refine z_goto (tgt := 27) dX3_setHeight_23 (by decide) ?_
        exact z_jv (by simp only [if_pos c_1, if_pos c_2] <;> rfl) hJ
    ·
      refine z_iconst dX3_setHeight_8 (v := 1) rfl ?_
      refine z_goto (tgt := 27) dX3_setHeight_9 (by decide) ?_
      exact z_jv (by simp only [if_neg c_1] <;> rfl) hJ
  refine z_cV zc7 mX3_throwsAt (k_throwsAt (d := d - 1) (by omega)) dX3_setHeight_27 q1796 (by omega) rfl (Nat.le_of_ble_eq_true rfl) rfl mdl_0 rfl ?_
  refine z_ifB_eq (tgt := 37) dX3_setHeight_30 (by decide) (fun c_3 => ?_) (fun c_3 => ?_)
  ·
    refine z_aload_n dX3_setHeight_37 rfl ?_
    refine z_bipush dX3_setHeight_38 (v := 7) rfl ?_
    refine z_iload_n dX3_setHeight_40 rfl ?_
    have lb_4 := (zin_ix (n := 7) (by omega) rfl (by decide) (zth ((Decidable.not_not.mp c_3)) (by decide)).1).2
    refine z_iadd dX3_setHeight_41 ?_
    refine z_iload_n dX3_setHeight_42 rfl ?_
    refine z_cV zc7 mX3_sets (k_sets (d := d - 1) hA hok (Kn := Kn) (f := upd f 7 (if zf_isPool pool then (if zf_in height 0 60 then (0 : Int32) else (2 : Int32)) else (1 : Int32))) ((upd_n (by decide)).trans hKn) lKn (zn_add (zk 7) ((zin_ix (n := 7) (by omega) rfl (by decide) (zth ((Decidable.not_not.mp c_3)) (by decide)).1).1)) (by omega) (by omega)) dX3_setHeight_43 q1845 (by omega) rfl (Nat.le_of_ble_eq_true rfl) rfl mdl_0 rfl ?_
    refine z_ret dX3_setHeight_46 rfl rfl ⟨by simp only [zf_setHeight, if_neg c_3], by simp only [zh_setHeight, if_neg c_3]⟩
  ·
    refine z_iconst dX3_setHeight_33 (v := 0) rfl ?_
    refine z_goto (tgt := 46) dX3_setHeight_34 (by decide) ?_
    refine z_ret dX3_setHeight_46 rfl rfl ⟨by simp only [zf_setHeight, if_pos c_3], by simp only [zh_setHeight, if_pos c_3]⟩
def zf_setTide (σ : Nat → Int32) (Kn : Nat) (low high : Int32) : Int32 := if ¬ ((if ¬ (zf_in low 0 30) ∨ (¬ (zf_in high 31 60)) then (1 : Int32) else 0) ≤ 0) then (0 : Int32) else (zf_tideOf (upd (upd σ 1 low) 2 high) (σ 0))
def zh_setTide (G : zE) (A : Nat → Nat) (σ : Nat → Int32) (Kn : Nat) (low high : Int32) (s pa ke no f : Nat → Int32) (h0 : zH) : zH := if ¬ ((if ¬ (zf_in low 0 30) ∨ (¬ (zf_in high 31 60)) then (1 : Int32) else 0) ≤ 0) then (mdl G A (zput 0 σ s) pa ke no (upd f 7 (if ¬ (zf_in low 0 30) ∨ (¬ (zf_in high 31 60)) then (1 : Int32) else 0)) h0) else (mdl G A (zput 0 (upd (upd σ 1 low) 2 high) s) (zpa σ Kn pa) ke no (upd (upd f 7 (if ¬ (zf_in low 0 30) ∨ (¬ (zf_in high 31 60)) then (1 : Int32) else 0)) 2 (nI (zkn Kn))) h0)
set_option maxHeartbeats 4000000 in
theorem k_setTide {G : zE} {A : Nat → Nat} (hA : zinj A 5) {σ s pa ke no f : Nat → Int32} {h0 : zH} {NL NS NC : Nat} (hok : zok σ NL NS NC) {Kn : Nat} (hKn : f 2 = nI Kn) (lKn : Kn ≤ 4) {low high : Int32} {d : Nat} (hd : 2 ≤ d) : zCon G fX3_setTide d 0 0 [.ref (A 0), .int low, .int high] (mdl G A (zput 0 σ s) pa ke no f h0) (zA (.int (zf_setTide σ Kn low high)) (zh_setTide G A σ Kn low high s pa ke no f h0)) nX := by
  refine zCon.of9 (L := [some (.ref (A 0)), some (.int low), some (.int high)]) (by simp [Value.category]) (Nat.le_of_ble_eq_true rfl) pX3 rfl rfl ?_
  obtain ⟨bL, bS, bC⟩ := hok.b
  refine z_aload_n dX3_setTide_0 rfl ?_
  refine z_iload_n dX3_setTide_1 rfl ?_
  refine z_iconst dX3_setTide_2 (v := 0) rfl ?_
  refine z_bipush dX3_setTide_3 (v := 30) rfl ?_
  refine z_cS mX3_in (k_in (d := d - 1) (by omega)) dX3_setTide_5 q1793 (by omega) rfl (Nat.le_of_ble_eq_true rfl) rfl ?_
  refine z_join 27 (.int (if ¬ (zf_in low 0 30) ∨ (¬ (zf_in high 31 60)) then (1 : Int32) else 0)) 1 ?_ (fun hJ => ?_)
  rotate_left
  ·
    refine z_ifB_eq (tgt := 26) dX3_setTide_8 (by decide) (fun c_1 => ?_) (fun c_1 => ?_)
    ·
      refine z_iconst dX3_setTide_26 (v := 1) rfl ?_
      exact z_jv (if_pos (Or.inl c_1)) hJ
    ·
      refine z_iload_n dX3_setTide_11 rfl ?_
      refine z_bipush dX3_setTide_12 (v := 31) rfl ?_
      refine z_bipush dX3_setTide_14 (v := 60) rfl ?_
      refine z_cS mX3_in (k_in (d := d - 1) (by omega)) dX3_setTide_16 q1793 (by omega) rfl (Nat.le_of_ble_eq_true rfl) rfl ?_
      refine z_ifB_eq (tgt := 26) dX3_setTide_19 (by decide) (fun c_2 => ?_) (fun c_2 => ?_)
      ·
        refine z_iconst dX3_setTide_26 (v := 1) rfl ?_
        exact z_jv (if_pos (Or.inr c_2)) hJ
      ·
        refine z_iconst dX3_setTide_22 (v := 0) rfl ?_
        refine z_goto (tgt := 27) dX3_setTide_23 (by decide) ?_
        exact z_jv (if_neg (fun z => z.elim (fun y => y c_1) (fun z => z c_2))) hJ
  refine z_cV zc7 mX3_throwsAt (k_throwsAt (d := d - 1) (by omega)) dX3_setTide_27 q1796 (by omega) rfl (Nat.le_of_ble_eq_true rfl) rfl mdl_0 rfl ?_
  refine z_ifB_eq (tgt := 35) dX3_setTide_30 (by decide) (fun c_3 => ?_) (fun c_3 => ?_)
  ·
    refine z_aload_n dX3_setTide_35 rfl ?_
    refine z_cVv zc7 mX3_records (k_records (d := d - 1) hA (Kn := Kn) (f := upd f 7 (if ¬ (zf_in low 0 30) ∨ (¬ (zf_in high 31 60)) then (1 : Int32) else 0)) ((upd_n (by decide)).trans hKn) lKn (by omega)) dX3_setTide_36 q1800 (by omega) rfl (Nat.le_of_ble_eq_true rfl) rfl mdl_0 rfl ?_
    refine z_aload_n dX3_setTide_39 rfl ?_
    refine zm_get 0 dX3_setTide_40 q1742 rfl rfl ?_
    refine z_iconst dX3_setTide_43 (v := 1) rfl ?_
    refine z_iload_n dX3_setTide_44 rfl ?_
    refine zm_st hA (by decide) (P := 0) (1) dX3_setTide_45 (zn_to (zk 1) (by omega)) (by omega) ?_
    refine z_aload_n dX3_setTide_46 rfl ?_
    refine zm_get 0 dX3_setTide_47 q1742 rfl rfl ?_
    refine z_iconst dX3_setTide_50 (v := 2) rfl ?_
    refine z_iload_n dX3_setTide_51 rfl ?_
    refine zm_st hA (by decide) (P := 0) (2) dX3_setTide_52 (zn_to (zk 2) (by omega)) (by omega) ?_
    refine z_aload_n dX3_setTide_53 rfl ?_
    refine z_iconst dX3_setTide_54 (v := 0) rfl ?_
    refine z_aload_n dX3_setTide_55 rfl ?_
    refine zm_get 0 dX3_setTide_56 q1742 rfl rfl ?_
    refine z_iconst dX3_setTide_59 (v := 0) rfl ?_
    refine zm_ld hA (by decide) (P := 0) (0) (v := σ 0) dX3_setTide_60 (zn_to (zk 0) (by omega)) (by omega) ((pk_un (by omega)).trans ((pk_un (by omega)).trans (rfl))) ?_
    refine z_cV zc7 mX3_tideOf (k_tideOf (d := d - 1) hA (P := 0) (by decide) (zk 0) (by omega)) dX3_setTide_61 q1857 (by omega) rfl (Nat.le_of_ble_eq_true rfl) rfl mdl_0 rfl ?_
    refine z_ret dX3_setTide_64 rfl rfl ⟨by simp only [zf_setTide, if_neg c_3], by simp only [zh_setTide, if_neg c_3]⟩
  ·
    refine z_iconst dX3_setTide_33 (v := 0) rfl ?_
    refine z_ret dX3_setTide_34 rfl rfl ⟨by simp only [zf_setTide, if_pos c_3], by simp only [zh_setTide, if_pos c_3]⟩
def zr_setHeat_31 (σ : Nat → Int32) (Kn : Nat) (heat : Int32) : Nat → Int32 := if ¬ ((if ¬ (zf_in heat 0 4) then (1 : Int32) else 0) ≤ 0) then σ else (upd σ 3 heat)
def zf_setHeat (σ : Nat → Int32) (Kn : Nat) (heat : Int32) : Int32 := if ¬ ((if ¬ (zf_in heat 0 4) then (1 : Int32) else 0) ≤ 0) then (0 : Int32) else (zf_sets σ 3 Kn heat)
def zh_setHeat (G : zE) (A : Nat → Nat) (σ : Nat → Int32) (Kn : Nat) (heat : Int32) (s pa ke no f : Nat → Int32) (h0 : zH) : zH := if ¬ ((if ¬ (zf_in heat 0 4) then (1 : Int32) else 0) ≤ 0) then (mdl G A (zput 0 σ s) pa ke no (upd f 7 (if ¬ (zf_in heat 0 4) then (1 : Int32) else 0)) h0) else (mdl G A (zput 0 (upd σ 3 heat) s) (zpa σ Kn pa) ke no (upd (upd f 7 (if ¬ (zf_in heat 0 4) then (1 : Int32) else 0)) 2 (nI (zkn Kn))) h0)
set_option maxHeartbeats 4000000 in
theorem k_setHeat {G : zE} {A : Nat → Nat} (hA : zinj A 5) {σ s pa ke no f : Nat → Int32} {h0 : zH} {NL NS NC : Nat} (hok : zok σ NL NS NC) {Kn : Nat} (hKn : f 2 = nI Kn) (lKn : Kn ≤ 4) {heat : Int32} {d : Nat} (hd : 3 ≤ d) : zCon G fX3_setHeat d 0 0 [.ref (A 0), .int heat] (mdl G A (zput 0 σ s) pa ke no f h0) (zA (.int (zf_setHeat σ Kn heat)) (zh_setHeat G A σ Kn heat s pa ke no f h0)) nX := by
  refine zCon.of9 (L := [some (.ref (A 0)), some (.int heat)]) (by simp [Value.category]) (Nat.le_of_ble_eq_true rfl) pX3 rfl rfl ?_
  obtain ⟨bL, bS, bC⟩ := hok.b
  refine z_aload_n dX3_setHeat_0 rfl ?_
  refine z_iload_n dX3_setHeat_1 rfl ?_
  refine z_iconst dX3_setHeat_2 (v := 0) rfl ?_
  refine z_iconst dX3_setHeat_3 (v := 4) rfl ?_
  refine z_cS mX3_in (k_in (d := d - 1) (by omega)) dX3_setHeat_4 q1793 (by omega) rfl (Nat.le_of_ble_eq_true rfl) rfl ?_
  refine z_join 15 (.int (if ¬ (zf_in heat 0 4) then (1 : Int32) else 0)) 1 ?_ (fun hJ => ?_)
  rotate_left
  ·
    refine z_ifB_eq (tgt := 14) dX3_setHeat_7 (by decide) (fun c_1 => ?_) (fun c_1 => ?_)
    ·
      refine z_iconst dX3_setHeat_14 (v := 1) rfl ?_
      exact z_jv (if_pos c_1) hJ
    ·
      refine z_iconst dX3_setHeat_10 (v := 0) rfl ?_
      refine z_goto (tgt := 15) dX3_setHeat_11 (by decide) ?_
      exact z_jv (if_neg (fun z => z c_1)) hJ
  refine z_cV zc7 mX3_throwsAt (k_throwsAt (d := d - 1) (by omega)) dX3_setHeat_15 q1796 (by omega) rfl (Nat.le_of_ble_eq_true rfl) rfl mdl_0 rfl ?_
  refine z_ifB_eq (tgt := 25) dX3_setHeat_18 (by decide) (fun c_2 => ?_) (fun c_2 => ?_)
  ·
    refine z_aload_n dX3_setHeat_25 rfl ?_
    refine z_iconst dX3_setHeat_26 (v := 3) rfl ?_
    refine z_iload_n dX3_setHeat_27 rfl ?_
    refine z_cV zc7 mX3_sets (k_sets (d := d - 1) hA hok (Kn := Kn) (f := upd f 7 (if ¬ (zf_in heat 0 4) then (1 : Int32) else 0)) ((upd_n (by decide)).trans hKn) lKn (zk 3) (by omega) (by omega)) dX3_setHeat_28 q1845 (by omega) rfl (Nat.le_of_ble_eq_true rfl) rfl mdl_0 rfl ?_
    refine z_ret dX3_setHeat_31 rfl rfl ⟨by simp only [zf_setHeat, if_neg c_2], by simp only [zh_setHeat, if_neg c_2]⟩
  ·
    refine z_iconst dX3_setHeat_21 (v := 0) rfl ?_
    refine z_goto (tgt := 31) dX3_setHeat_22 (by decide) ?_
    refine z_ret dX3_setHeat_31 rfl rfl ⟨by simp only [zf_setHeat, if_pos c_2], by simp only [zh_setHeat, if_pos c_2]⟩
def zr_setPause_32 (σ : Nat → Int32) (Kn : Nat) (hours : Int32) : Nat → Int32 := if ¬ ((if ¬ (zf_in hours 1 12) then (1 : Int32) else 0) ≤ 0) then σ else (upd σ 4 hours)
def zf_setPause (σ : Nat → Int32) (Kn : Nat) (hours : Int32) : Int32 := if ¬ ((if ¬ (zf_in hours 1 12) then (1 : Int32) else 0) ≤ 0) then (0 : Int32) else (zf_sets σ 4 Kn hours)
def zh_setPause (G : zE) (A : Nat → Nat) (σ : Nat → Int32) (Kn : Nat) (hours : Int32) (s pa ke no f : Nat → Int32) (h0 : zH) : zH := if ¬ ((if ¬ (zf_in hours 1 12) then (1 : Int32) else 0) ≤ 0) then (mdl G A (zput 0 σ s) pa ke no (upd f 7 (if ¬ (zf_in hours 1 12) then (1 : Int32) else 0)) h0) else (mdl G A (zput 0 (upd σ 4 hours) s) (zpa σ Kn pa) ke no (upd (upd f 7 (if ¬ (zf_in hours 1 12) then (1 : Int32) else 0)) 2 (nI (zkn Kn))) h0)
set_option maxHeartbeats 4000000 in
theorem k_setPause {G : zE} {A : Nat → Nat} (hA : zinj A 5) {σ s pa ke no f : Nat → Int32} {h0 : zH} {NL NS NC : Nat} (hok : zok σ NL NS NC) {Kn : Nat} (hKn : f 2 = nI Kn) (lKn : Kn ≤ 4) {hours : Int32} {d : Nat} (hd : 3 ≤ d) : zCon G fX3_setPause d 0 0 [.ref (A 0), .int hours] (mdl G A (zput 0 σ s) pa ke no f h0) (zA (.int (zf_setPause σ Kn hours)) (zh_setPause G A σ Kn hours s pa ke no f h0)) nX := by
  refine zCon.of9 (L := [some (.ref (A 0)), some (.int hours)]) (by simp [Value.category]) (Nat.le_of_ble_eq_true rfl) pX3 rfl rfl ?_
  obtain ⟨bL, bS, bC⟩ := hok.b
  refine z_aload_n dX3_setPause_0 rfl ?_
  refine z_iload_n dX3_setPause_1 rfl ?_
  refine z_iconst dX3_setPause_2 (v := 1) rfl ?_
  refine z_bipush dX3_setPause_3 (v := 12) rfl ?_
  refine z_cS mX3_in (k_in (d := d - 1) (by omega)) dX3_setPause_5 q1793 (by omega) rfl (Nat.le_of_ble_eq_true rfl) rfl ?_
  refine z_join 16 (.int (if ¬ (zf_in hours 1 12) then (1 : Int32) else 0)) 1 ?_ (fun hJ => ?_)
  rotate_left
  ·
    refine z_ifB_eq (tgt := 15) dX3_setPause_8 (by decide) (fun c_1 => ?_) (fun c_1 => ?_)
    ·
      refine z_iconst dX3_setPause_15 (v := 1) rfl ?_
      exact z_jv (if_pos c_1) hJ
    ·
      refine z_iconst dX3_setPause_11 (v := 0) rfl ?_
      refine z_goto (tgt := 16) dX3_setPause_12 (by decide) ?_
      exact z_jv (if_neg (fun z => z c_1)) hJ
  refine z_cV zc7 mX3_throwsAt (k_throwsAt (d := d - 1) (by omega)) dX3_setPause_16 q1796 (by omega) rfl (Nat.le_of_ble_eq_true rfl) rfl mdl_0 rfl ?_
  refine z_ifB_eq (tgt := 26) dX3_setPause_19 (by decide) (fun c_2 => ?_) (fun c_2 => ?_)
  ·
    refine z_aload_n dX3_setPause_26 rfl ?_
    refine z_iconst dX3_setPause_27 (v := 4) rfl ?_
    refine z_iload_n dX3_setPause_28 rfl ?_
    refine z_cV zc7 mX3_sets (k_sets (d := d - 1) hA hok (Kn := Kn) (f := upd f 7 (if ¬ (zf_in hours 1 12) then (1 : Int32) else 0)) ((upd_n (by decide)).trans hKn) lKn (zk 4) (by omega) (by omega)) dX3_setPause_29 q1845 (by omega) rfl (Nat.le_of_ble_eq_true rfl) rfl mdl_0 rfl ?_
    refine z_ret dX3_setPause_32 rfl rfl ⟨by simp only [zf_setPause, if_neg c_2], by simp only [zh_setPause, if_neg c_2]⟩
  ·
    refine z_iconst dX3_setPause_22 (v := 0) rfl ?_
    refine z_goto (tgt := 32) dX3_setPause_23 (by decide) ?_
    refine z_ret dX3_setPause_32 rfl rfl ⟨by simp only [zf_setPause, if_pos c_2], by simp only [zh_setPause, if_pos c_2]⟩
def zf_pass (σ : Nat → Int32) (NL NS NC Kn : Nat) (hours : Int32) : Int32 := if ¬ ((if zf_in hours 1 99 then (if ((σ 0) + hours) ≤ 999 then (0 : Int32) else (2 : Int32)) else (1 : Int32)) ≤ 0) then (0 : Int32) else (zf_passes σ NL NS NC hours.toNatClampNeg)
def zh_pass (G : zE) (A : Nat → Nat) (σ : Nat → Int32) (NL NS NC Kn : Nat) (hours : Int32) (s pa ke no f : Nat → Int32) (h0 : zH) : zH := if ¬ ((if zf_in hours 1 99 then (if ((σ 0) + hours) ≤ 999 then (0 : Int32) else (2 : Int32)) else (1 : Int32)) ≤ 0) then (mdl G A (zput 0 σ s) pa ke no (upd f 7 (if zf_in hours 1 99 then (if ((σ 0) + hours) ≤ 999 then (0 : Int32) else (2 : Int32)) else (1 : Int32))) h0) else (mdl G A (zput 0 (zr_passes σ NL NS NC hours.toNatClampNeg) s) (zpa σ Kn pa) ke no (upd (upd f 7 (if zf_in hours 1 99 then (if ((σ 0) + hours) ≤ 999 then (0 : Int32) else (2 : Int32)) else (1 : Int32))) 2 (nI (zkn Kn))) h0)
set_option maxHeartbeats 4000000 in
theorem k_pass {G : zE} {A : Nat → Nat} (hA : zinj A 5) {σ s pa ke no f : Nat → Int32} {h0 : zH} {NL NS NC : Nat} (hok : zok σ NL NS NC) {Kn : Nat} (hKn : f 2 = nI Kn) (lKn : Kn ≤ 4) {hours : Int32} {d : Nat} (hd : 12 ≤ d) : zCon G fX3_pass d 0 0 [.ref (A 0), .int hours] (mdl G A (zput 0 σ s) pa ke no f h0) (zA (.int (zf_pass σ NL NS NC Kn hours)) (zh_pass G A σ NL NS NC Kn hours s pa ke no f h0)) nX := by
  refine zCon.of9 (L := [some (.ref (A 0)), some (.int hours)]) (by simp [Value.category]) (Nat.le_of_ble_eq_true rfl) pX3 rfl rfl ?_
  obtain ⟨bL, bS, bC⟩ := hok.b
  refine z_aload_n dX3_pass_0 rfl ?_
  refine z_iload_n dX3_pass_1 rfl ?_
  refine z_iconst dX3_pass_2 (v := 1) rfl ?_
  refine z_bipush dX3_pass_3 (v := 99) rfl ?_
  refine z_cS mX3_in (k_in (d := d - 1) (by omega)) dX3_pass_5 q1793 (by omega) rfl (Nat.le_of_ble_eq_true rfl) rfl ?_
  refine z_join 34 (.int (if zf_in hours 1 99 then (if ((σ 0) + hours) ≤ 999 then (0 : Int32) else (2 : Int32)) else (1 : Int32))) 1 ?_ (fun hJ => ?_)
  rotate_left
  ·
    refine z_ifB_ne (tgt := 15) dX3_pass_8 (by decide) (fun c_1 => ?_) (fun c_1 => ?_)
    ·
      refine z_aload_n dX3_pass_15 rfl ?_
      refine zm_get 0 dX3_pass_16 q1742 rfl rfl ?_
      refine z_iconst dX3_pass_19 (v := 0) rfl ?_
      refine zm_ld hA (by decide) (P := 0) (0) (v := σ 0) dX3_pass_20 (zn_to (zk 0) (by omega)) (by omega) (rfl) ?_
      refine z_iload_n dX3_pass_21 rfl ?_
      refine z_iadd dX3_pass_22 ?_
      refine z_sipush dX3_pass_23 (v := 999) rfl ?_
      refine z_icmp_le (tgt := 33) dX3_pass_26 (by decide) (fun c_2 => ?_) (fun c_2 => ?_)
      ·
        refine z_iconst dX3_pass_33 (v := 0) rfl ?_
        exact z_jv (by simp only [if_pos c_1, if_pos c_2] <;> rfl) hJ
      ·
        refine z_iconst dX3_pass_29 (v := 2) rfl ?_
        refine z_goto (tgt := 34) dX3_pass_30 (by decide) ?_
        exact z_jv (by simp only [if_pos c_1, if_neg c_2] <;> rfl) hJ
    ·
      refine z_iconst dX3_pass_11 (v := 1) rfl ?_
      refine z_goto (tgt := 34) dX3_pass_12 (by decide) ?_
      exact z_jv (by simp only [if_neg c_1] <;> rfl) hJ
  refine z_cV zc7 mX3_throwsAt (k_throwsAt (d := d - 1) (by omega)) dX3_pass_34 q1796 (by omega) rfl (Nat.le_of_ble_eq_true rfl) rfl mdl_0 rfl ?_
  refine z_ifB_eq (tgt := 42) dX3_pass_37 (by decide) (fun c_3 => ?_) (fun c_3 => ?_)
  ·
    refine z_aload_n dX3_pass_42 rfl ?_
    refine z_cVv zc7 mX3_records (k_records (d := d - 1) hA (Kn := Kn) (f := upd f 7 (if zf_in hours 1 99 then (if ((σ 0) + hours) ≤ 999 then (0 : Int32) else (2 : Int32)) else (1 : Int32))) ((upd_n (by decide)).trans hKn) lKn (by omega)) dX3_pass_43 q1800 (by omega) rfl (Nat.le_of_ble_eq_true rfl) rfl mdl_0 rfl ?_
    refine z_aload_n dX3_pass_46 rfl ?_
    refine z_iconst dX3_pass_47 (v := 0) rfl ?_
    refine z_iload_n dX3_pass_48 rfl ?_
    have lb_4 := (zin_ix (n := 99) (by omega) rfl (by decide) (zth ((Decidable.not_not.mp c_3)) (by decide)).1).2
    refine z_cV zc7 mX3_passes (k_passes (d := d - 1) hA (P := 0) (by decide) (zk 0) hok ((zin_ix (n := 99) (by omega) rfl (by decide) (zth ((Decidable.not_not.mp c_3)) (by decide)).1).1) (by omega) (by omega)) dX3_pass_49 q1873 (by omega) rfl (Nat.le_of_ble_eq_true rfl) rfl mdl_0 rfl ?_
    refine z_ret dX3_pass_52 rfl rfl ⟨by simp only [zf_pass, if_neg c_3], by simp only [zh_pass, if_neg c_3]⟩
  ·
    refine z_iconst dX3_pass_40 (v := 0) rfl ?_
    refine z_ret dX3_pass_41 rfl rfl ⟨by simp only [zf_pass, if_pos c_3], by simp only [zh_pass, if_pos c_3]⟩
