/-! THE REFERENCE, part 6: rows copied, recorded, kept -/
set_option maxRecDepth 100000
set_option maxHeartbeats 4000000 in
theorem l_copies {G : zE} {A : Nat → Nat} (hA : zinj A 5) {s pa ke no f : Nat → Int32} {h0 : zH} {d k n : Nat} {Q : Option Value → zH → Prop} {X : String → zH → Prop} (hx : zV G fX3_copies d 31 [some (.ref (A 0)), none] [] (mdl G A (cp 287 s 287 s) pa ke no f h0) k n Q X) : ∀ (j K : Nat), K + j = 287 → zV G fX3_copies d 2 [some (.ref (A 0)), some (.int (nI K))] [] (mdl G A (cp 287 s K s) pa ke no f h0) k n Q X := by
  intro j
  induction j with
  | zero =>
    intro K hK
    have hK9 : K = 287 := by omega
    subst hK9
    refine z_iload_n dX3_copies_2 rfl ?_
    refine z_sipush dX3_copies_3 (v := 287) rfl ?_
    refine z_icmp_ge (tgt := 31) dX3_copies_6 (by decide) (fun hg => ?_) (fun hg => ?_)
    ·
      refine z_loc (L2 := [some (.ref (A 0)), none]) ⟨rfl, trivial⟩ ?_
      exact hx
    · exact absurd (by rw [zk 287]; exact Int32.le_refl _) hg
  | succ j ih =>
    intro K hK
    refine z_iload_n dX3_copies_2 rfl ?_
    refine z_sipush dX3_copies_3 (v := 287) rfl ?_
    refine z_icmp_ge (tgt := 31) dX3_copies_6 (by decide) (fun hg => ?_) (fun hg => ?_)
    · exact absurd hg (by rw [zk 287]; exact nI_ge (by omega) (by omega))
    ·
      refine z_aload_n dX3_copies_9 rfl ?_
      refine zm_get 0 dX3_copies_10 q1742 rfl rfl ?_
      refine z_sipush dX3_copies_13 (v := 287) rfl ?_
      refine z_iload_n dX3_copies_16 rfl ?_
      refine z_iadd dX3_copies_17 ?_
      refine z_aload_n dX3_copies_18 rfl ?_
      refine zm_get 0 dX3_copies_19 q1742 rfl rfl ?_
      refine z_iload_n dX3_copies_22 rfl ?_
      refine z_iald dX3_copies_23 (mdl_1 hA) (zn_to (rfl) rfl) (by omega) (by omega) ?_
      refine z_iast dX3_copies_24 (mdl_1 hA) (zn_to (zn_add (zk 287) rfl) rfl) (by omega) (by omega) ?_
      rw [mdl_w1 hA]
      refine z_iinc dX3_copies_25 rfl (v := nI (K + 1)) (z_inc rfl) ?_
      refine z_goto (tgt := 2) dX3_copies_28 (by decide) ?_
      refine z_loc (L2 := [some (.ref (A 0)), some (.int (nI (K + 1)))]) ⟨rfl, rfl, trivial⟩ ?_
      rw [cp_up (D := 287) (g := s) (K := K) (by omega) (cp_out (by omega))]
      exact ih (K + 1) (by omega)
theorem l_copies0 {G : zE} {A : Nat → Nat} (hA : zinj A 5) {s pa ke no f : Nat → Int32} {h0 : zH} {d k n : Nat} {Q : Option Value → zH → Prop} {X : String → zH → Prop} (hx : zV G fX3_copies d 31 [some (.ref (A 0)), none] [] (mdl G A (cp 287 s 287 s) pa ke no f h0) k n Q X) : zV G fX3_copies d 2 [some (.ref (A 0)), some (.int (nI 0))] [] (mdl G A s pa ke no f h0) k n Q X := by
  have e := l_copies hA hx 287 0 (by omega)
  rw [cp_0] at e
  exact e
set_option maxHeartbeats 4000000 in
theorem l_records1 {G : zE} {A : Nat → Nat} (hA : zinj A 5) {s pa ke no f : Nat → Int32} {h0 : zH} {d k n : Nat} {Q : Option Value → zH → Prop} {X : String → zH → Prop} (hx : zV G fX3_records d 39 [some (.ref (A 0)), none] [] (mdl G A s (cp 0 (fun j => pa (287 + j)) 861 pa) ke no f h0) k n Q X) : ∀ (j K : Nat), K + j = 861 → zV G fX3_records d 10 [some (.ref (A 0)), some (.int (nI K))] [] (mdl G A s (cp 0 (fun j => pa (287 + j)) K pa) ke no f h0) k n Q X := by
  intro j
  induction j with
  | zero =>
    intro K hK
    have hK9 : K = 861 := by omega
    subst hK9
    refine z_iload_n dX3_records_10 rfl ?_
    refine z_sipush dX3_records_11 (v := 861) rfl ?_
    refine z_icmp_ge (tgt := 39) dX3_records_14 (by decide) (fun hg => ?_) (fun hg => ?_)
    ·
      refine z_loc (L2 := [some (.ref (A 0)), none]) ⟨rfl, trivial⟩ ?_
      exact hx
    · exact absurd (by rw [zk 861]; exact Int32.le_refl _) hg
  | succ j ih =>
    intro K hK
    refine z_iload_n dX3_records_10 rfl ?_
    refine z_sipush dX3_records_11 (v := 861) rfl ?_
    refine z_icmp_ge (tgt := 39) dX3_records_14 (by decide) (fun hg => ?_) (fun hg => ?_)
    · exact absurd hg (by rw [zk 861]; exact nI_ge (by omega) (by omega))
    ·
      refine z_aload_n dX3_records_17 rfl ?_
      refine zm_get 1 dX3_records_18 q1743 rfl rfl ?_
      refine z_iload_n dX3_records_21 rfl ?_
      refine z_aload_n dX3_records_22 rfl ?_
      refine zm_get 1 dX3_records_23 q1743 rfl rfl ?_
      refine z_sipush dX3_records_26 (v := 287) rfl ?_
      refine z_iload_n dX3_records_29 rfl ?_
      refine z_iadd dX3_records_30 ?_
      refine z_iald dX3_records_31 (mdl_2 hA) (zn_to (zn_add (zk 287) rfl) rfl) (by omega) (by omega) ?_
      refine z_iast dX3_records_32 (mdl_2 hA) (zn_to (rfl) rfl) (by omega) (by omega) ?_
      rw [mdl_w2 hA]
      refine z_iinc dX3_records_33 rfl (v := nI (K + 1)) (z_inc rfl) ?_
      refine z_goto (tgt := 10) dX3_records_36 (by decide) ?_
      refine z_loc (L2 := [some (.ref (A 0)), some (.int (nI (K + 1)))]) ⟨rfl, rfl, trivial⟩ ?_
      rw [cp_up (D := 0) (g := (fun j => pa (287 + j))) (K := K) (by omega) (cp_out (by omega))]
      exact ih (K + 1) (by omega)
theorem l_records10 {G : zE} {A : Nat → Nat} (hA : zinj A 5) {s pa ke no f : Nat → Int32} {h0 : zH} {d k n : Nat} {Q : Option Value → zH → Prop} {X : String → zH → Prop} (hx : zV G fX3_records d 39 [some (.ref (A 0)), none] [] (mdl G A s (cp 0 (fun j => pa (287 + j)) 861 pa) ke no f h0) k n Q X) : zV G fX3_records d 10 [some (.ref (A 0)), some (.int (nI 0))] [] (mdl G A s pa ke no f h0) k n Q X := by
  have e := l_records1 hA hx 861 0 (by omega)
  rw [cp_0] at e
  exact e
set_option maxHeartbeats 4000000 in
theorem l_records2 {G : zE} {A : Nat → Nat} (hA : zinj A 5) {s pa ke no f : Nat → Int32} {h0 : zH} {Kn : Nat} (hKn : f 2 = nI Kn) (lKn : Kn ≤ 3) {d k n : Nat} {Q : Option Value → zH → Prop} {X : String → zH → Prop} (hx : zV G fX3_records d 85 [some (.ref (A 0)), none] [] (mdl G A s (cp (287 * Kn) s 287 pa) ke no f h0) k n Q X) : ∀ (j K : Nat), K + j = 287 → zV G fX3_records d 51 [some (.ref (A 0)), some (.int (nI K))] [] (mdl G A s (cp (287 * Kn) s K pa) ke no f h0) k n Q X := by
  intro j
  induction j with
  | zero =>
    intro K hK
    have hK9 : K = 287 := by omega
    subst hK9
    refine z_iload_n dX3_records_51 rfl ?_
    refine z_sipush dX3_records_52 (v := 287) rfl ?_
    refine z_icmp_ge (tgt := 85) dX3_records_55 (by decide) (fun hg => ?_) (fun hg => ?_)
    ·
      refine z_loc (L2 := [some (.ref (A 0)), none]) ⟨rfl, trivial⟩ ?_
      exact hx
    · exact absurd (by rw [zk 287]; exact Int32.le_refl _) hg
  | succ j ih =>
    intro K hK
    refine z_iload_n dX3_records_51 rfl ?_
    refine z_sipush dX3_records_52 (v := 287) rfl ?_
    refine z_icmp_ge (tgt := 85) dX3_records_55 (by decide) (fun hg => ?_) (fun hg => ?_)
    · exact absurd hg (by rw [zk 287]; exact nI_ge (by omega) (by omega))
    ·
      refine z_aload_n dX3_records_58 rfl ?_
      refine zm_get 1 dX3_records_59 q1743 rfl rfl ?_
      refine z_sipush dX3_records_62 (v := 287) rfl ?_
      refine z_aload_n dX3_records_65 rfl ?_
      refine zm_get 2 (v := .int (nI Kn)) dX3_records_66 q1744 rfl (congrArg (fun z => some (Value.int z)) hKn) ?_
      refine z_imul dX3_records_69 ?_
      refine z_iload_n dX3_records_70 rfl ?_
      refine z_iadd dX3_records_71 ?_
      refine z_aload_n dX3_records_72 rfl ?_
      refine zm_get 0 dX3_records_73 q1742 rfl rfl ?_
      refine z_iload_n dX3_records_76 rfl ?_
      refine z_iald dX3_records_77 (mdl_1 hA) (zn_to (rfl) rfl) (by omega) (by omega) ?_
      refine z_iast dX3_records_78 (mdl_2 hA) (zn_to (zn_add (zn_mul (zk 287) rfl) rfl) rfl) (by omega) (by omega) ?_
      rw [mdl_w2 hA]
      refine z_iinc dX3_records_79 rfl (v := nI (K + 1)) (z_inc rfl) ?_
      refine z_goto (tgt := 51) dX3_records_82 (by decide) ?_
      refine z_loc (L2 := [some (.ref (A 0)), some (.int (nI (K + 1)))]) ⟨rfl, rfl, trivial⟩ ?_
      rw [cp_up (D := (287 * Kn)) (g := s) (K := K) (by omega) (rfl)]
      exact ih (K + 1) (by omega)
theorem l_records20 {G : zE} {A : Nat → Nat} (hA : zinj A 5) {s pa ke no f : Nat → Int32} {h0 : zH} {Kn : Nat} (hKn : f 2 = nI Kn) (lKn : Kn ≤ 3) {d k n : Nat} {Q : Option Value → zH → Prop} {X : String → zH → Prop} (hx : zV G fX3_records d 85 [some (.ref (A 0)), none] [] (mdl G A s (cp (287 * Kn) s 287 pa) ke no f h0) k n Q X) : zV G fX3_records d 51 [some (.ref (A 0)), some (.int (nI 0))] [] (mdl G A s pa ke no f h0) k n Q X := by
  have e := l_records2 hA hKn lKn hx 287 0 (by omega)
  rw [cp_0] at e
  exact e
set_option maxHeartbeats 4000000 in
theorem k_records4 {G : zE} {A : Nat → Nat} (hA : zinj A 5) {σ s pa ke no f : Nat → Int32} {h0 : zH} (hKn : f 2 = nI 4) {d : Nat} (hd : 1 ≤ d) : zCon G fX3_records d 0 0 [.ref (A 0)] (mdl G A (zput 0 σ s) pa ke no f h0) (zAv (mdl G A (zput 0 σ s) (cp (287 * 3) σ 287 (cp 0 (fun j => pa (287 + j)) 861 pa)) ke no (upd f 2 (nI 4)) h0)) nX := by
  refine zCon.of9 (L := [some (.ref (A 0)), none]) (by simp [Value.category]) (Nat.le_of_ble_eq_true rfl) pX3 rfl rfl ?_
  refine z_aload_n dX3_records_0 rfl ?_
  refine zm_get 2 (v := .int (nI 4)) dX3_records_1 q1744 rfl (congrArg (fun z => some (Value.int z)) hKn) ?_
  refine z_iconst dX3_records_4 (v := 4) rfl ?_
  refine z_icmp_ne (tgt := 49) dX3_records_5 (by decide) (fun hb => ?_) (fun hb => ?_)
  · exact absurd rfl hb
  ·
    refine z_iconst dX3_records_8 (v := 0) rfl ?_
    refine z_istore_n dX3_records_9 (by decide) ?_
    refine z_loc (L2 := [some (.ref (A 0)), some (.int 0)]) ⟨rfl, rfl, trivial⟩ ?_
    refine l_records10 hA ?_
    refine z_aload_n dX3_records_39 rfl ?_
    refine z_dup dX3_records_40 rfl ?_
    refine zm_get 2 (v := .int (nI 4)) dX3_records_41 q1744 rfl (congrArg (fun z => some (Value.int z)) hKn) ?_
    refine z_iconst dX3_records_44 (v := 1) rfl ?_
    refine z_isub dX3_records_45 ?_
    refine zm_put 2 dX3_records_46 q1744 rfl rfl rfl rfl rfl ?_
    refine z_iconst dX3_records_49 (v := 0) rfl ?_
    refine z_istore_n dX3_records_50 (by decide) ?_
    refine z_loc (L2 := [some (.ref (A 0)), some (.int 0)]) ⟨rfl, rfl, trivial⟩ ?_
    refine l_records20 hA (Kn := 3) rfl (by omega) ?_
    refine z_aload_n dX3_records_85 rfl ?_
    refine z_dup dX3_records_86 rfl ?_
    refine zm_get 2 dX3_records_87 q1744 rfl rfl ?_
    refine z_iconst dX3_records_90 (v := 1) rfl ?_
    refine z_iadd dX3_records_91 ?_
    refine zm_put 2 dX3_records_92 q1744 rfl rfl rfl rfl rfl ?_
    refine z_vret dX3_records_95 rfl ⟨rfl, by rw [cp_z0, upd_uu]; rfl⟩
set_option maxHeartbeats 4000000 in
theorem k_recordsK {G : zE} {A : Nat → Nat} (hA : zinj A 5) {σ s pa ke no f : Nat → Int32} {h0 : zH} {Kn : Nat} (hKn : f 2 = nI Kn) (lKn : Kn < 4) {d : Nat} (hd : 1 ≤ d) : zCon G fX3_records d 0 0 [.ref (A 0)] (mdl G A (zput 0 σ s) pa ke no f h0) (zAv (mdl G A (zput 0 σ s) (cp (287 * Kn) σ 287 pa) ke no (upd f 2 (nI (Kn + 1))) h0)) nX := by
  refine zCon.of9 (L := [some (.ref (A 0)), none]) (by simp [Value.category]) (Nat.le_of_ble_eq_true rfl) pX3 rfl rfl ?_
  refine z_aload_n dX3_records_0 rfl ?_
  refine zm_get 2 (v := .int (nI Kn)) dX3_records_1 q1744 rfl (congrArg (fun z => some (Value.int z)) hKn) ?_
  refine z_iconst dX3_records_4 (v := 4) rfl ?_
  refine z_icmp_ne (tgt := 49) dX3_records_5 (by decide) (fun hb => ?_) (fun hb => ?_)
  rotate_left
  · exact absurd hb (by rw [zk 4]; exact fun e => absurd ((nI_eq (by omega) (by omega)).mp e) (by omega))
  ·
    refine z_iconst dX3_records_49 (v := 0) rfl ?_
    refine z_istore_n dX3_records_50 (by decide) ?_
    refine z_loc (L2 := [some (.ref (A 0)), some (.int 0)]) ⟨rfl, rfl, trivial⟩ ?_
    refine l_records20 hA hKn (by omega) ?_
    refine z_aload_n dX3_records_85 rfl ?_
    refine z_dup dX3_records_86 rfl ?_
    refine zm_get 2 (v := .int (nI Kn)) dX3_records_87 q1744 rfl (congrArg (fun z => some (Value.int z)) hKn) ?_
    refine z_iconst dX3_records_90 (v := 1) rfl ?_
    refine z_iadd dX3_records_91 ?_
    refine zm_put 2 dX3_records_92 q1744 rfl rfl rfl rfl rfl ?_
    refine z_vret dX3_records_95 rfl ⟨rfl, by rw [cp_z0, nI_1]⟩
theorem k_records {G : zE} {A : Nat → Nat} (hA : zinj A 5) {σ s pa ke no f : Nat → Int32} {h0 : zH} {Kn : Nat} (hKn : f 2 = nI Kn) (lKn : Kn ≤ 4) {d : Nat} (hd : 1 ≤ d) : zCon G fX3_records d 0 0 [.ref (A 0)] (mdl G A (zput 0 σ s) pa ke no f h0) (zAv (mdl G A (zput 0 σ s) (zpa σ Kn pa) ke no (upd f 2 (nI (zkn Kn))) h0)) nX := by
  by_cases h : Kn = 4
  · subst h
    exact k_records4 hA hKn hd
  · unfold zpa zkn
    rw [if_neg h, if_neg h]
    exact k_recordsK hA hKn (by omega) hd
