/-! THE REFERENCE, part 10: what would be, tried in the row beside -/
set_option maxRecDepth 100000
theorem cp_s {σ s : Nat → Int32} : cp 287 (zput 0 σ s) 287 (zput 0 σ s) = zput 287 σ (zput 0 σ s) := by
  rw [cp_z0]; rfl
theorem cp_s1 {σ τ s : Nat → Int32} : cp 287 (zput 287 τ (zput 0 σ s)) 287 (zput 287 τ (zput 0 σ s)) = zput 287 σ (zput 0 σ s) := by
  funext q
  unfold cp
  by_cases h : 287 ≤ q ∧ q < 287 + 287
  · rw [if_pos h, zs2 (by omega)]
    exact (if_pos h).symm
  · rw [if_neg h]
    unfold zput
    rw [if_neg h, if_neg h]
theorem zcomm {σ τ s : Nat → Int32} : zput 287 τ (zput 0 σ s) = zput 0 σ (zput 287 τ s) := (zput_comm (by decide)).symm
theorem k_copies_ {G : zE} {A : Nat → Nat} (hA : zinj A 5) {s pa ke no f : Nat → Int32} {h0 : zH} {d : Nat} (hd : 1 ≤ d) : zCon G fX3_copies d 0 0 [.ref (A 0)] (mdl G A s pa ke no f h0) (zAv (mdl G A (cp 287 s 287 s) pa ke no f h0)) nX := by
  refine zCon.of9 (L := [some (.ref (A 0)), none]) (by simp [Value.category]) (Nat.le_of_ble_eq_true rfl) pX3 rfl rfl ?_
  refine z_iconst dX3_copies_0 (v := 0) rfl ?_
  refine z_istore_n dX3_copies_1 (by decide) ?_
  refine l_copies0 hA ?_
  refine z_vret dX3_copies_31 rfl ⟨rfl, rfl⟩
theorem k_copies {G : zE} {A : Nat → Nat} (hA : zinj A 5) {σ s pa ke no f : Nat → Int32} {h0 : zH} {d : Nat} (hd : 1 ≤ d) : zCon G fX3_copies d 0 0 [.ref (A 0)] (mdl G A (zput 0 σ s) pa ke no f h0) (zAv (mdl G A (zput 287 σ (zput 0 σ s)) pa ke no f h0)) nX := by
  have e := k_copies_ (G := G) hA (s := zput 0 σ s) (pa := pa) (ke := ke) (no := no) (f := f) (h0 := h0) hd
  rw [cp_s] at e
  exact e
theorem k_copies1 {G : zE} {A : Nat → Nat} (hA : zinj A 5) {σ s pa ke no f : Nat → Int32} {h0 : zH} {τ : Nat → Int32} {d : Nat} (hd : 1 ≤ d) : zCon G fX3_copies d 0 0 [.ref (A 0)] (mdl G A (zput 287 τ (zput 0 σ s)) pa ke no f h0) (zAv (mdl G A (zput 287 σ (zput 0 σ s)) pa ke no f h0)) nX := by
  have e := k_copies_ (G := G) hA (s := zput 287 τ (zput 0 σ s)) (pa := pa) (ke := ke) (no := no) (f := f) (h0 := h0) hd
  rw [cp_s1] at e
  exact e
theorem k_hoursOf {G : zE} {A : Nat → Nat} (hA : zinj A 5) {s pa ke no f : Nat → Int32} {h0 : zH} {T H : Nat} (hs : s 0 = nI T) (lT : T ≤ 999) {x : Int32} (hx : x = nI H) (hH : H < 2 ^ 31) {d : Nat} (hd : 1 ≤ d) : zCon G fX3_hoursOf d 0 0 [.ref (A 0), .int x] (mdl G A s pa ke no f h0) (zA (.int (nI (zho T H))) (mdl G A s pa ke no f h0)) nX := by
  refine zCon.of9 (L := [some (.ref (A 0)), some (.int x)]) (by simp [Value.category]) (Nat.le_of_ble_eq_true rfl) pX3 rfl rfl ?_
  refine z_sipush dX3_hoursOf_0 (v := 999) rfl ?_
  refine z_aload_n dX3_hoursOf_3 rfl ?_
  refine zm_get 0 dX3_hoursOf_4 q1742 rfl rfl ?_
  refine z_iconst dX3_hoursOf_7 (v := 0) rfl ?_
  refine z_iald dX3_hoursOf_8 (mdl_1 hA) (zn_to (zk 0) rfl) (by omega) (by omega) ?_
  refine z_isub dX3_hoursOf_9 ?_
  refine z_iload_n dX3_hoursOf_10 rfl ?_
  refine z_join 28 (.int (if x ≤ (999 - (s 0)) then x else (999 - (s 0)))) 2 ?_ (fun hJ => ?_)
  rotate_left
  ·
    refine z_icmp_ge (tgt := 27) dX3_hoursOf_11 (by decide) (fun c_1 => ?_) (fun c_1 => ?_)
    ·
      refine z_iload_n dX3_hoursOf_27 rfl ?_
      exact z_jv (by simp only [if_pos c_1] <;> rfl) hJ
    ·
      refine z_sipush dX3_hoursOf_14 (v := 999) rfl ?_
      refine z_aload_n dX3_hoursOf_17 rfl ?_
      refine zm_get 0 dX3_hoursOf_18 q1742 rfl rfl ?_
      refine z_iconst dX3_hoursOf_21 (v := 0) rfl ?_
      refine z_iald dX3_hoursOf_22 (mdl_1 hA) (zn_to (zk 0) rfl) (by omega) (by omega) ?_
      refine z_isub dX3_hoursOf_23 ?_
      refine z_goto (tgt := 28) dX3_hoursOf_24 (by decide) ?_
      exact z_jv (by simp only [if_neg c_1] <;> rfl) hJ
  refine z_ret dX3_hoursOf_28 rfl rfl ⟨congrArg (fun z => some (Value.int z)) (zho_nI hs lT hx hH), rfl⟩
section
variable {G : zE} {F : zF} {d pc k n : Nat} {L : List (Option Value)} {st : List Value} {Q : Option Value → zH → Prop} {X : String → zH → Prop} {A : Nat → Nat} {σ τ s pa ke no f : Nat → Int32} {h0 : zH}
theorem zm_ld1 (hA : zinj A 5) (j : Nat) {i : Int32} {v : Int32} (dd : decode F.2.1 pc = .ok (.iaload, 1)) (hi : i = nI j) (hj : j < 287) (hv : σ j = v)
    (kk : zV G F d (pc + 1) L (.int v :: st) (mdl G A (zput 287 τ (zput 0 σ s)) pa ke no f h0) k n Q X) : zV G F d pc L (.int i :: .ref (A 1) :: st) (mdl G A (zput 287 τ (zput 0 σ s)) pa ke no f h0) k n Q X := by
  refine z_iald dd (mdl_1 hA) hi (by omega) (by omega) ?_
  rw [zs2 hj, hv]
  exact kk
end
theorem zok_lays {σ : Nat → Int32} {NL NS NC : Nat} {pool size : Int32} (hok : zok σ NL NS NC) (h25 : NS ≤ 25) : zok (zr_laysShell σ NS pool size) NL (NS + 1) NC := by
  obtain ⟨bL, bS, bC⟩ := hok.b
  unfold zr_laysShell
  have e : ∀ j, j ≠ 132 → ¬ (133 + 3 * NS ≤ j ∧ j < 133 + 3 * NS + 3) → upd (upd (upd (upd σ (133 + 3 * NS) size) (133 + 3 * NS + 1) pool) (133 + 3 * NS + 2) (-1)) 132 (σ 132 + 1) j = σ j := by
    intro j h1 h2
    rw [upd_n h1, upd_n (by omega), upd_n (by omega), upd_n (by omega)]
  refine ⟨⟨bL, by omega, bC⟩, ⟨by rw [e _ (by omega) (by omega)]; exact hok.nl, by rw [upd_s, hok.ns, nI_1], by rw [e _ (by omega) (by omega)]; exact hok.nc⟩, fun k hk => ?_, fun k hk => ?_, fun k hk => ?_, ?_, ?_, ?_⟩
  · rw [e _ (by omega) (by omega)]; exact hok.lp hk
  · rw [e _ (by omega) (by omega)]; exact hok.cp hk
  · rw [e _ (by omega) (by omega)]; intro hn
    exact ⟨(hok.cw hk hn).1, Nat.lt_succ_of_lt (hok.cw hk hn).2⟩
  · rw [e _ (by omega) (by omega)]; exact hok.hp
  · rw [e _ (by omega) (by omega)]; exact hok.pz
  · rw [e _ (by omega) (by omega)]; exact hok.p0
def zf_chain (σ : Nat → Int32) (NS NC : Nat) (pool size : Int32) : Int32 := zf_changes (zr_laysShell σ NS pool size) (NS + 1) NC
set_option maxHeartbeats 4000000 in
theorem k_chain {G : zE} {A : Nat → Nat} (hA : zinj A 5) {σ s pa ke no f : Nat → Int32} {h0 : zH} {NL NS NC : Nat} (hok : zok σ NL NS NC) (h25 : NS ≤ 25) {pool size : Int32} {d : Nat} (hd : 7 ≤ d) : zCon G fX3_chain d 0 0 [.ref (A 0), .int pool, .int size] (mdl G A (zput 0 σ s) pa ke no f h0) (zA (.int (zf_chain σ NS NC pool size)) (mdl G A (zput 287 (zr_changes (zr_laysShell σ NS pool size) (NS + 1) NC) (zput 0 σ s)) pa ke no f h0)) nX := by
  refine zCon.of9 (L := [some (.ref (A 0)), some (.int pool), some (.int size)]) (by simp [Value.category]) (Nat.le_of_ble_eq_true rfl) pX3 rfl rfl ?_
  obtain ⟨bL, bS, bC⟩ := hok.b
  refine z_aload_n dX3_chain_0 rfl ?_
  refine z_cVv zc7 mX3_copies (k_copies (d := d - 1) hA (by omega)) dX3_chain_1 q2005 (by omega) rfl (Nat.le_of_ble_eq_true rfl) rfl mdl_0 rfl ?_
  refine z_aload_n dX3_chain_4 rfl ?_
  refine z_sipush dX3_chain_5 (v := 287) rfl ?_
  refine z_iload_n dX3_chain_8 rfl ?_
  refine z_iload_n dX3_chain_9 rfl ?_
  refine z_cVv zc7 mX3_laysShell (k_laysShell (d := d - 1) hA (P := 287) (by decide) (zk 287) hok (by omega)) dX3_chain_10 q1830 (by omega) rfl (Nat.le_of_ble_eq_true rfl) rfl mdl_0 rfl ?_
  refine z_aload_n dX3_chain_13 rfl ?_
  refine z_sipush dX3_chain_14 (v := 287) rfl ?_
  refine z_cV zc7 mX3_changes (k_changes (d := d - 1) hA (P := 287) (by decide) (zk 287) (zok_lays hok h25) (by omega)) dX3_chain_17 q1929 (by omega) rfl (Nat.le_of_ble_eq_true rfl) rfl mdl_0 rfl ?_
  refine z_ret dX3_chain_20 rfl rfl ⟨rfl, rfl⟩
set_option maxHeartbeats 4000000 in
theorem k_chain1 {G : zE} {A : Nat → Nat} (hA : zinj A 5) {σ s pa ke no f : Nat → Int32} {h0 : zH} {NL NS NC : Nat} (hok : zok σ NL NS NC) (h25 : NS ≤ 25) {pool size : Int32} {τ : Nat → Int32} {d : Nat} (hd : 7 ≤ d) : zCon G fX3_chain d 0 0 [.ref (A 0), .int pool, .int size] (mdl G A (zput 287 τ (zput 0 σ s)) pa ke no f h0) (zA (.int (zf_chain σ NS NC pool size)) (mdl G A (zput 287 (zr_changes (zr_laysShell σ NS pool size) (NS + 1) NC) (zput 0 σ s)) pa ke no f h0)) nX := by
  refine zCon.of9 (L := [some (.ref (A 0)), some (.int pool), some (.int size)]) (by simp [Value.category]) (Nat.le_of_ble_eq_true rfl) pX3 rfl rfl ?_
  obtain ⟨bL, bS, bC⟩ := hok.b
  refine z_aload_n dX3_chain_0 rfl ?_
  refine z_cVv zc7 mX3_copies (k_copies1 (d := d - 1) hA (by omega)) dX3_chain_1 q2005 (by omega) rfl (Nat.le_of_ble_eq_true rfl) rfl mdl_0 rfl ?_
  refine z_aload_n dX3_chain_4 rfl ?_
  refine z_sipush dX3_chain_5 (v := 287) rfl ?_
  refine z_iload_n dX3_chain_8 rfl ?_
  refine z_iload_n dX3_chain_9 rfl ?_
  refine z_cVv zc7 mX3_laysShell (k_laysShell (d := d - 1) hA (P := 287) (by decide) (zk 287) hok (by omega)) dX3_chain_10 q1830 (by omega) rfl (Nat.le_of_ble_eq_true rfl) rfl mdl_0 rfl ?_
  refine z_aload_n dX3_chain_13 rfl ?_
  refine z_sipush dX3_chain_14 (v := 287) rfl ?_
  refine z_cV zc7 mX3_changes (k_changes (d := d - 1) hA (P := 287) (by decide) (zk 287) (zok_lays hok h25) (by omega)) dX3_chain_17 q1929 (by omega) rfl (Nat.le_of_ble_eq_true rfl) rfl mdl_0 rfl ?_
  refine z_ret dX3_chain_20 rfl rfl ⟨rfl, rfl⟩
def zr_chainBy_43 (σ : Nat → Int32) (NS NC : Nat) (pool size : Int32) : Nat → Int32 := if ¬ ((if zf_isPool pool then (if zf_in size 1 20 then (0 : Int32) else (2 : Int32)) else (1 : Int32)) ≤ 0) then σ else (zr_changes (zr_laysShell σ NS pool size) (NS + 1) NC)
def zf_chainBy (σ : Nat → Int32) (NS NC : Nat) (pool size : Int32) : Int32 := if ¬ ((if zf_isPool pool then (if zf_in size 1 20 then (0 : Int32) else (2 : Int32)) else (1 : Int32)) ≤ 0) then (0 : Int32) else (zf_chain σ NS NC pool size)
set_option maxHeartbeats 4000000 in
theorem k_chainBy {G : zE} {A : Nat → Nat} (hA : zinj A 5) {σ s pa ke no f : Nat → Int32} {h0 : zH} {NL NS NC : Nat} (hok : zok σ NL NS NC) (h25 : NS ≤ 25) {pool size : Int32} {d : Nat} (hd : 8 ≤ d) : zCon G fX3_chainBy d 0 0 [.ref (A 0), .int pool, .int size] (mdl G A (zput 0 σ s) pa ke no f h0) (zAe (.int (zf_chainBy σ NS NC pool size)) (fun s => mdl G A (zput 0 σ s) pa ke no (upd f 7 (if zf_isPool pool then (if zf_in size 1 20 then (0 : Int32) else (2 : Int32)) else (1 : Int32))) h0)) nX := by
  refine zCon.of9 (L := [some (.ref (A 0)), some (.int pool), some (.int size)]) (by simp [Value.category]) (Nat.le_of_ble_eq_true rfl) pX3 rfl rfl ?_
  obtain ⟨bL, bS, bC⟩ := hok.b
  refine z_aload_n dX3_chainBy_0 rfl ?_
  refine z_iload_n dX3_chainBy_1 rfl ?_
  refine z_cS mX3_isPool (k_isPool (d := d - 1) (by omega)) dX3_chainBy_2 q1790 (by omega) rfl (Nat.le_of_ble_eq_true rfl) rfl ?_
  refine z_join 27 (.int (if zf_isPool pool then (if zf_in size 1 20 then (0 : Int32) else (2 : Int32)) else (1 : Int32))) 1 ?_ (fun hJ => ?_)
  rotate_left
  ·
    refine z_ifB_ne (tgt := 12) dX3_chainBy_5 (by decide) (fun c_1 => ?_) (fun c_1 => ?_)
    ·
      refine z_iload_n dX3_chainBy_12 rfl ?_
      refine z_iconst dX3_chainBy_13 (v := 1) rfl ?_
      refine z_bipush dX3_chainBy_14 (v := 20) rfl ?_
      refine z_cS mX3_in (k_in (d := d - 1) (by omega)) dX3_chainBy_16 q1793 (by omega) rfl (Nat.le_of_ble_eq_true rfl) rfl ?_
      refine z_ifB_eq (tgt := 26) dX3_chainBy_19 (by decide) (fun c_2 => ?_) (fun c_2 => ?_)
      ·
        refine z_iconst dX3_chainBy_26 (v := 2) rfl ?_
        exact z_jv (by simp only [if_pos c_1, if_neg c_2] <;> rfl) hJ
      ·
        refine z_iconst dX3_chainBy_22 (v := 0) rfl ?_
        refine z_goto (tgt := 27) dX3_chainBy_23 (by decide) ?_
        exact z_jv (by simp only [if_pos c_1, if_pos c_2] <;> rfl) hJ
    ·
      refine z_iconst dX3_chainBy_8 (v := 1) rfl ?_
      refine z_goto (tgt := 27) dX3_chainBy_9 (by decide) ?_
      exact z_jv (by simp only [if_neg c_1] <;> rfl) hJ
  refine z_cV zc7 mX3_throwsAt (k_throwsAt (d := d - 1) (by omega)) dX3_chainBy_27 q1796 (by omega) rfl (Nat.le_of_ble_eq_true rfl) rfl mdl_0 rfl ?_
  refine z_ifB_eq (tgt := 37) dX3_chainBy_30 (by decide) (fun c_3 => ?_) (fun c_3 => ?_)
  ·
    refine z_aload_n dX3_chainBy_37 rfl ?_
    refine z_iload_n dX3_chainBy_38 rfl ?_
    refine z_iload_n dX3_chainBy_39 rfl ?_
    refine z_cV zc7 mX3_chain (k_chain (d := d - 1) hA hok h25 (by omega)) dX3_chainBy_40 q2233 (by omega) rfl (Nat.le_of_ble_eq_true rfl) rfl mdl_0 rfl ?_
    refine z_ret dX3_chainBy_43 rfl rfl ⟨by simp only [zf_chainBy, if_neg c_3], _, congrArg (fun z => mdl G A z pa ke no (upd f 7 (if zf_isPool pool then (if zf_in size 1 20 then (0 : Int32) else (2 : Int32)) else (1 : Int32))) h0) zcomm⟩
  ·
    refine z_iconst dX3_chainBy_33 (v := 0) rfl ?_
    refine z_goto (tgt := 43) dX3_chainBy_34 (by decide) ?_
    refine z_ret dX3_chainBy_43 rfl rfl ⟨by simp only [zf_chainBy, if_pos c_3], _, rfl⟩
def zb_bestSize (σ : Nat → Int32) (NS NC : Nat) (pool : Int32) : Nat → Nat → Int32 → Int32 → Int32
  | 0, K, x, y => x
  | j + 1, K, x, y => zb_bestSize σ NS NC pool j (K + 1) (if (zf_chain σ NS NC pool (nI K)) ≤ y then x else (nI K)) (if (zf_chain σ NS NC pool (nI K)) ≤ y then y else (zf_chain σ NS NC pool (nI K)))
set_option maxHeartbeats 4000000 in
theorem l_bestSize {G : zE} {A : Nat → Nat} (hA : zinj A 5) {σ s pa ke no f : Nat → Int32} {h0 : zH} {NL NS NC : Nat} (hok : zok σ NL NS NC) (h25 : NS ≤ 25) {pool : Int32} {d k n : Nat} (hd : 8 ≤ d) : ∀ (j K : Nat) (x : Int32) (y : Int32) (τ : Nat → Int32), K + j = 20 + 1 → zV G fX3_bestSize d 28 [some (.ref (A 0)), some (.int pool), some (.int x), some (.int y), some (.int (nI K)), none] [] (mdl G A (zput 287 τ (zput 0 σ s)) pa ke no f h0) k n (zAe (.int (zb_bestSize σ NS NC pool j K x y)) (fun s => mdl G A (zput 0 σ s) pa ke no f h0)) nX := by
  obtain ⟨bL, bS, bC⟩ := hok.b
  intro j
  induction j with
  | zero =>
    intro K x y τ hK 
    have hK9 : K = 20 + 1 := by omega
    subst hK9
    refine z_iload dX3_bestSize_28 rfl ?_
    refine z_bipush dX3_bestSize_30 (v := 20) rfl ?_
    refine z_icmp_gt (tgt := 76) dX3_bestSize_32 (by decide) (fun hg => ?_) (fun hg => ?_)
    ·
      refine z_iload_n dX3_bestSize_76 rfl ?_
      refine z_ret dX3_bestSize_77 rfl rfl ⟨rfl, _, congrArg (fun z => mdl G A z pa ke no f h0) zcomm⟩
    · exact absurd (by decide) hg
  | succ j ih =>
    intro K x y τ hK 
    refine z_iload dX3_bestSize_28 rfl ?_
    refine z_bipush dX3_bestSize_30 (v := 20) rfl ?_
    refine z_icmp_gt (tgt := 76) dX3_bestSize_32 (by decide) (fun hg => ?_) (fun hg => ?_)
    · exact absurd hg (show ¬ nI 20 < nI K from nI_nlt (by omega) (by omega))
    ·
      refine z_aload_n dX3_bestSize_35 rfl ?_
      refine z_iload_n dX3_bestSize_36 rfl ?_
      refine z_iload dX3_bestSize_37 rfl ?_
      refine z_cV zc7 mX3_chain (k_chain1 (d := d - 1) hA hok h25 (by omega)) dX3_bestSize_39 q2233 (by omega) rfl (Nat.le_of_ble_eq_true rfl) rfl mdl_0 rfl ?_
      refine z_istore dX3_bestSize_42 (by decide) ?_
      refine z_iload dX3_bestSize_44 rfl ?_
      refine z_iload_n dX3_bestSize_46 rfl ?_
      refine z_join 56 (.int (if (zf_chain σ NS NC pool (nI K)) ≤ y then x else (nI K))) 2 ?_ (fun hJ => ?_)
      rotate_left
      ·
        refine z_icmp_le (tgt := 55) dX3_bestSize_47 (by decide) (fun c_1 => ?_) (fun c_1 => ?_)
        ·
          refine z_iload_n dX3_bestSize_55 rfl ?_
          exact z_jv (by simp only [if_pos c_1] <;> rfl) hJ
        ·
          refine z_iload dX3_bestSize_50 rfl ?_
          refine z_goto (tgt := 56) dX3_bestSize_52 (by decide) ?_
          exact z_jv (by simp only [if_neg c_1] <;> rfl) hJ
      refine z_istore_n dX3_bestSize_56 (by decide) ?_
      refine z_iload dX3_bestSize_57 rfl ?_
      refine z_iload_n dX3_bestSize_59 rfl ?_
      refine z_join 69 (.int (if (zf_chain σ NS NC pool (nI K)) ≤ y then y else (zf_chain σ NS NC pool (nI K)))) 2 ?_ (fun hJ => ?_)
      rotate_left
      ·
        refine z_icmp_le (tgt := 68) dX3_bestSize_60 (by decide) (fun c_2 => ?_) (fun c_2 => ?_)
        ·
          refine z_iload_n dX3_bestSize_68 rfl ?_
          exact z_jv (by simp only [if_pos c_2] <;> rfl) hJ
        ·
          refine z_iload dX3_bestSize_63 rfl ?_
          refine z_goto (tgt := 69) dX3_bestSize_65 (by decide) ?_
          exact z_jv (by simp only [if_neg c_2] <;> rfl) hJ
      refine z_istore_n dX3_bestSize_69 (by decide) ?_
      refine z_iinc dX3_bestSize_70 rfl (v := nI (K + 1)) (z_inc rfl) ?_
      refine z_goto (tgt := 28) dX3_bestSize_73 (by decide) ?_
      refine z_loc (L2 := [some (.ref (A 0)), some (.int pool), some (.int (if (zf_chain σ NS NC pool (nI K)) ≤ y then x else (nI K))), some (.int (if (zf_chain σ NS NC pool (nI K)) ≤ y then y else (zf_chain σ NS NC pool (nI K)))), some (.int (nI (K + 1))), none]) ⟨rfl, rfl, rfl, rfl, rfl, trivial⟩ ?_
      exact ih (K + 1) (if (zf_chain σ NS NC pool (nI K)) ≤ y then x else (nI K)) (if (zf_chain σ NS NC pool (nI K)) ≤ y then y else (zf_chain σ NS NC pool (nI K))) (zr_changes (zr_laysShell σ NS pool (nI K)) (NS + 1) NC) (by omega)
theorem zself {σ s : Nat → Int32} : zput 287 (fun j => s (287 + j)) (zput 0 σ s) = zput 0 σ s := by
  rw [zcomm]
  congr 1
  funext q
  unfold zput
  by_cases h : 287 ≤ q ∧ q < 287 + 287
  · rw [if_pos h]
    show s (287 + (q - 287)) = s q
    rw [show 287 + (q - 287) = q by omega]
  · rw [if_neg h]
theorem zn_ne0 {n : Nat} (h : 1 ≤ n) (hn : n < 2 ^ 31) : ¬ nI n = 0 := fun e => nI_nle h hn (by rw [e]; exact Int32.le_refl 0)
theorem zl_bestSize {G : zE} {A : Nat → Nat} (hA : zinj A 5) {σ s pa ke no f : Nat → Int32} {h0 : zH} {NL NS NC : Nat} (hok : zok σ NL NS NC) (h25 : NS ≤ 25) {pool : Int32} {d k n : Nat} (hd : 8 ≤ d) : zV G fX3_bestSize d 28 [some (.ref (A 0)), some (.int pool), some (.int 0), some (.int (-1)), some (.int 1), none] [] (mdl G A (zput 0 σ s) pa ke no f h0) k n (zAe (.int (zb_bestSize σ NS NC pool 20 1 0 (-1))) (fun s => mdl G A (zput 0 σ s) pa ke no f h0)) nX := by
  have e := l_bestSize (G := G) hA hok h25 (pool := pool) (s := s) (pa := pa) (ke := ke) (no := no) (f := f) (h0 := h0) (k := k) (n := n) hd 20 1 0 (-1) (fun j => s (287 + j)) rfl
  rw [zself] at e
  exact e
def zf_bestSize (σ : Nat → Int32) (NS NC : Nat) (pool : Int32) : Int32 := if ¬ ((if ¬ (zf_isPool pool) then (1 : Int32) else 0) ≤ 0) then (0 : Int32) else (zb_bestSize σ NS NC pool 20 1 0 (-1))
set_option maxHeartbeats 4000000 in
theorem k_bestSize {G : zE} {A : Nat → Nat} (hA : zinj A 5) {σ s pa ke no f : Nat → Int32} {h0 : zH} {NL NS NC : Nat} (hok : zok σ NL NS NC) (h25 : NS ≤ 25) {pool : Int32} {d : Nat} (hd : 9 ≤ d) : zCon G fX3_bestSize d 0 0 [.ref (A 0), .int pool] (mdl G A (zput 0 σ s) pa ke no f h0) (zAe (.int (zf_bestSize σ NS NC pool)) (fun s => mdl G A (zput 0 σ s) pa ke no (upd f 7 (if ¬ (zf_isPool pool) then (1 : Int32) else 0)) h0)) nX := by
  refine zCon.of9 (L := [some (.ref (A 0)), some (.int pool), none, none, none, none]) (by simp [Value.category]) (Nat.le_of_ble_eq_true rfl) pX3 rfl rfl ?_
  obtain ⟨bL, bS, bC⟩ := hok.b
  refine z_aload_n dX3_bestSize_0 rfl ?_
  refine z_iload_n dX3_bestSize_1 rfl ?_
  refine z_cS mX3_isPool (k_isPool (d := d - 1) (by omega)) dX3_bestSize_2 q1790 (by omega) rfl (Nat.le_of_ble_eq_true rfl) rfl ?_
  refine z_join 13 (.int (if ¬ (zf_isPool pool) then (1 : Int32) else 0)) 1 ?_ (fun hJ => ?_)
  rotate_left
  ·
    refine z_ifB_eq (tgt := 12) dX3_bestSize_5 (by decide) (fun c_1 => ?_) (fun c_1 => ?_)
    ·
      refine z_iconst dX3_bestSize_12 (v := 1) rfl ?_
      exact z_jv (if_pos c_1) hJ
    ·
      refine z_iconst dX3_bestSize_8 (v := 0) rfl ?_
      refine z_goto (tgt := 13) dX3_bestSize_9 (by decide) ?_
      exact z_jv (if_neg (fun z => z c_1)) hJ
  refine z_cV zc7 mX3_throwsAt (k_throwsAt (d := d - 1) (by omega)) dX3_bestSize_13 q1796 (by omega) rfl (Nat.le_of_ble_eq_true rfl) rfl mdl_0 rfl ?_
  refine z_ifB_eq (tgt := 21) dX3_bestSize_16 (by decide) (fun c_2 => ?_) (fun c_2 => ?_)
  ·
    refine z_iconst dX3_bestSize_21 (v := 0) rfl ?_
    refine z_istore_n dX3_bestSize_22 (by decide) ?_
    refine z_iconst dX3_bestSize_23 (v := (-1)) rfl ?_
    refine z_istore_n dX3_bestSize_24 (by decide) ?_
    refine z_iconst dX3_bestSize_25 (v := 1) rfl ?_
    refine z_istore dX3_bestSize_26 (by decide) ?_
    refine z_loc (L2 := [some (.ref (A 0)), some (.int pool), some (.int 0), some (.int (-1)), some (.int 1), none]) ⟨rfl, rfl, rfl, rfl, rfl, trivial⟩ ?_
    exact z_qe (zl_bestSize hA hok h25 (by omega)) (by simp only [zf_bestSize, if_neg c_2])
  ·
    refine z_iconst dX3_bestSize_19 (v := 0) rfl ?_
    refine z_ret dX3_bestSize_20 rfl rfl ⟨by simp only [zf_bestSize, if_pos c_2], _, rfl⟩
def zf_lostIn (σ : Nat → Int32) (NL NS NC T : Nat) (hours : Int32) : Int32 := if ¬ ((if ¬ (zf_in hours 1 99) then (1 : Int32) else 0) ≤ 0) then (0 : Int32) else (zf_passes σ NL NS NC (zho T hours.toNatClampNeg))
set_option maxHeartbeats 4000000 in
theorem k_lostIn {G : zE} {A : Nat → Nat} (hA : zinj A 5) {σ s pa ke no f : Nat → Int32} {h0 : zH} {NL NS NC : Nat} (hok : zok σ NL NS NC) {T : Nat} (hT : σ 0 = nI T) (lT : T ≤ 999) {hours : Int32} {d : Nat} (hd : 12 ≤ d) : zCon G fX3_lostIn d 0 0 [.ref (A 0), .int hours] (mdl G A (zput 0 σ s) pa ke no f h0) (zAe (.int (zf_lostIn σ NL NS NC T hours)) (fun s => mdl G A (zput 0 σ s) pa ke no (upd f 7 (if ¬ (zf_in hours 1 99) then (1 : Int32) else 0)) h0)) nX := by
  refine zCon.of9 (L := [some (.ref (A 0)), some (.int hours)]) (by simp [Value.category]) (Nat.le_of_ble_eq_true rfl) pX3 rfl rfl ?_
  obtain ⟨bL, bS, bC⟩ := hok.b
  refine z_aload_n dX3_lostIn_0 rfl ?_
  refine z_iload_n dX3_lostIn_1 rfl ?_
  refine z_iconst dX3_lostIn_2 (v := 1) rfl ?_
  refine z_bipush dX3_lostIn_3 (v := 99) rfl ?_
  refine z_cS mX3_in (k_in (d := d - 1) (by omega)) dX3_lostIn_5 q1793 (by omega) rfl (Nat.le_of_ble_eq_true rfl) rfl ?_
  refine z_join 16 (.int (if ¬ (zf_in hours 1 99) then (1 : Int32) else 0)) 1 ?_ (fun hJ => ?_)
  rotate_left
  ·
    refine z_ifB_eq (tgt := 15) dX3_lostIn_8 (by decide) (fun c_1 => ?_) (fun c_1 => ?_)
    ·
      refine z_iconst dX3_lostIn_15 (v := 1) rfl ?_
      exact z_jv (if_pos c_1) hJ
    ·
      refine z_iconst dX3_lostIn_11 (v := 0) rfl ?_
      refine z_goto (tgt := 16) dX3_lostIn_12 (by decide) ?_
      exact z_jv (if_neg (fun z => z c_1)) hJ
  refine z_cV zc7 mX3_throwsAt (k_throwsAt (d := d - 1) (by omega)) dX3_lostIn_16 q1796 (by omega) rfl (Nat.le_of_ble_eq_true rfl) rfl mdl_0 rfl ?_
  refine z_ifB_eq (tgt := 24) dX3_lostIn_19 (by decide) (fun c_2 => ?_) (fun c_2 => ?_)
  ·
    refine z_aload_n dX3_lostIn_24 rfl ?_
    refine z_cVv zc7 mX3_copies (k_copies (d := d - 1) hA (by omega)) dX3_lostIn_25 q2005 (by omega) rfl (Nat.le_of_ble_eq_true rfl) rfl mdl_0 rfl ?_
    refine z_aload_n dX3_lostIn_28 rfl ?_
    refine z_sipush dX3_lostIn_29 (v := 287) rfl ?_
    refine z_aload_n dX3_lostIn_32 rfl ?_
    refine z_iload_n dX3_lostIn_33 rfl ?_
    have lb_3 := (zin_ix (n := 99) (by omega) rfl (by decide) (Decidable.not_not.mp ((zth2 ((Decidable.not_not.mp c_2)) (by decide)).1))).2
    have lb_4 := zho_le (T := T) (H := hours.toNatClampNeg)
    refine z_cV zc7 mX3_hoursOf (k_hoursOf (d := d - 1) hA (T := T) (zs1.trans hT) lT ((zin_ix (n := 99) (by omega) rfl (by decide) (Decidable.not_not.mp ((zth2 ((Decidable.not_not.mp c_2)) (by decide)).1))).1) (by omega) (by omega)) dX3_lostIn_34 q2245 (by omega) rfl (Nat.le_of_ble_eq_true rfl) rfl mdl_0 rfl ?_
    refine z_cV zc7 mX3_passes (k_passes (d := d - 1) hA (P := 287) (by decide) (zk 287) hok rfl (by omega) (by omega)) dX3_lostIn_37 q1873 (by omega) rfl (Nat.le_of_ble_eq_true rfl) rfl mdl_0 rfl ?_
    refine z_ret dX3_lostIn_40 rfl rfl ⟨by simp only [zf_lostIn, if_neg c_2], _, congrArg (fun z => mdl G A z pa ke no (upd f 7 (if ¬ (zf_in hours 1 99) then (1 : Int32) else 0)) h0) zcomm⟩
  ·
    refine z_iconst dX3_lostIn_22 (v := 0) rfl ?_
    refine z_ret dX3_lostIn_23 rfl rfl ⟨by simp only [zf_lostIn, if_pos c_2], _, rfl⟩
def zb_hoursToLive (NL NS NC T b : Nat) : Nat → Nat → (Nat → Int32) → Int32
  | 0, K, τ => (-1)
  | j + 1, K, τ => if (zf_hour τ NL NS NC) ≤ 0 then (zb_hoursToLive NL NS NC T b j (K + 1) (zr_hour τ NL NS NC)) else (if (zr_hour τ NL NS NC (32 + 5 * b + 4)) = 0 then (zb_hoursToLive NL NS NC T b j (K + 1) (zr_hour τ NL NS NC)) else (nI K))
set_option maxHeartbeats 4000000 in
theorem l_hoursToLive {G : zE} {A : Nat → Nat} (hA : zinj A 5) {σ s pa ke no f : Nat → Int32} {h0 : zH} {NL NS NC : Nat} (hok : zok σ NL NS NC) {T : Nat} (hT : σ 0 = nI T) (lT : T ≤ 999) {limpet : Int32} {b : Nat} (hb : limpet = nI b) (lb : b < NL) {d k n : Nat} (hd : 10 ≤ d) : ∀ (j K : Nat) (τ : Nat → Int32), K + j = zho T 99 + 1 → zok τ NL NS NC → zV G fX3_hoursToLive d 47 [some (.ref (A 0)), some (.int limpet), some (.int (nI K)), none] [] (mdl G A (zput 287 τ (zput 0 σ s)) pa ke no f h0) k n (zAe (.int (zb_hoursToLive NL NS NC T b j K τ)) (fun s => mdl G A (zput 0 σ s) pa ke no f h0)) nX := by
  obtain ⟨bL, bS, bC⟩ := hok.b
  intro j
  induction j with
  | zero =>
    intro K  τ hK hinv
    have hK9 : K = zho T 99 + 1 := by omega
    subst hK9
    have hz9 := zho_le (T := T) (H := 99)
    refine z_iload_n dX3_hoursToLive_47 rfl ?_
    refine z_aload_n dX3_hoursToLive_48 rfl ?_
    refine z_bipush dX3_hoursToLive_49 (v := 99) rfl ?_
    have lb_1 := zho_le (T := T) (H := 99)
    refine z_cV zc7 mX3_hoursOf (k_hoursOf (d := d - 1) hA (T := T) (zs1.trans hT) lT (zk 99) (by omega) (by omega)) dX3_hoursToLive_51 q2245 (by omega) rfl (Nat.le_of_ble_eq_true rfl) rfl mdl_0 rfl ?_
    refine z_icmp_gt (tgt := 94) dX3_hoursToLive_54 (by decide) (fun hg => ?_) (fun hg => ?_)
    ·
      refine z_iconst dX3_hoursToLive_94 (v := (-1)) rfl ?_
      refine z_ret dX3_hoursToLive_95 rfl rfl ⟨rfl, _, congrArg (fun z => mdl G A z pa ke no f h0) zcomm⟩
    · exact absurd (nI_lt (by omega) (by omega)) hg
  | succ j ih =>
    intro K  τ hK hinv
    have hz9 := zho_le (T := T) (H := 99)
    refine z_iload_n dX3_hoursToLive_47 rfl ?_
    refine z_aload_n dX3_hoursToLive_48 rfl ?_
    refine z_bipush dX3_hoursToLive_49 (v := 99) rfl ?_
    have lb_1 := zho_le (T := T) (H := 99)
    refine z_cV zc7 mX3_hoursOf (k_hoursOf (d := d - 1) hA (T := T) (zs1.trans hT) lT (zk 99) (by omega) (by omega)) dX3_hoursToLive_51 q2245 (by omega) rfl (Nat.le_of_ble_eq_true rfl) rfl mdl_0 rfl ?_
    refine z_icmp_gt (tgt := 94) dX3_hoursToLive_54 (by decide) (fun hg => ?_) (fun hg => ?_)
    · exact absurd hg (nI_nlt (by omega) (by omega))
    ·
      refine z_aload_n dX3_hoursToLive_57 rfl ?_
      refine z_sipush dX3_hoursToLive_58 (v := 287) rfl ?_
      refine z_cV zc7 mX3_hour (k_hour (d := d - 1) hA (P := 287) (by decide) (zk 287) hinv (by omega)) dX3_hoursToLive_61 q1877 (by omega) rfl (Nat.le_of_ble_eq_true rfl) rfl mdl_0 rfl ?_
      refine z_istore_n dX3_hoursToLive_64 (by decide) ?_
      refine z_iload_n dX3_hoursToLive_65 rfl ?_
      refine z_if_le (tgt := 88) dX3_hoursToLive_66 (by decide) (fun c_2 => ?_) (fun c_2 => ?_)
      ·
        refine z_iinc dX3_hoursToLive_88 rfl (v := nI (K + 1)) (z_inc rfl) ?_
        refine z_goto (tgt := 47) dX3_hoursToLive_91 (by decide) ?_
        refine z_loc (L2 := [some (.ref (A 0)), some (.int limpet), some (.int (nI (K + 1))), none]) ⟨rfl, rfl, rfl, trivial⟩ ?_
        have h9 := ih (K + 1) (zr_hour τ NL NS NC) (by omega) (zok_hour hinv)
        simp only [zb_hoursToLive, if_pos c_2]
        exact h9
      ·
        refine z_aload_n dX3_hoursToLive_69 rfl ?_
        refine zm_get 0 dX3_hoursToLive_70 q1742 rfl rfl ?_
        refine z_sipush dX3_hoursToLive_73 (v := 287) rfl ?_
        refine z_iload_n dX3_hoursToLive_76 rfl ?_
        refine z_cS mX3_limpet (k_limpet (d := d - 1) (zk 287) hb (by omega)) dX3_hoursToLive_77 q1808 (by omega) rfl (Nat.le_of_ble_eq_true rfl) rfl ?_
        refine z_iconst dX3_hoursToLive_80 (v := 4) rfl ?_
        refine z_iadd dX3_hoursToLive_81 ?_
        refine zm_ld hA (by decide) (P := 287) (32 + 5 * b + 4) (v := zr_hour τ NL NS NC (32 + 5 * b + 4)) dX3_hoursToLive_82 (zn_to (zn_add rfl (zk 4)) (by omega)) (by omega) (rfl) ?_
        refine z_if_eq (tgt := 88) dX3_hoursToLive_83 (by decide) (fun c_3 => ?_) (fun c_3 => ?_)
        ·
          refine z_iinc dX3_hoursToLive_88 rfl (v := nI (K + 1)) (z_inc rfl) ?_
          refine z_goto (tgt := 47) dX3_hoursToLive_91 (by decide) ?_
          refine z_loc (L2 := [some (.ref (A 0)), some (.int limpet), some (.int (nI (K + 1))), none]) ⟨rfl, rfl, rfl, trivial⟩ ?_
          have h9 := ih (K + 1) (zr_hour τ NL NS NC) (by omega) (zok_hour hinv)
          simp only [zb_hoursToLive, if_neg c_2, if_pos c_3]
          exact h9
        ·
          refine z_iload_n dX3_hoursToLive_86 rfl ?_
          refine z_ret dX3_hoursToLive_87 rfl rfl ⟨by simp only [zb_hoursToLive, if_neg c_2, if_neg c_3], _, congrArg (fun z => mdl G A z pa ke no f h0) zcomm⟩
def zf_hoursToLive (σ : Nat → Int32) (NL NS NC T : Nat) (limpet : Int32) : Int32 := if ¬ ((if zf_isLimpet σ limpet then (if (σ (32 + 5 * limpet.toNatClampNeg + 4)) = 0 then (0 : Int32) else (2 : Int32)) else (1 : Int32)) ≤ 0) then (0 : Int32) else (zb_hoursToLive NL NS NC T limpet.toNatClampNeg (zho T 99) 1 σ)
set_option maxHeartbeats 4000000 in
theorem k_hoursToLive {G : zE} {A : Nat → Nat} (hA : zinj A 5) {σ s pa ke no f : Nat → Int32} {h0 : zH} {NL NS NC : Nat} (hok : zok σ NL NS NC) {T : Nat} (hT : σ 0 = nI T) (lT : T ≤ 999) {limpet : Int32} {d : Nat} (hd : 11 ≤ d) : zCon G fX3_hoursToLive d 0 0 [.ref (A 0), .int limpet] (mdl G A (zput 0 σ s) pa ke no f h0) (zAe (.int (zf_hoursToLive σ NL NS NC T limpet)) (fun s => mdl G A (zput 0 σ s) pa ke no (upd f 7 (if zf_isLimpet σ limpet then (if (σ (32 + 5 * limpet.toNatClampNeg + 4)) = 0 then (0 : Int32) else (2 : Int32)) else (1 : Int32))) h0)) nX := by
  refine zCon.of9 (L := [some (.ref (A 0)), some (.int limpet), none, none]) (by simp [Value.category]) (Nat.le_of_ble_eq_true rfl) pX3 rfl rfl ?_
  obtain ⟨bL, bS, bC⟩ := hok.b
  refine z_aload_n dX3_hoursToLive_0 rfl ?_
  refine z_aload_n dX3_hoursToLive_1 rfl ?_
  refine z_iload_n dX3_hoursToLive_2 rfl ?_
  refine z_cV zc7 mX3_isLimpet (k_isLimpet (d := d - 1) hA hok (by omega)) dX3_hoursToLive_3 q2109 (by omega) rfl (Nat.le_of_ble_eq_true rfl) rfl mdl_0 rfl ?_
  refine z_join 33 (.int (if zf_isLimpet σ limpet then (if (σ (32 + 5 * limpet.toNatClampNeg + 4)) = 0 then (0 : Int32) else (2 : Int32)) else (1 : Int32))) 1 ?_ (fun hJ => ?_)
  rotate_left
  ·
    refine z_ifB_ne (tgt := 13) dX3_hoursToLive_6 (by decide) (fun c_1 => ?_) (fun c_1 => ?_)
    ·
      refine z_aload_n dX3_hoursToLive_13 rfl ?_
      refine zm_get 0 dX3_hoursToLive_14 q1742 rfl rfl ?_
      refine z_iconst dX3_hoursToLive_17 (v := 0) rfl ?_
      refine z_iload_n dX3_hoursToLive_18 rfl ?_
      have lb_2 := (zin_ixc (by omega) hok.nl c_1).2
      refine z_cS mX3_limpet (k_limpet (d := d - 1) (zk 0) ((zin_ixc (by omega) hok.nl c_1).1) (by omega)) dX3_hoursToLive_19 q1808 (by omega) rfl (Nat.le_of_ble_eq_true rfl) rfl ?_
      refine z_iconst dX3_hoursToLive_22 (v := 4) rfl ?_
      refine z_iadd dX3_hoursToLive_23 ?_
      refine zm_ld hA (by decide) (P := 0) (32 + 5 * limpet.toNatClampNeg + 4) (v := σ (32 + 5 * limpet.toNatClampNeg + 4)) dX3_hoursToLive_24 (zn_to (zn_add rfl (zk 4)) (by omega)) (by omega) (rfl) ?_
      refine z_if_ne (tgt := 32) dX3_hoursToLive_25 (by decide) (fun c_3 => ?_) (fun c_3 => ?_)
      ·
        refine z_iconst dX3_hoursToLive_32 (v := 2) rfl ?_
        exact z_jv (by simp only [if_pos c_1, if_neg c_3] <;> rfl) hJ
      ·
        refine z_iconst dX3_hoursToLive_28 (v := 0) rfl ?_
        refine z_goto (tgt := 33) dX3_hoursToLive_29 (by decide) ?_
        exact z_jv (by simp only [if_pos c_1, if_pos c_3] <;> rfl) hJ
    ·
      refine z_iconst dX3_hoursToLive_9 (v := 1) rfl ?_
      refine z_goto (tgt := 33) dX3_hoursToLive_10 (by decide) ?_
      exact z_jv (by simp only [if_neg c_1] <;> rfl) hJ
  refine z_cV zc7 mX3_throwsAt (k_throwsAt (d := d - 1) (by omega)) dX3_hoursToLive_33 q1796 (by omega) rfl (Nat.le_of_ble_eq_true rfl) rfl mdl_0 rfl ?_
  refine z_ifB_eq (tgt := 41) dX3_hoursToLive_36 (by decide) (fun c_4 => ?_) (fun c_4 => ?_)
  ·
    refine z_aload_n dX3_hoursToLive_41 rfl ?_
    refine z_cVv zc7 mX3_copies (k_copies (d := d - 1) hA (by omega)) dX3_hoursToLive_42 q2005 (by omega) rfl (Nat.le_of_ble_eq_true rfl) rfl mdl_0 rfl ?_
    refine z_iconst dX3_hoursToLive_45 (v := 1) rfl ?_
    refine z_istore_n dX3_hoursToLive_46 (by decide) ?_
    refine z_loc (L2 := [some (.ref (A 0)), some (.int limpet), some (.int 1), none]) ⟨rfl, rfl, rfl, trivial⟩ ?_
    have lb_5 := (zin_ixc (by omega) hok.nl (zth ((Decidable.not_not.mp c_4)) (by decide)).1).2
    exact z_qe (l_hoursToLive hA hok hT lT (zin_ixc (by omega) hok.nl (zth ((Decidable.not_not.mp c_4)) (by decide)).1).1 (by omega) (by omega) (zho T 99) 1 σ (by omega) hok) (by simp only [zf_hoursToLive, if_neg c_4])
  ·
    refine z_iconst dX3_hoursToLive_39 (v := 0) rfl ?_
    refine z_ret dX3_hoursToLive_40 rfl rfl ⟨by simp only [zf_hoursToLive, if_pos c_4], _, rfl⟩
def zb_hoursToChange (σ : Nat → Int32) (NL NS NC T b : Nat) : Nat → Nat → (Nat → Int32) → Int32
  | 0, K, τ => (-1)
  | j + 1, K, τ => if (zf_hour τ NL NS NC) < 0 then (zb_hoursToChange σ NL NS NC T b j (K + 1) (zr_hour τ NL NS NC)) else (if (zr_hour τ NL NS NC (212 + 5 * b + 4)) ≤ (σ (212 + 5 * b + 4)) then (zb_hoursToChange σ NL NS NC T b j (K + 1) (zr_hour τ NL NS NC)) else (nI K))
set_option maxHeartbeats 4000000 in
theorem l_hoursToChange {G : zE} {A : Nat → Nat} (hA : zinj A 5) {σ s pa ke no f : Nat → Int32} {h0 : zH} {NL NS NC : Nat} (hok : zok σ NL NS NC) {T : Nat} (hT : σ 0 = nI T) (lT : T ≤ 999) {crab : Int32} {b : Nat} (hb : crab = nI b) (lb : b < NC) {d k n : Nat} (hd : 10 ≤ d) : ∀ (j K : Nat) (τ : Nat → Int32), K + j = zho T 99 + 1 → zok τ NL NS NC → zV G fX3_hoursToChange d 41 [some (.ref (A 0)), some (.int crab), some (.int (nI K)), none] [] (mdl G A (zput 287 τ (zput 0 σ s)) pa ke no f h0) k n (zAe (.int (zb_hoursToChange σ NL NS NC T b j K τ)) (fun s => mdl G A (zput 0 σ s) pa ke no f h0)) nX := by
  obtain ⟨bL, bS, bC⟩ := hok.b
  intro j
  induction j with
  | zero =>
    intro K  τ hK hinv
    have hK9 : K = zho T 99 + 1 := by omega
    subst hK9
    have hz9 := zho_le (T := T) (H := 99)
    refine z_iload_n dX3_hoursToChange_41 rfl ?_
    refine z_aload_n dX3_hoursToChange_42 rfl ?_
    refine z_bipush dX3_hoursToChange_43 (v := 99) rfl ?_
    have lb_1 := zho_le (T := T) (H := 99)
    refine z_cV zc7 mX3_hoursOf (k_hoursOf (d := d - 1) hA (T := T) (zs1.trans hT) lT (zk 99) (by omega) (by omega)) dX3_hoursToChange_45 q2245 (by omega) rfl (Nat.le_of_ble_eq_true rfl) rfl mdl_0 rfl ?_
    refine z_icmp_gt (tgt := 100) dX3_hoursToChange_48 (by decide) (fun hg => ?_) (fun hg => ?_)
    ·
      refine z_iconst dX3_hoursToChange_100 (v := (-1)) rfl ?_
      refine z_ret dX3_hoursToChange_101 rfl rfl ⟨rfl, _, congrArg (fun z => mdl G A z pa ke no f h0) zcomm⟩
    · exact absurd (nI_lt (by omega) (by omega)) hg
  | succ j ih =>
    intro K  τ hK hinv
    have hz9 := zho_le (T := T) (H := 99)
    refine z_iload_n dX3_hoursToChange_41 rfl ?_
    refine z_aload_n dX3_hoursToChange_42 rfl ?_
    refine z_bipush dX3_hoursToChange_43 (v := 99) rfl ?_
    have lb_1 := zho_le (T := T) (H := 99)
    refine z_cV zc7 mX3_hoursOf (k_hoursOf (d := d - 1) hA (T := T) (zs1.trans hT) lT (zk 99) (by omega) (by omega)) dX3_hoursToChange_45 q2245 (by omega) rfl (Nat.le_of_ble_eq_true rfl) rfl mdl_0 rfl ?_
    refine z_icmp_gt (tgt := 100) dX3_hoursToChange_48 (by decide) (fun hg => ?_) (fun hg => ?_)
    · exact absurd hg (nI_nlt (by omega) (by omega))
    ·
      refine z_aload_n dX3_hoursToChange_51 rfl ?_
      refine z_sipush dX3_hoursToChange_52 (v := 287) rfl ?_
      refine z_cV zc7 mX3_hour (k_hour (d := d - 1) hA (P := 287) (by decide) (zk 287) hinv (by omega)) dX3_hoursToChange_55 q1877 (by omega) rfl (Nat.le_of_ble_eq_true rfl) rfl mdl_0 rfl ?_
      refine z_istore_n dX3_hoursToChange_58 (by decide) ?_
      refine z_iload_n dX3_hoursToChange_59 rfl ?_
      refine z_if_lt (tgt := 94) dX3_hoursToChange_60 (by decide) (fun c_2 => ?_) (fun c_2 => ?_)
      ·
        refine z_iinc dX3_hoursToChange_94 rfl (v := nI (K + 1)) (z_inc rfl) ?_
        refine z_goto (tgt := 41) dX3_hoursToChange_97 (by decide) ?_
        refine z_loc (L2 := [some (.ref (A 0)), some (.int crab), some (.int (nI (K + 1))), none]) ⟨rfl, rfl, rfl, trivial⟩ ?_
        have h9 := ih (K + 1) (zr_hour τ NL NS NC) (by omega) (zok_hour hinv)
        simp only [zb_hoursToChange, if_pos c_2]
        exact h9
      ·
        refine z_aload_n dX3_hoursToChange_63 rfl ?_
        refine zm_get 0 dX3_hoursToChange_64 q1742 rfl rfl ?_
        refine z_sipush dX3_hoursToChange_67 (v := 287) rfl ?_
        refine z_iload_n dX3_hoursToChange_70 rfl ?_
        refine z_cS mX3_crab (k_crab (d := d - 1) (zk 287) hb (by omega)) dX3_hoursToChange_71 q1819 (by omega) rfl (Nat.le_of_ble_eq_true rfl) rfl ?_
        refine z_iconst dX3_hoursToChange_74 (v := 4) rfl ?_
        refine z_iadd dX3_hoursToChange_75 ?_
        refine zm_ld hA (by decide) (P := 287) (212 + 5 * b + 4) (v := zr_hour τ NL NS NC (212 + 5 * b + 4)) dX3_hoursToChange_76 (zn_to (zn_add rfl (zk 4)) (by omega)) (by omega) (rfl) ?_
        refine z_aload_n dX3_hoursToChange_77 rfl ?_
        refine zm_get 0 dX3_hoursToChange_78 q1742 rfl rfl ?_
        refine z_iconst dX3_hoursToChange_81 (v := 0) rfl ?_
        refine z_iload_n dX3_hoursToChange_82 rfl ?_
        refine z_cS mX3_crab (k_crab (d := d - 1) (zk 0) hb (by omega)) dX3_hoursToChange_83 q1819 (by omega) rfl (Nat.le_of_ble_eq_true rfl) rfl ?_
        refine z_iconst dX3_hoursToChange_86 (v := 4) rfl ?_
        refine z_iadd dX3_hoursToChange_87 ?_
        refine zm_ld1 hA (212 + 5 * b + 4) dX3_hoursToChange_88 (zn_to (zn_add rfl (zk 4)) (by omega)) (by omega) rfl ?_
        refine z_icmp_le (tgt := 94) dX3_hoursToChange_89 (by decide) (fun c_3 => ?_) (fun c_3 => ?_)
        ·
          refine z_iinc dX3_hoursToChange_94 rfl (v := nI (K + 1)) (z_inc rfl) ?_
          refine z_goto (tgt := 41) dX3_hoursToChange_97 (by decide) ?_
          refine z_loc (L2 := [some (.ref (A 0)), some (.int crab), some (.int (nI (K + 1))), none]) ⟨rfl, rfl, rfl, trivial⟩ ?_
          have h9 := ih (K + 1) (zr_hour τ NL NS NC) (by omega) (zok_hour hinv)
          simp only [zb_hoursToChange, if_neg c_2, if_pos c_3]
          exact h9
        ·
          refine z_iload_n dX3_hoursToChange_92 rfl ?_
          refine z_ret dX3_hoursToChange_93 rfl rfl ⟨by simp only [zb_hoursToChange, if_neg c_2, if_neg c_3], _, congrArg (fun z => mdl G A z pa ke no f h0) zcomm⟩
def zf_hoursToChange (σ : Nat → Int32) (NL NS NC T : Nat) (crab : Int32) : Int32 := if ¬ ((if zf_isCrab σ crab then (if zf_lives σ crab.toNatClampNeg then (0 : Int32) else (2 : Int32)) else (1 : Int32)) ≤ 0) then (0 : Int32) else (zb_hoursToChange σ NL NS NC T crab.toNatClampNeg (zho T 99) 1 σ)
set_option maxHeartbeats 4000000 in
theorem k_hoursToChange {G : zE} {A : Nat → Nat} (hA : zinj A 5) {σ s pa ke no f : Nat → Int32} {h0 : zH} {NL NS NC : Nat} (hok : zok σ NL NS NC) {T : Nat} (hT : σ 0 = nI T) (lT : T ≤ 999) {crab : Int32} {d : Nat} (hd : 11 ≤ d) : zCon G fX3_hoursToChange d 0 0 [.ref (A 0), .int crab] (mdl G A (zput 0 σ s) pa ke no f h0) (zAe (.int (zf_hoursToChange σ NL NS NC T crab)) (fun s => mdl G A (zput 0 σ s) pa ke no (upd f 7 (if zf_isCrab σ crab then (if zf_lives σ crab.toNatClampNeg then (0 : Int32) else (2 : Int32)) else (1 : Int32))) h0)) nX := by
  refine zCon.of9 (L := [some (.ref (A 0)), some (.int crab), none, none]) (by simp [Value.category]) (Nat.le_of_ble_eq_true rfl) pX3 rfl rfl ?_
  obtain ⟨bL, bS, bC⟩ := hok.b
  refine z_aload_n dX3_hoursToChange_0 rfl ?_
  refine z_aload_n dX3_hoursToChange_1 rfl ?_
  refine z_iload_n dX3_hoursToChange_2 rfl ?_
  refine z_cV zc7 mX3_isCrab (k_isCrab (d := d - 1) hA hok (by omega)) dX3_hoursToChange_3 q2181 (by omega) rfl (Nat.le_of_ble_eq_true rfl) rfl mdl_0 rfl ?_
  refine z_join 27 (.int (if zf_isCrab σ crab then (if zf_lives σ crab.toNatClampNeg then (0 : Int32) else (2 : Int32)) else (1 : Int32))) 1 ?_ (fun hJ => ?_)
  rotate_left
  ·
    refine z_ifB_ne (tgt := 13) dX3_hoursToChange_6 (by decide) (fun c_1 => ?_) (fun c_1 => ?_)
    ·
      refine z_aload_n dX3_hoursToChange_13 rfl ?_
      refine z_iconst dX3_hoursToChange_14 (v := 0) rfl ?_
      refine z_iload_n dX3_hoursToChange_15 rfl ?_
      have lb_2 := (zin_ixc (by omega) hok.nc c_1).2
      refine z_cV zc7 mX3_lives (k_lives (d := d - 1) hA (P := 0) (by decide) (zk 0) ((zin_ixc (by omega) hok.nc c_1).1) (by omega) (by omega)) dX3_hoursToChange_16 q1905 (by omega) rfl (Nat.le_of_ble_eq_true rfl) rfl mdl_0 rfl ?_
      refine z_ifB_eq (tgt := 26) dX3_hoursToChange_19 (by decide) (fun c_3 => ?_) (fun c_3 => ?_)
      ·
        refine z_iconst dX3_hoursToChange_26 (v := 2) rfl ?_
        exact z_jv (by simp only [if_pos c_1, if_neg c_3] <;> rfl) hJ
      ·
        refine z_iconst dX3_hoursToChange_22 (v := 0) rfl ?_
        refine z_goto (tgt := 27) dX3_hoursToChange_23 (by decide) ?_
        exact z_jv (by simp only [if_pos c_1, if_pos c_3] <;> rfl) hJ
    ·
      refine z_iconst dX3_hoursToChange_9 (v := 1) rfl ?_
      refine z_goto (tgt := 27) dX3_hoursToChange_10 (by decide) ?_
      exact z_jv (by simp only [if_neg c_1] <;> rfl) hJ
  refine z_cV zc7 mX3_throwsAt (k_throwsAt (d := d - 1) (by omega)) dX3_hoursToChange_27 q1796 (by omega) rfl (Nat.le_of_ble_eq_true rfl) rfl mdl_0 rfl ?_
  refine z_ifB_eq (tgt := 35) dX3_hoursToChange_30 (by decide) (fun c_4 => ?_) (fun c_4 => ?_)
  ·
    refine z_aload_n dX3_hoursToChange_35 rfl ?_
    refine z_cVv zc7 mX3_copies (k_copies (d := d - 1) hA (by omega)) dX3_hoursToChange_36 q2005 (by omega) rfl (Nat.le_of_ble_eq_true rfl) rfl mdl_0 rfl ?_
    refine z_iconst dX3_hoursToChange_39 (v := 1) rfl ?_
    refine z_istore_n dX3_hoursToChange_40 (by decide) ?_
    refine z_loc (L2 := [some (.ref (A 0)), some (.int crab), some (.int 1), none]) ⟨rfl, rfl, rfl, trivial⟩ ?_
    have lb_5 := (zin_ixc (by omega) hok.nc (zth ((Decidable.not_not.mp c_4)) (by decide)).1).2
    exact z_qe (l_hoursToChange hA hok hT lT (zin_ixc (by omega) hok.nc (zth ((Decidable.not_not.mp c_4)) (by decide)).1).1 (by omega) (by omega) (zho T 99) 1 σ (by omega) hok) (by simp only [zf_hoursToChange, if_neg c_4])
  ·
    refine z_iconst dX3_hoursToChange_33 (v := 0) rfl ?_
    refine z_ret dX3_hoursToChange_34 rfl rfl ⟨by simp only [zf_hoursToChange, if_pos c_4], _, rfl⟩
def zb_mildestPause (σ : Nat → Int32) (NL NS NC T : Nat) : Nat → Nat → Int32 → Int32 → Int32
  | 0, K, x, y => x
  | j + 1, K, x, y => zb_mildestPause σ NL NS NC T j (K + 1) (if x = 0 then (nI K) else (if y ≤ (zf_passes (upd σ 4 (nI K)) NL NS NC (zho T 48)) then x else (nI K))) (if (if x = 0 then (nI K) else (if y ≤ (zf_passes (upd σ 4 (nI K)) NL NS NC (zho T 48)) then x else (nI K))) = (nI K) then (zf_passes (upd σ 4 (nI K)) NL NS NC (zho T 48)) else y)
set_option maxHeartbeats 4000000 in
theorem l_mildestPause {G : zE} {A : Nat → Nat} (hA : zinj A 5) {σ s pa ke no f : Nat → Int32} {h0 : zH} {NL NS NC : Nat} (hok : zok σ NL NS NC) {T : Nat} (hT : σ 0 = nI T) (lT : T ≤ 999) {d k n : Nat} (hd : 12 ≤ d) : ∀ (j K : Nat) (x : Int32) (y : Int32) (τ : Nat → Int32), K + j = 12 + 1 → 1 ≤ K → zV G fX3_mildestPause d 11 [some (.ref (A 0)), some (.int x), some (.int y), some (.int (nI K)), none] [] (mdl G A (zput 287 τ (zput 0 σ s)) pa ke no f h0) k n (zAe (.int (zb_mildestPause σ NL NS NC T j K x y)) (fun s => mdl G A (zput 0 σ s) pa ke no f h0)) nX := by
  obtain ⟨bL, bS, bC⟩ := hok.b
  intro j
  induction j with
  | zero =>
    intro K x y τ hK hinv
    have hK9 : K = 12 + 1 := by omega
    subst hK9
    refine z_iload_n dX3_mildestPause_11 rfl ?_
    refine z_bipush dX3_mildestPause_12 (v := 12) rfl ?_
    refine z_icmp_gt (tgt := 79) dX3_mildestPause_14 (by decide) (fun hg => ?_) (fun hg => ?_)
    ·
      refine z_iload_n dX3_mildestPause_79 rfl ?_
      refine z_ret dX3_mildestPause_80 rfl rfl ⟨rfl, _, congrArg (fun z => mdl G A z pa ke no f h0) zcomm⟩
    · exact absurd (by decide) hg
  | succ j ih =>
    intro K x y τ hK hinv
    refine z_iload_n dX3_mildestPause_11 rfl ?_
    refine z_bipush dX3_mildestPause_12 (v := 12) rfl ?_
    refine z_icmp_gt (tgt := 79) dX3_mildestPause_14 (by decide) (fun hg => ?_) (fun hg => ?_)
    · exact absurd hg (show ¬ nI 12 < nI K from nI_nlt (by omega) (by omega))
    ·
      refine z_aload_n dX3_mildestPause_17 rfl ?_
      refine z_cVv zc7 mX3_copies (k_copies1 (d := d - 1) hA (by omega)) dX3_mildestPause_18 q2005 (by omega) rfl (Nat.le_of_ble_eq_true rfl) rfl mdl_0 rfl ?_
      refine z_aload_n dX3_mildestPause_21 rfl ?_
      refine zm_get 0 dX3_mildestPause_22 q1742 rfl rfl ?_
      refine z_sipush dX3_mildestPause_25 (v := 291) rfl ?_
      refine z_iload_n dX3_mildestPause_28 rfl ?_
      refine zm_st hA (by decide) (P := 287) (4) dX3_mildestPause_29 (zn_to (zk 291) (by omega)) (by omega) ?_
      refine z_aload_n dX3_mildestPause_30 rfl ?_
      refine z_sipush dX3_mildestPause_31 (v := 287) rfl ?_
      refine z_aload_n dX3_mildestPause_34 rfl ?_
      refine z_bipush dX3_mildestPause_35 (v := 48) rfl ?_
      have lb_1 := zho_le (T := T) (H := 48)
      refine z_cV zc7 mX3_hoursOf (k_hoursOf (d := d - 1) hA (T := T) (zs1.trans hT) lT (zk 48) (by omega) (by omega)) dX3_mildestPause_37 q2245 (by omega) rfl (Nat.le_of_ble_eq_true rfl) rfl mdl_0 rfl ?_
      refine z_cV zc7 mX3_passes (k_passes (d := d - 1) hA (P := 287) (by decide) (zk 287) (hok.pzw ⟨zix_nI (by omega) (by omega), zn_ne0 (by omega) (by omega)⟩) rfl (by omega) (by omega)) dX3_mildestPause_40 q1873 (by omega) rfl (Nat.le_of_ble_eq_true rfl) rfl mdl_0 rfl ?_
      refine z_istore dX3_mildestPause_43 (by decide) ?_
      refine z_iload_n dX3_mildestPause_45 rfl ?_
      refine z_join 60 (.int (if x = 0 then (nI K) else (if y ≤ (zf_passes (upd σ 4 (nI K)) NL NS NC (zho T 48)) then x else (nI K)))) 1 ?_ (fun hJ => ?_)
      rotate_left
      ·
        refine z_if_eq (tgt := 55) dX3_mildestPause_46 (by decide) (fun c_2 => ?_) (fun c_2 => ?_)
        ·
          refine z_iload_n dX3_mildestPause_55 rfl ?_
          refine z_goto (tgt := 60) dX3_mildestPause_56 (by decide) ?_
          exact z_jv (by simp only [if_pos c_2] <;> rfl) hJ
        ·
          refine z_iload dX3_mildestPause_49 rfl ?_
          refine z_iload_n dX3_mildestPause_51 rfl ?_
          refine z_icmp_ge (tgt := 59) dX3_mildestPause_52 (by decide) (fun c_3 => ?_) (fun c_3 => ?_)
          ·
            refine z_iload_n dX3_mildestPause_59 rfl ?_
            exact z_jv (by simp only [if_neg c_2, if_pos c_3] <;> rfl) hJ
          ·
            refine z_iload_n dX3_mildestPause_55 rfl ?_
            refine z_goto (tgt := 60) dX3_mildestPause_56 (by decide) ?_
            exact z_jv (by simp only [if_neg c_2, if_neg c_3] <;> rfl) hJ
      refine z_istore_n dX3_mildestPause_60 (by decide) ?_
      refine z_iload_n dX3_mildestPause_61 rfl ?_
      refine z_iload_n dX3_mildestPause_62 rfl ?_
      refine z_join 72 (.int (if (if x = 0 then (nI K) else (if y ≤ (zf_passes (upd σ 4 (nI K)) NL NS NC (zho T 48)) then x else (nI K))) = (nI K) then (zf_passes (upd σ 4 (nI K)) NL NS NC (zho T 48)) else y)) 2 ?_ (fun hJ => ?_)
      rotate_left
      ·
        refine z_icmp_ne (tgt := 71) dX3_mildestPause_63 (by decide) (fun c_4 => ?_) (fun c_4 => ?_)
        ·
          refine z_iload_n dX3_mildestPause_71 rfl ?_
          exact z_jv (by simp only [if_neg c_4] <;> rfl) hJ
        ·
          refine z_iload dX3_mildestPause_66 rfl ?_
          refine z_goto (tgt := 72) dX3_mildestPause_68 (by decide) ?_
          exact z_jv (by simp only [if_pos c_4] <;> rfl) hJ
      refine z_istore_n dX3_mildestPause_72 (by decide) ?_
      refine z_iinc dX3_mildestPause_73 rfl (v := nI (K + 1)) (z_inc rfl) ?_
      refine z_goto (tgt := 11) dX3_mildestPause_76 (by decide) ?_
      refine z_loc (L2 := [some (.ref (A 0)), some (.int (if x = 0 then (nI K) else (if y ≤ (zf_passes (upd σ 4 (nI K)) NL NS NC (zho T 48)) then x else (nI K)))), some (.int (if (if x = 0 then (nI K) else (if y ≤ (zf_passes (upd σ 4 (nI K)) NL NS NC (zho T 48)) then x else (nI K))) = (nI K) then (zf_passes (upd σ 4 (nI K)) NL NS NC (zho T 48)) else y)), some (.int (nI (K + 1))), none]) ⟨rfl, rfl, rfl, rfl, trivial⟩ ?_
      exact ih (K + 1) (if x = 0 then (nI K) else (if y ≤ (zf_passes (upd σ 4 (nI K)) NL NS NC (zho T 48)) then x else (nI K))) (if (if x = 0 then (nI K) else (if y ≤ (zf_passes (upd σ 4 (nI K)) NL NS NC (zho T 48)) then x else (nI K))) = (nI K) then (zf_passes (upd σ 4 (nI K)) NL NS NC (zho T 48)) else y) (zr_passes (upd σ 4 (nI K)) NL NS NC (zho T 48)) (by omega) (by omega)
theorem zl_mildestPause {G : zE} {A : Nat → Nat} (hA : zinj A 5) {σ s pa ke no f : Nat → Int32} {h0 : zH} {NL NS NC : Nat} (hok : zok σ NL NS NC) {T : Nat} (hT : σ 0 = nI T) (lT : T ≤ 999) {d k n : Nat} (hd : 12 ≤ d) : zV G fX3_mildestPause d 11 [some (.ref (A 0)), some (.int 0), some (.int 0), some (.int 1), none] [] (mdl G A (zput 0 σ s) pa ke no f h0) k n (zAe (.int (zb_mildestPause σ NL NS NC T 12 1 0 0)) (fun s => mdl G A (zput 0 σ s) pa ke no f h0)) nX := by
  have e := l_mildestPause (G := G) hA hok hT lT (s := s) (pa := pa) (ke := ke) (no := no) (f := f) (h0 := h0) (k := k) (n := n) hd 12 1 0 0 (fun j => s (287 + j)) rfl (by decide)
  rw [zself] at e
  exact e
def zf_mildestPause (σ : Nat → Int32) (NL NS NC T : Nat) : Int32 := zb_mildestPause σ NL NS NC T 12 1 0 0
set_option maxHeartbeats 4000000 in
theorem k_mildestPause {G : zE} {A : Nat → Nat} (hA : zinj A 5) {σ s pa ke no f : Nat → Int32} {h0 : zH} {NL NS NC : Nat} (hok : zok σ NL NS NC) {T : Nat} (hT : σ 0 = nI T) (lT : T ≤ 999) {d : Nat} (hd : 13 ≤ d) : zCon G fX3_mildestPause d 0 0 [.ref (A 0)] (mdl G A (zput 0 σ s) pa ke no f h0) (zAe (.int (zf_mildestPause σ NL NS NC T)) (fun s => mdl G A (zput 0 σ s) pa ke no (upd f 7 0) h0)) nX := by
  refine zCon.of9 (L := [some (.ref (A 0)), none, none, none, none]) (by simp [Value.category]) (Nat.le_of_ble_eq_true rfl) pX3 rfl rfl ?_
  obtain ⟨bL, bS, bC⟩ := hok.b
  refine z_aload_n dX3_mildestPause_0 rfl ?_
  refine z_iconst dX3_mildestPause_1 (v := 0) rfl ?_
  refine zm_put 7 dX3_mildestPause_2 q1749 rfl rfl rfl rfl rfl ?_
  refine z_iconst dX3_mildestPause_5 (v := 0) rfl ?_
  refine z_istore_n dX3_mildestPause_6 (by decide) ?_
  refine z_iconst dX3_mildestPause_7 (v := 0) rfl ?_
  refine z_istore_n dX3_mildestPause_8 (by decide) ?_
  refine z_iconst dX3_mildestPause_9 (v := 1) rfl ?_
  refine z_istore_n dX3_mildestPause_10 (by decide) ?_
  refine z_loc (L2 := [some (.ref (A 0)), some (.int 0), some (.int 0), some (.int 1), none]) ⟨rfl, rfl, rfl, rfl, trivial⟩ ?_
  exact z_qe (zl_mildestPause hA hok hT lT (by omega)) (by simp only [zf_mildestPause])
