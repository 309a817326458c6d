/-! THE REFERENCE, part 4: changes, the heron, an hour -/
set_option maxRecDepth 100000
def zr_changes_167 (NS NC : Nat) (K : Nat) (x : Int32) (σ : Nat → Int32) : Nat → Int32 := if (if (zf_lives σ (K % NC)) ∧ ((σ (212 + 5 * (K % NC))) = (20 - ((nI K) / (σ 211)))) then (zf_better σ (K % NC) NS (σ (212 + 5 * (K % NC) + 1))) else ((-1) : Int32)) = (-1) then σ else (upd (upd (upd (zr_leaves σ (K % NC)) (212 + 5 * (K % NC) + 2) (if (zf_lives σ (K % NC)) ∧ ((σ (212 + 5 * (K % NC))) = (20 - ((nI K) / (σ 211)))) then (zf_better σ (K % NC) NS (σ (212 + 5 * (K % NC) + 1))) else ((-1) : Int32))) (133 + 3 * ((if (zf_lives σ (K % NC)) ∧ ((σ (212 + 5 * (K % NC))) = (20 - ((nI K) / (σ 211)))) then (zf_better σ (K % NC) NS (σ (212 + 5 * (K % NC) + 1))) else ((-1) : Int32)).toNatClampNeg) + 2) ((nI K) - (nI K) / (σ 211) * (σ 211))) (212 + 5 * (K % NC) + 4) ((zr_leaves σ (K % NC) (212 + 5 * (K % NC) + 4)) + 1))
theorem zok_changes_167 {NS : Nat} {NC : Nat} {K : Nat} {x : Int32} {σ : Nat → Int32} {NL : Nat} (hok : zok σ NL NS NC) (lK : K % NC < NC) : zok (zr_changes_167 NS NC K x σ) NL NS NC := by
  obtain ⟨bL, bS, bC⟩ := hok.b
  unfold zr_changes_167
  exact zok_ite (fun hc0 => hok) (fun hc0 => ((((zok_leaves hok (by omega)).cww (k := (K % NC)) (by omega) (fun _ => ((zix_ite2 (zf_better_ix (by omega)) (fun e => absurd rfl e)) hc0))).shw (k := ((if (zf_lives σ (K % NC)) ∧ ((σ (212 + 5 * (K % NC))) = (20 - ((nI K) / (σ 211)))) then (zf_better σ (K % NC) NS (σ (212 + 5 * (K % NC) + 1))) else ((-1) : Int32)).toNatClampNeg)) (i := 2) (((zix_ite2 (zf_better_ix (by omega)) (fun e => absurd rfl e)) hc0)).2 (by omega)).cfw (k := (K % NC)) (i := 4) (by omega) (by omega)))
def zb_changes (NS NC : Nat) : Nat → Nat → Int32 → (Nat → Int32) → Int32 × (Nat → Int32)
  | 0, _, x, σ => (x, σ)
  | j + 1, K, x, σ => zb_changes NS NC j (K + 1) (if (if (zf_lives σ (K % NC)) ∧ ((σ (212 + 5 * (K % NC))) = (20 - ((nI K) / (σ 211)))) then (zf_better σ (K % NC) NS (σ (212 + 5 * (K % NC) + 1))) else ((-1) : Int32)) = (-1) then x else (x + 1)) (zr_changes_167 NS NC K x σ)
theorem zokb_changes {NS NC : Nat} {NL : Nat} : ∀ (j K : Nat) (x : Int32) (σ : (Nat → Int32)), K + j = 20 * NC → zok σ NL NS NC → zok (zb_changes NS NC j K x σ).2 NL NS NC := by
  intro j
  induction j with
  | zero => intro K x σ _ hok; exact hok
  | succ j ih =>
    intro K x σ hK hok
    obtain ⟨bL, bS, bC⟩ := hok.b
    have hM9 := Nat.mod_lt K (show 0 < NC by omega)
    show zok (zb_changes NS NC j (K + 1) (if (if (zf_lives σ (K % NC)) ∧ ((σ (212 + 5 * (K % NC))) = (20 - ((nI K) / (σ 211)))) then (zf_better σ (K % NC) NS (σ (212 + 5 * (K % NC) + 1))) else ((-1) : Int32)) = (-1) then x else (x + 1)) (zr_changes_167 NS NC K x σ)).2 NL NS NC
    exact ih (K + 1) (if (if (zf_lives σ (K % NC)) ∧ ((σ (212 + 5 * (K % NC))) = (20 - ((nI K) / (σ 211)))) then (zf_better σ (K % NC) NS (σ (212 + 5 * (K % NC) + 1))) else ((-1) : Int32)) = (-1) then x else (x + 1)) (zr_changes_167 NS NC K x σ) (by omega) (zok_changes_167 hok (by omega))
set_option maxHeartbeats 4000000 in
theorem l_changes {G : zE} {A : Nat → Nat} (hA : zinj A 5) {P : Nat} (hP : P ≤ 287) {s pa ke no f : Nat → Int32} {h0 : zH} {p : Int32} (hp : p = nI P) {NL NS NC : Nat} {d k n : Nat} (hd : 5 ≤ d) {Q : Option Value → zH → Prop} {X : String → zH → Prop} : ∀ (j K : Nat) (x : Int32) (σ : (Nat → Int32)), K + j = 20 * NC → zok σ NL NS NC → zV G fX3_changes d 173 [some (.ref (A 0)), some (.int p), some (.int ((zb_changes NS NC j K x σ).1)), none, none, none, none, none] [] (mdl G A (zput P ((zb_changes NS NC j K x σ).2) s) pa ke no f h0) k n Q X → zV G fX3_changes d 4 [some (.ref (A 0)), some (.int p), some (.int x), some (.int (nI K)), none, none, none, none] [] (mdl G A (zput P σ s) pa ke no f h0) k n Q X := by
  intro j
  induction j with
  | zero =>
    intro K x σ hK hinv hx
    have hK9 : K = 20 * NC := by omega
    subst hK9
    refine z_iload_n dX3_changes_4 rfl ?_
    refine z_bipush dX3_changes_5 (v := 20) rfl ?_
    refine z_aload_n dX3_changes_7 rfl ?_
    refine zm_get 0 dX3_changes_8 q1742 rfl rfl ?_
    refine z_iload_n dX3_changes_11 rfl ?_
    refine z_sipush dX3_changes_12 (v := 211) rfl ?_
    refine z_iadd dX3_changes_15 ?_
    refine zm_ld hA hP (P := P) (211) (v := σ 211) dX3_changes_16 (zn_to (zn_add hp (zk 211)) (by omega)) (by omega) (rfl) ?_
    refine z_imul dX3_changes_17 ?_
    refine z_icmp_ge (tgt := 173) dX3_changes_18 (by decide) (fun hg => ?_) (fun hg => ?_)
    ·
      refine z_loc (L2 := [some (.ref (A 0)), some (.int p), some (.int x), none, none, none, none, none]) ⟨rfl, rfl, rfl, trivial⟩ ?_
      exact hx
    · exact absurd (by rw [show (20 : Int32) * σ 211 = nI (20 * NC) from zn_mul (zk 20) hinv.nc]; exact Int32.le_refl _) hg
  | succ j ih =>
    intro K x σ hK hinv hx
    obtain ⟨bL, bS, bC⟩ := hinv.b
    have hN0 : 0 < NC := by omega
    have hM9 := Nat.mod_lt K hN0
    refine z_iload_n dX3_changes_4 rfl ?_
    refine z_bipush dX3_changes_5 (v := 20) rfl ?_
    refine z_aload_n dX3_changes_7 rfl ?_
    refine zm_get 0 dX3_changes_8 q1742 rfl rfl ?_
    refine z_iload_n dX3_changes_11 rfl ?_
    refine z_sipush dX3_changes_12 (v := 211) rfl ?_
    refine z_iadd dX3_changes_15 ?_
    refine zm_ld hA hP (P := P) (211) (v := σ 211) dX3_changes_16 (zn_to (zn_add hp (zk 211)) (by omega)) (by omega) (rfl) ?_
    refine z_imul dX3_changes_17 ?_
    refine z_icmp_ge (tgt := 173) dX3_changes_18 (by decide) (fun hg => ?_) (fun hg => ?_)
    · exact absurd hg (by rw [show (20 : Int32) * σ 211 = nI (20 * NC) from zn_mul (zk 20) hinv.nc]; exact nI_ge (by omega) (by omega))
    ·
      refine z_iload_n dX3_changes_21 rfl ?_
      refine z_aload_n dX3_changes_22 rfl ?_
      refine zm_get 0 dX3_changes_23 q1742 rfl rfl ?_
      refine z_iload_n dX3_changes_26 rfl ?_
      refine z_sipush dX3_changes_27 (v := 211) rfl ?_
      refine z_iadd dX3_changes_30 ?_
      refine zm_ld hA hP (P := P) (211) (v := σ 211) dX3_changes_31 (zn_to (zn_add hp (zk 211)) (by omega)) (by omega) (rfl) ?_
      refine z_irem dX3_changes_32 (by rw [hinv.nc]; exact nI_ne0 (by omega) (by omega)) ?_
      refine z_istore dX3_changes_33 (by decide) ?_
      refine z_iload_n dX3_changes_35 rfl ?_
      refine z_iload dX3_changes_36 rfl ?_
      have lb_1 := Nat.mod_lt K (by omega : 0 < NC)
      refine z_cS mX3_crab (k_crab (d := d - 1) hp (by rw [hinv.nc]; exact pk_rem (by omega) (by omega) (by omega)) (by omega)) dX3_changes_38 q1819 (by omega) rfl (Nat.le_of_ble_eq_true rfl) rfl ?_
      refine z_istore dX3_changes_41 (by decide) ?_
      refine z_aload_n dX3_changes_43 rfl ?_
      refine z_iload_n dX3_changes_44 rfl ?_
      refine z_iload dX3_changes_45 rfl ?_
      refine z_cV zc7 mX3_lives (k_lives (d := d - 1) hA (P := P) hP hp (by rw [hinv.nc]; exact pk_rem (by omega) (by omega) (by omega)) (by omega) (by omega)) dX3_changes_47 q1905 (by omega) rfl (Nat.le_of_ble_eq_true rfl) rfl mdl_0 rfl ?_
      refine z_join 83 (.int (if (zf_lives σ (K % NC)) ∧ ((σ (212 + 5 * (K % NC))) = (20 - ((nI K) / (σ 211)))) then (1 : Int32) else 0)) 1 ?_ (fun hJ => ?_)
      rotate_left
      ·
        refine z_ifB_eq (tgt := 82) dX3_changes_50 (by decide) (fun c_2 => ?_) (fun c_2 => ?_)
        ·
          refine z_iconst dX3_changes_82 (v := 0) rfl ?_
          exact z_jv (if_neg (fun z => c_2 z.1)) hJ
        ·
          refine z_aload_n dX3_changes_53 rfl ?_
          refine zm_get 0 dX3_changes_54 q1742 rfl rfl ?_
          refine z_iload dX3_changes_57 rfl ?_
          refine zm_ld hA hP (P := P) (212 + 5 * (K % NC)) (v := σ (212 + 5 * (K % NC))) dX3_changes_59 (zn_to (rfl) (by omega)) (by omega) (rfl) ?_
          refine z_bipush dX3_changes_60 (v := 20) rfl ?_
          refine z_iload_n dX3_changes_62 rfl ?_
          refine z_aload_n dX3_changes_63 rfl ?_
          refine zm_get 0 dX3_changes_64 q1742 rfl rfl ?_
          refine z_iload_n dX3_changes_67 rfl ?_
          refine z_sipush dX3_changes_68 (v := 211) rfl ?_
          refine z_iadd dX3_changes_71 ?_
          refine zm_ld hA hP (P := P) (211) (v := σ 211) dX3_changes_72 (zn_to (zn_add hp (zk 211)) (by omega)) (by omega) (rfl) ?_
          refine z_idiv dX3_changes_73 (by rw [hinv.nc]; exact nI_ne0 (by omega) (by omega)) ?_
          refine z_isub dX3_changes_74 ?_
          refine z_icmp_ne (tgt := 82) dX3_changes_75 (by decide) (fun c_3 => ?_) (fun c_3 => ?_)
          ·
            refine z_iconst dX3_changes_82 (v := 0) rfl ?_
            exact z_jv (if_neg (fun z => c_3 z.2)) hJ
          ·
            refine z_iconst dX3_changes_78 (v := 1) rfl ?_
            refine z_goto (tgt := 83) dX3_changes_79 (by decide) ?_
            exact z_jv (if_pos (⟨c_2, c_3⟩)) hJ
      refine z_istore dX3_changes_83 (by decide) ?_
      refine z_iload dX3_changes_85 rfl ?_
      refine z_join 110 (.int (if (zf_lives σ (K % NC)) ∧ ((σ (212 + 5 * (K % NC))) = (20 - ((nI K) / (σ 211)))) then (zf_better σ (K % NC) NS (σ (212 + 5 * (K % NC) + 1))) else ((-1) : Int32))) 1 ?_ (fun hJ => ?_)
      rotate_left
      ·
        refine z_ifB_eq (tgt := 109) dX3_changes_87 (by decide) (fun c_4 => ?_) (fun c_4 => ?_)
        ·
          refine z_iconst dX3_changes_109 (v := (-1)) rfl ?_
          exact z_jv (by simp only [if_neg c_4] <;> rfl) hJ
        ·
          refine z_aload_n dX3_changes_90 rfl ?_
          refine z_iload_n dX3_changes_91 rfl ?_
          refine z_iload dX3_changes_92 rfl ?_
          refine z_aload_n dX3_changes_94 rfl ?_
          refine zm_get 0 dX3_changes_95 q1742 rfl rfl ?_
          refine z_iload dX3_changes_98 rfl ?_
          refine z_iconst dX3_changes_100 (v := 1) rfl ?_
          refine z_iadd dX3_changes_101 ?_
          refine zm_ld hA hP (P := P) (212 + 5 * (K % NC) + 1) (v := σ (212 + 5 * (K % NC) + 1)) dX3_changes_102 (zn_to (zn_add rfl (zk 1)) (by omega)) (by omega) (rfl) ?_
          refine z_cV zc7 mX3_better (k_better (d := d - 1) hA (P := P) hP hp hinv (by rw [hinv.nc]; exact pk_rem (by omega) (by omega) (by omega)) (by omega) (by omega)) dX3_changes_103 q1925 (by omega) rfl (Nat.le_of_ble_eq_true rfl) rfl mdl_0 rfl ?_
          refine z_goto (tgt := 110) dX3_changes_106 (by decide) ?_
          exact z_jv (by simp only [if_pos c_4] <;> rfl) hJ
      refine z_istore dX3_changes_110 (by decide) ?_
      refine z_iload dX3_changes_112 rfl ?_
      refine z_iconst dX3_changes_114 (v := (-1)) rfl ?_
      refine z_joinH 167 [some (.ref (A 0)), some (.int p), some (.int (if (if (zf_lives σ (K % NC)) ∧ ((σ (212 + 5 * (K % NC))) = (20 - ((nI K) / (σ 211)))) then (zf_better σ (K % NC) NS (σ (212 + 5 * (K % NC) + 1))) else ((-1) : Int32)) = (-1) then x else (x + 1))), some (.int (nI K)), some (.int ((nI K) - (nI K) / (σ 211) * (σ 211))), some (.int (nI (P + (212 + 5 * (K % NC))))), some (.int (if (zf_lives σ (K % NC)) ∧ ((σ (212 + 5 * (K % NC))) = (20 - ((nI K) / (σ 211)))) then (1 : Int32) else 0)), some (.int (if (zf_lives σ (K % NC)) ∧ ((σ (212 + 5 * (K % NC))) = (20 - ((nI K) / (σ 211)))) then (zf_better σ (K % NC) NS (σ (212 + 5 * (K % NC) + 1))) else ((-1) : Int32)))] (mdl G A (zput P (zr_changes_167 NS NC K x σ) s) pa ke no f h0) 2 ?_ (fun hJ => ?_)
      rotate_left
      ·
        refine z_icmp_eq (tgt := 167) dX3_changes_115 (by decide) (fun c_5 => ?_) (fun c_5 => ?_)
        ·
          exact z_jH (by first | rfl | (simp only [if_pos c_5] <;> rfl)) (by simp only [zr_changes_167, if_pos c_5]) hJ
        ·
          refine z_aload_n dX3_changes_118 rfl ?_
          refine z_iload_n dX3_changes_119 rfl ?_
          refine z_iload dX3_changes_120 rfl ?_
          refine z_cVv zc7 mX3_leaves (k_leaves (d := d - 1) hA (P := P) hP hp hinv (by rw [hinv.nc]; exact pk_rem (by omega) (by omega) (by omega)) (by omega) (by omega)) dX3_changes_122 q1933 (by omega) rfl (Nat.le_of_ble_eq_true rfl) rfl mdl_0 rfl ?_
          refine z_aload_n dX3_changes_125 rfl ?_
          refine zm_get 0 dX3_changes_126 q1742 rfl rfl ?_
          refine z_iload dX3_changes_129 rfl ?_
          refine z_iconst dX3_changes_131 (v := 2) rfl ?_
          refine z_iadd dX3_changes_132 ?_
          refine z_iload dX3_changes_133 rfl ?_
          refine zm_st hA hP (P := P) (212 + 5 * (K % NC) + 2) dX3_changes_135 (zn_to (zn_add rfl (zk 2)) (by omega)) (by omega) ?_
          refine z_aload_n dX3_changes_136 rfl ?_
          refine zm_get 0 dX3_changes_137 q1742 rfl rfl ?_
          refine z_iload_n dX3_changes_140 rfl ?_
          refine z_iload dX3_changes_141 rfl ?_
          have lb_6 := ((zix_ite2 (zf_better_ix (by omega)) (fun e => absurd rfl e)) c_5).2
          refine z_cS mX3_shell (k_shell (d := d - 1) hp (((zix_ite2 (zf_better_ix (by omega)) (fun e => absurd rfl e)) c_5).1) (by omega)) dX3_changes_143 q1834 (by omega) rfl (Nat.le_of_ble_eq_true rfl) rfl ?_
          refine z_iconst dX3_changes_146 (v := 2) rfl ?_
          refine z_iadd dX3_changes_147 ?_
          refine z_iload dX3_changes_148 rfl ?_
          refine zm_st hA hP (P := P) (133 + 3 * ((if (zf_lives σ (K % NC)) ∧ ((σ (212 + 5 * (K % NC))) = (20 - ((nI K) / (σ 211)))) then (zf_better σ (K % NC) NS (σ (212 + 5 * (K % NC) + 1))) else ((-1) : Int32)).toNatClampNeg) + 2) dX3_changes_150 (zn_to (zn_add rfl (zk 2)) (by omega)) (by omega) ?_
          refine z_aload_n dX3_changes_151 rfl ?_
          refine zm_get 0 dX3_changes_152 q1742 rfl rfl ?_
          refine z_iload dX3_changes_155 rfl ?_
          refine z_iconst dX3_changes_157 (v := 4) rfl ?_
          refine z_iadd dX3_changes_158 ?_
          refine z_dup2 dX3_changes_159 rfl rfl ?_
          refine zm_ld hA hP (P := P) (212 + 5 * (K % NC) + 4) (v := zr_leaves σ (K % NC) (212 + 5 * (K % NC) + 4)) dX3_changes_160 (zn_to (zn_add rfl (zk 4)) (by omega)) (by omega) ((pk_un (by omega)).trans ((pk_un (by omega)).trans (rfl))) ?_
          refine z_iconst dX3_changes_161 (v := 1) rfl ?_
          refine z_iadd dX3_changes_162 ?_
          refine zm_st hA hP (P := P) (212 + 5 * (K % NC) + 4) dX3_changes_163 (zn_to (zn_add rfl (zk 4)) (by omega)) (by omega) ?_
          refine z_iinc dX3_changes_164 rfl (v := x + 1) rfl ?_
          exact z_jH (by first | rfl | (simp only [if_neg c_5] <;> rfl)) (by simp only [zr_changes_167, if_neg c_5]) hJ
      refine z_iinc dX3_changes_167 rfl (v := nI (K + 1)) (z_inc rfl) ?_
      refine z_goto (tgt := 4) dX3_changes_170 (by decide) ?_
      refine z_loc (L2 := [some (.ref (A 0)), some (.int p), some (.int (if (if (zf_lives σ (K % NC)) ∧ ((σ (212 + 5 * (K % NC))) = (20 - ((nI K) / (σ 211)))) then (zf_better σ (K % NC) NS (σ (212 + 5 * (K % NC) + 1))) else ((-1) : Int32)) = (-1) then x else (x + 1))), some (.int (nI (K + 1))), none, none, none, none]) ⟨rfl, rfl, rfl, rfl, trivial⟩ ?_
      exact ih (K + 1) (if (if (zf_lives σ (K % NC)) ∧ ((σ (212 + 5 * (K % NC))) = (20 - ((nI K) / (σ 211)))) then (zf_better σ (K % NC) NS (σ (212 + 5 * (K % NC) + 1))) else ((-1) : Int32)) = (-1) then x else (x + 1)) (zr_changes_167 NS NC K x σ) (by omega) (zok_changes_167 hinv (by omega)) hx
def zf_changes (σ : Nat → Int32) (NS NC : Nat) : Int32 := (zb_changes NS NC (20 * NC) 0 (0 : Int32) σ).1
def zr_changes (σ : Nat → Int32) (NS NC : Nat) : Nat → Int32 := (zb_changes NS NC (20 * NC) 0 (0 : Int32) σ).2
theorem zok_changes {σ : Nat → Int32} {NS : Nat} {NC : Nat} {NL : Nat} (hok : zok σ NL NS NC) : zok (zr_changes σ NS NC) NL NS NC := by
  obtain ⟨bL, bS, bC⟩ := hok.b
  unfold zr_changes
  exact (zokb_changes _ _ _ _ (by omega) hok)
set_option maxHeartbeats 4000000 in
theorem k_changes {G : zE} {A : Nat → Nat} (hA : zinj A 5) {P : Nat} (hP : P ≤ 287) {σ s pa ke no f : Nat → Int32} {h0 : zH} {p : Int32} (hp : p = nI P) {NL NS NC : Nat} (hok : zok σ NL NS NC) {d : Nat} (hd : 6 ≤ d) : zCon G fX3_changes d 0 0 [.ref (A 0), .int p] (mdl G A (zput P σ s) pa ke no f h0) (zA (.int (zf_changes σ NS NC)) (mdl G A (zput P (zr_changes σ NS NC) s) pa ke no f h0)) nX := by
  refine zCon.of9 (L := [some (.ref (A 0)), some (.int p), none, none, none, none, none, none]) (by simp [Value.category]) (Nat.le_of_ble_eq_true rfl) pX3 rfl rfl ?_
  refine z_iconst dX3_changes_0 (v := 0) rfl ?_
  refine z_istore_n dX3_changes_1 (by decide) ?_
  refine z_iconst dX3_changes_2 (v := 0) rfl ?_
  refine z_istore_n dX3_changes_3 (by decide) ?_
  refine z_loc (L2 := [some (.ref (A 0)), some (.int p), some (.int 0), some (.int 0), none, none, none, none]) ⟨rfl, rfl, rfl, rfl, trivial⟩ ?_
  refine l_changes hA hP hp (by omega) (20 * NC) 0 (0 : Int32) σ (by omega) hok ?_
  refine z_iload_n dX3_changes_173 rfl ?_
  refine z_ret dX3_changes_174 rfl rfl ⟨rfl, rfl⟩
def zb_next (σ : Nat → Int32) : Nat → Nat → Int32
  | 0, K => (-1)
  | j + 1, K => if zf_isWet σ (((σ 5).toNatClampNeg + K) % 8) then (zb_next σ j (K + 1)) else (((σ 5) + (nI K)) - ((σ 5) + (nI K)) / 8 * 8)
set_option maxHeartbeats 4000000 in
theorem l_next {G : zE} {A : Nat → Nat} (hA : zinj A 5) {P : Nat} (hP : P ≤ 287) {σ s pa ke no f : Nat → Int32} {h0 : zH} {p : Int32} (hp : p = nI P) {NL NS NC : Nat} (hok : zok σ NL NS NC) {d k n : Nat} (hd : 3 ≤ d) : ∀ (j K : Nat), K + j = 9 → zV G fX3_next d 2 [some (.ref (A 0)), some (.int p), some (.int (nI K)), none] [] (mdl G A (zput P σ s) pa ke no f h0) k n (zA (.int (zb_next σ j K)) (mdl G A (zput P σ s) pa ke no f h0)) nX := by
  intro j
  induction j with
  | zero =>
    intro K  hK
    have hK9 : K = 9 := by omega
    subst hK9
    obtain ⟨bL, bS, bC⟩ := hok.b
    refine z_iload_n dX3_next_2 rfl ?_
    refine z_bipush dX3_next_3 (v := 8) rfl ?_
    refine z_icmp_gt (tgt := 39) dX3_next_5 (by decide) (fun hg => ?_) (fun hg => ?_)
    ·
      refine z_iconst dX3_next_39 (v := (-1)) rfl ?_
      refine z_ret dX3_next_40 rfl rfl ⟨rfl, rfl⟩
    · exact absurd (by decide) hg
  | succ j ih =>
    intro K  hK
    obtain ⟨bL, bS, bC⟩ := hok.b
    refine z_iload_n dX3_next_2 rfl ?_
    refine z_bipush dX3_next_3 (v := 8) rfl ?_
    refine z_icmp_gt (tgt := 39) dX3_next_5 (by decide) (fun hg => ?_) (fun hg => ?_)
    · exact absurd hg (by show ¬ nI 8 < nI K; exact nI_nlt (by omega) (by omega))
    ·
      refine z_aload_n dX3_next_8 rfl ?_
      refine zm_get 0 dX3_next_9 q1742 rfl rfl ?_
      refine z_iload_n dX3_next_12 rfl ?_
      refine z_iconst dX3_next_13 (v := 5) rfl ?_
      refine z_iadd dX3_next_14 ?_
      refine zm_ld hA hP (P := P) (5) (v := σ 5) dX3_next_15 (zn_to (zn_add hp (zk 5)) (by omega)) (by omega) (rfl) ?_
      refine z_iload_n dX3_next_16 rfl ?_
      have lb_1 := hok.hp.2
      refine z_iadd dX3_next_17 ?_
      refine z_bipush dX3_next_18 (v := 8) rfl ?_
      refine z_irem dX3_next_20 (by decide) ?_
      refine z_istore_n dX3_next_21 (by decide) ?_
      refine z_aload_n dX3_next_22 rfl ?_
      refine z_iload_n dX3_next_23 rfl ?_
      refine z_iload_n dX3_next_24 rfl ?_
      refine z_cV zc7 mX3_isWet (k_isWet (d := d - 1) hA (P := P) hP hp (zn_rem (zn_add hok.hp.1 rfl) (zk 8) (by omega) (by omega) (by omega)) (by omega) (by omega)) dX3_next_25 q1885 (by omega) rfl (Nat.le_of_ble_eq_true rfl) rfl mdl_0 rfl ?_
      refine z_ifB_ne (tgt := 33) dX3_next_28 (by decide) (fun c_2 => ?_) (fun c_2 => ?_)
      ·
        refine z_iinc dX3_next_33 rfl (v := nI (K + 1)) (z_inc rfl) ?_
        refine z_goto (tgt := 2) dX3_next_36 (by decide) ?_
        refine z_loc (L2 := [some (.ref (A 0)), some (.int p), some (.int (nI (K + 1))), none]) ⟨rfl, rfl, rfl, trivial⟩ ?_
        have h9 := ih (K + 1)  (by omega)
        simp only [zb_next, if_pos c_2]
        exact h9
      ·
        refine z_iload_n dX3_next_31 rfl ?_
        refine z_ret dX3_next_32 rfl rfl ⟨by simp only [zb_next, if_neg c_2], rfl⟩
set_option maxHeartbeats 4000000 in
theorem k_next {G : zE} {A : Nat → Nat} (hA : zinj A 5) {P : Nat} (hP : P ≤ 287) {σ s pa ke no f : Nat → Int32} {h0 : zH} {p : Int32} (hp : p = nI P) {NL NS NC : Nat} (hok : zok σ NL NS NC) {d : Nat} (hd : 4 ≤ d) : zCon G fX3_next d 0 0 [.ref (A 0), .int p] (mdl G A (zput P σ s) pa ke no f h0) (zA (.int (zb_next σ 8 1)) (mdl G A (zput P σ s) pa ke no f h0)) nX := by
  refine zCon.of9 (L := [some (.ref (A 0)), some (.int p), none, none]) (by simp [Value.category]) (Nat.le_of_ble_eq_true rfl) pX3 rfl rfl ?_
  obtain ⟨bL, bS, bC⟩ := hok.b
  refine z_iconst dX3_next_0 (v := 1) rfl ?_
  refine z_istore_n dX3_next_1 (by decide) ?_
  refine z_loc (L2 := [some (.ref (A 0)), some (.int p), some (.int 1), none]) ⟨rfl, rfl, rfl, trivial⟩ ?_
  exact l_next hA hP hp hok (by omega) 8 1 (by omega)
theorem zb_next_ix {σ : Nat → Int32} {NL NS NC : Nat} (hok : zok σ NL NS NC) : ∀ (j K : Nat), K + j ≤ 9 → ¬ zb_next σ j K = -1 → zix (zb_next σ j K) 8 := by
  intro j
  induction j with
  | zero => intro K _ h; exact absurd rfl h
  | succ j ih =>
    intro K hK
    have h5 := hok.hp
    by_cases hc : zf_isWet σ (((σ 5).toNatClampNeg + K) % 8)
    · simp only [zb_next, if_pos hc]; exact ih (K + 1) (by omega)
    · simp only [zb_next, if_neg hc]
      intro _
      have hb := h5.2
      rw [zn_rem (zn_add h5.1 (show nI K = nI K from rfl)) (zk 8) (by omega) (by omega) (by omega)]
      exact zix_nI (by omega) (by omega)
def zb_prey (σ : Nat → Int32) (pool : Int32) : Nat → Nat → Int32 → Int32 → Int32 × Int32
  | 0, _, x, y => (x, y)
  | j + 1, K, x, y => zb_prey σ pool j (K + 1) (if ((σ (32 + 5 * K + 4)) = 0) ∧ (((σ (32 + 5 * K)) = pool) ∧ (¬ ((σ (32 + 5 * K + 3)) ≤ y))) then (nI K) else x) (if ((σ (32 + 5 * K + 4)) = 0) ∧ (((σ (32 + 5 * K)) = pool) ∧ (¬ ((σ (32 + 5 * K + 3)) ≤ y))) then (σ (32 + 5 * K + 3)) else y)
set_option maxHeartbeats 4000000 in
theorem l_prey {G : zE} {A : Nat → Nat} (hA : zinj A 5) {P : Nat} (hP : P ≤ 287) {σ s pa ke no f : Nat → Int32} {h0 : zH} {p : Int32} (hp : p = nI P) {NL NS NC : Nat} (hok : zok σ NL NS NC) {pool : Int32} {d k n : Nat} (hd : 2 ≤ d) {Q : Option Value → zH → Prop} {X : String → zH → Prop} : ∀ (j K : Nat) (x : Int32) (y : Int32), K + j = NL → zV G fX3_prey d 151 [some (.ref (A 0)), some (.int p), some (.int pool), none, some (.int ((zb_prey σ pool j K x y).1)), some (.int ((zb_prey σ pool j K x y).2)), none, none, none] [] (mdl G A (zput P σ s) pa ke no f h0) k n Q X → zV G fX3_prey d 44 [some (.ref (A 0)), some (.int p), some (.int pool), none, some (.int x), some (.int y), some (.int (nI K)), none, none] [] (mdl G A (zput P σ s) pa ke no f h0) k n Q X := by
  intro j
  induction j with
  | zero =>
    intro K x y hK hx
    have hK9 : K = NL := by omega
    subst hK9
    refine z_iload dX3_prey_44 rfl ?_
    refine z_aload_n dX3_prey_46 rfl ?_
    refine zm_get 0 dX3_prey_47 q1742 rfl rfl ?_
    refine z_iload_n dX3_prey_50 rfl ?_
    refine z_bipush dX3_prey_51 (v := 31) rfl ?_
    refine z_iadd dX3_prey_53 ?_
    refine zm_ld hA hP (P := P) (31) (v := σ 31) dX3_prey_54 (zn_to (zn_add hp (zk 31)) (by omega)) (by omega) (rfl) ?_
    refine z_icmp_ge (tgt := 151) dX3_prey_55 (by decide) (fun hg => ?_) (fun hg => ?_)
    ·
      refine z_loc (L2 := [some (.ref (A 0)), some (.int p), some (.int pool), none, some (.int x), some (.int y), none, none, none]) ⟨rfl, rfl, rfl, rfl, rfl, trivial⟩ ?_
      exact hx
    · exact absurd (by rw [hok.nl]; exact Int32.le_refl _) hg
  | succ j ih =>
    intro K x y hK hx
    obtain ⟨bL, bS, bC⟩ := hok.b
    refine z_iload dX3_prey_44 rfl ?_
    refine z_aload_n dX3_prey_46 rfl ?_
    refine zm_get 0 dX3_prey_47 q1742 rfl rfl ?_
    refine z_iload_n dX3_prey_50 rfl ?_
    refine z_bipush dX3_prey_51 (v := 31) rfl ?_
    refine z_iadd dX3_prey_53 ?_
    refine zm_ld hA hP (P := P) (31) (v := σ 31) dX3_prey_54 (zn_to (zn_add hp (zk 31)) (by omega)) (by omega) (rfl) ?_
    refine z_icmp_ge (tgt := 151) dX3_prey_55 (by decide) (fun hg => ?_) (fun hg => ?_)
    · exact absurd hg (by rw [hok.nl]; exact nI_ge (by omega) (by omega))
    ·
      refine z_iload_n dX3_prey_58 rfl ?_
      refine z_iload dX3_prey_59 rfl ?_
      refine z_cS mX3_limpet (k_limpet (d := d - 1) hp rfl (by omega)) dX3_prey_61 q1808 (by omega) rfl (Nat.le_of_ble_eq_true rfl) rfl ?_
      refine z_istore dX3_prey_64 (by decide) ?_
      refine z_aload_n dX3_prey_66 rfl ?_
      refine zm_get 0 dX3_prey_67 q1742 rfl rfl ?_
      refine z_iload dX3_prey_70 rfl ?_
      refine z_iconst dX3_prey_72 (v := 4) rfl ?_
      refine z_iadd dX3_prey_73 ?_
      refine zm_ld hA hP (P := P) (32 + 5 * K + 4) (v := σ (32 + 5 * K + 4)) dX3_prey_74 (zn_to (zn_add rfl (zk 4)) (by omega)) (by omega) (rfl) ?_
      refine z_join 108 (.int (if ((σ (32 + 5 * K + 4)) = 0) ∧ (((σ (32 + 5 * K)) = pool) ∧ (¬ ((σ (32 + 5 * K + 3)) ≤ y))) then (1 : Int32) else 0)) 1 ?_ (fun hJ => ?_)
      rotate_left
      ·
        refine z_if_ne (tgt := 107) dX3_prey_75 (by decide) (fun c_1 => ?_) (fun c_1 => ?_)
        ·
          refine z_iconst dX3_prey_107 (v := 0) rfl ?_
          exact z_jv (if_neg (fun z => c_1 z.1)) hJ
        ·
          refine z_aload_n dX3_prey_78 rfl ?_
          refine zm_get 0 dX3_prey_79 q1742 rfl rfl ?_
          refine z_iload dX3_prey_82 rfl ?_
          refine zm_ld hA hP (P := P) (32 + 5 * K) (v := σ (32 + 5 * K)) dX3_prey_84 (zn_to (rfl) (by omega)) (by omega) (rfl) ?_
          refine z_iload_n dX3_prey_85 rfl ?_
          refine z_icmp_ne (tgt := 107) dX3_prey_86 (by decide) (fun c_2 => ?_) (fun c_2 => ?_)
          ·
            refine z_iconst dX3_prey_107 (v := 0) rfl ?_
            exact z_jv (if_neg (fun z => (fun z => c_2 z.1) z.2)) hJ
          ·
            refine z_aload_n dX3_prey_89 rfl ?_
            refine zm_get 0 dX3_prey_90 q1742 rfl rfl ?_
            refine z_iload dX3_prey_93 rfl ?_
            refine z_iconst dX3_prey_95 (v := 3) rfl ?_
            refine z_iadd dX3_prey_96 ?_
            refine zm_ld hA hP (P := P) (32 + 5 * K + 3) (v := σ (32 + 5 * K + 3)) dX3_prey_97 (zn_to (zn_add rfl (zk 3)) (by omega)) (by omega) (rfl) ?_
            refine z_iload dX3_prey_98 rfl ?_
            refine z_icmp_le (tgt := 107) dX3_prey_100 (by decide) (fun c_3 => ?_) (fun c_3 => ?_)
            ·
              refine z_iconst dX3_prey_107 (v := 0) rfl ?_
              exact z_jv (if_neg (fun z => (fun z => (fun z => z c_3) z.2) z.2)) hJ
            ·
              refine z_iconst dX3_prey_103 (v := 1) rfl ?_
              refine z_goto (tgt := 108) dX3_prey_104 (by decide) ?_
              exact z_jv (if_pos (⟨c_1, ⟨c_2, c_3⟩⟩)) hJ
      refine z_istore dX3_prey_108 (by decide) ?_
      refine z_iload dX3_prey_110 rfl ?_
      refine z_join 122 (.int (if ((σ (32 + 5 * K + 4)) = 0) ∧ (((σ (32 + 5 * K)) = pool) ∧ (¬ ((σ (32 + 5 * K + 3)) ≤ y))) then (nI K) else x)) 1 ?_ (fun hJ => ?_)
      rotate_left
      ·
        refine z_ifB_eq (tgt := 120) dX3_prey_112 (by decide) (fun c_4 => ?_) (fun c_4 => ?_)
        ·
          refine z_iload dX3_prey_120 rfl ?_
          exact z_jv (by simp only [if_neg c_4] <;> rfl) hJ
        ·
          refine z_iload dX3_prey_115 rfl ?_
          refine z_goto (tgt := 122) dX3_prey_117 (by decide) ?_
          exact z_jv (by simp only [if_pos c_4] <;> rfl) hJ
      refine z_istore dX3_prey_122 (by decide) ?_
      refine z_iload dX3_prey_124 rfl ?_
      refine z_join 143 (.int (if ((σ (32 + 5 * K + 4)) = 0) ∧ (((σ (32 + 5 * K)) = pool) ∧ (¬ ((σ (32 + 5 * K + 3)) ≤ y))) then (σ (32 + 5 * K + 3)) else y)) 1 ?_ (fun hJ => ?_)
      rotate_left
      ·
        refine z_ifB_eq (tgt := 141) dX3_prey_126 (by decide) (fun c_5 => ?_) (fun c_5 => ?_)
        ·
          refine z_iload dX3_prey_141 rfl ?_
          exact z_jv (by simp only [if_neg c_5] <;> rfl) hJ
        ·
          refine z_aload_n dX3_prey_129 rfl ?_
          refine zm_get 0 dX3_prey_130 q1742 rfl rfl ?_
          refine z_iload dX3_prey_133 rfl ?_
          refine z_iconst dX3_prey_135 (v := 3) rfl ?_
          refine z_iadd dX3_prey_136 ?_
          refine zm_ld hA hP (P := P) (32 + 5 * K + 3) (v := σ (32 + 5 * K + 3)) dX3_prey_137 (zn_to (zn_add rfl (zk 3)) (by omega)) (by omega) (rfl) ?_
          refine z_goto (tgt := 143) dX3_prey_138 (by decide) ?_
          exact z_jv (by simp only [if_pos c_5] <;> rfl) hJ
      refine z_istore dX3_prey_143 (by decide) ?_
      refine z_iinc dX3_prey_145 rfl (v := nI (K + 1)) (z_inc rfl) ?_
      refine z_goto (tgt := 44) dX3_prey_148 (by decide) ?_
      refine z_loc (L2 := [some (.ref (A 0)), some (.int p), some (.int pool), none, some (.int (if ((σ (32 + 5 * K + 4)) = 0) ∧ (((σ (32 + 5 * K)) = pool) ∧ (¬ ((σ (32 + 5 * K + 3)) ≤ y))) then (nI K) else x)), some (.int (if ((σ (32 + 5 * K + 4)) = 0) ∧ (((σ (32 + 5 * K)) = pool) ∧ (¬ ((σ (32 + 5 * K + 3)) ≤ y))) then (σ (32 + 5 * K + 3)) else y)), some (.int (nI (K + 1))), none, none]) ⟨rfl, rfl, rfl, rfl, rfl, rfl, trivial⟩ ?_
      exact ih (K + 1) (if ((σ (32 + 5 * K + 4)) = 0) ∧ (((σ (32 + 5 * K)) = pool) ∧ (¬ ((σ (32 + 5 * K + 3)) ≤ y))) then (nI K) else x) (if ((σ (32 + 5 * K + 4)) = 0) ∧ (((σ (32 + 5 * K)) = pool) ∧ (¬ ((σ (32 + 5 * K + 3)) ≤ y))) then (σ (32 + 5 * K + 3)) else y) (by omega) hx
def zf_prey (σ : Nat → Int32) (NL NC : Nat) (pool : Int32) : Int32 := if (if (zf_greatest σ NC pool 1) = (-1) then (zf_greatest σ NC pool 0) else (zf_greatest σ NC pool 1)) = (-1) then (if ((zb_prey σ pool NL 0 ((-1) : Int32) (0 : Int32)).1) = (-1) then (0 : Int32) else (200 + ((zb_prey σ pool NL 0 ((-1) : Int32) (0 : Int32)).1))) else (100 + (if (zf_greatest σ NC pool 1) = (-1) then (zf_greatest σ NC pool 0) else (zf_greatest σ NC pool 1)))
set_option maxHeartbeats 4000000 in
theorem k_prey {G : zE} {A : Nat → Nat} (hA : zinj A 5) {P : Nat} (hP : P ≤ 287) {σ s pa ke no f : Nat → Int32} {h0 : zH} {p : Int32} (hp : p = nI P) {NL NS NC : Nat} (hok : zok σ NL NS NC) {pool : Int32} {d : Nat} (hd : 5 ≤ d) : zCon G fX3_prey d 0 0 [.ref (A 0), .int p, .int pool] (mdl G A (zput P σ s) pa ke no f h0) (zA (.int (zf_prey σ NL NC pool)) (mdl G A (zput P σ s) pa ke no f h0)) nX := by
  refine zCon.of9 (L := [some (.ref (A 0)), some (.int p), some (.int pool), none, none, none, none, none, none]) (by simp [Value.category]) (Nat.le_of_ble_eq_true rfl) pX3 rfl rfl ?_
  obtain ⟨bL, bS, bC⟩ := hok.b
  refine z_aload_n dX3_prey_0 rfl ?_
  refine z_iload_n dX3_prey_1 rfl ?_
  refine z_iload_n dX3_prey_2 rfl ?_
  refine z_iconst dX3_prey_3 (v := 1) rfl ?_
  refine z_cV zc7 mX3_greatest (k_greatest (d := d - 1) hA (P := P) hP hp hok (by omega)) dX3_prey_4 q1953 (by omega) rfl (Nat.le_of_ble_eq_true rfl) rfl mdl_0 rfl ?_
  refine z_istore_n dX3_prey_7 (by decide) ?_
  refine z_iload_n dX3_prey_8 rfl ?_
  refine z_iconst dX3_prey_9 (v := (-1)) rfl ?_
  refine z_join 24 (.int (if (zf_greatest σ NC pool 1) = (-1) then (zf_greatest σ NC pool 0) else (zf_greatest σ NC pool 1))) 2 ?_ (fun hJ => ?_)
  rotate_left
  ·
    refine z_icmp_ne (tgt := 23) dX3_prey_10 (by decide) (fun c_1 => ?_) (fun c_1 => ?_)
    ·
      refine z_iload_n dX3_prey_23 rfl ?_
      exact z_jv (by simp only [if_neg c_1] <;> rfl) hJ
    ·
      refine z_aload_n dX3_prey_13 rfl ?_
      refine z_iload_n dX3_prey_14 rfl ?_
      refine z_iload_n dX3_prey_15 rfl ?_
      refine z_iconst dX3_prey_16 (v := 0) rfl ?_
      refine z_cV zc7 mX3_greatest (k_greatest (d := d - 1) hA (P := P) hP hp hok (by omega)) dX3_prey_17 q1953 (by omega) rfl (Nat.le_of_ble_eq_true rfl) rfl mdl_0 rfl ?_
      refine z_goto (tgt := 24) dX3_prey_20 (by decide) ?_
      exact z_jv (by simp only [if_pos c_1] <;> rfl) hJ
  refine z_istore_n dX3_prey_24 (by decide) ?_
  refine z_iload_n dX3_prey_25 rfl ?_
  refine z_iconst dX3_prey_26 (v := (-1)) rfl ?_
  refine z_icmp_eq (tgt := 35) dX3_prey_27 (by decide) (fun c_2 => ?_) (fun c_2 => ?_)
  ·
    refine z_iconst dX3_prey_35 (v := (-1)) rfl ?_
    refine z_istore dX3_prey_36 (by decide) ?_
    refine z_iconst dX3_prey_38 (v := 0) rfl ?_
    refine z_istore dX3_prey_39 (by decide) ?_
    refine z_iconst dX3_prey_41 (v := 0) rfl ?_
    refine z_istore dX3_prey_42 (by decide) ?_
    refine z_loc (L2 := [some (.ref (A 0)), some (.int p), some (.int pool), none, some (.int (-1)), some (.int 0), some (.int 0), none, none]) ⟨rfl, rfl, rfl, rfl, rfl, rfl, trivial⟩ ?_
    refine l_prey hA hP hp hok (by omega) NL 0 ((-1) : Int32) (0 : Int32) (by omega) ?_
    refine z_iload dX3_prey_151 rfl ?_
    refine z_iconst dX3_prey_153 (v := (-1)) rfl ?_
    refine z_join 167 (.int (if ((zb_prey σ pool NL 0 ((-1) : Int32) (0 : Int32)).1) = (-1) then (0 : Int32) else (200 + ((zb_prey σ pool NL 0 ((-1) : Int32) (0 : Int32)).1)))) 2 ?_ (fun hJ => ?_)
    rotate_left
    ·
      refine z_icmp_ne (tgt := 161) dX3_prey_154 (by decide) (fun c_3 => ?_) (fun c_3 => ?_)
      ·
        refine z_sipush dX3_prey_161 (v := 200) rfl ?_
        refine z_iload dX3_prey_164 rfl ?_
        refine z_iadd dX3_prey_166 ?_
        exact z_jv (by simp only [if_neg c_3] <;> rfl) hJ
      ·
        refine z_iconst dX3_prey_157 (v := 0) rfl ?_
        refine z_goto (tgt := 167) dX3_prey_158 (by decide) ?_
        exact z_jv (by simp only [if_pos c_3] <;> rfl) hJ
    refine z_ret dX3_prey_167 rfl rfl ⟨by simp only [zf_prey, if_pos c_2], rfl⟩
  ·
    refine z_bipush dX3_prey_30 (v := 100) rfl ?_
    refine z_iload_n dX3_prey_32 rfl ?_
    have lb_4 := ((zix_ite2 (zf_greatest_ix (by omega)) (zf_greatest_ix (by omega))) c_2).2
    refine z_iadd dX3_prey_33 ?_
    refine z_ret dX3_prey_34 rfl rfl ⟨by simp only [zf_prey, if_neg c_2], rfl⟩
