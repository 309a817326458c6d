/-! THE REFERENCE, part 15: orders carried out -/
set_option maxRecDepth 100000
def zr_carries_182 (σ : Nat → Int32) (NL NS NC : Nat) (o x y : Int32) : Nat → Int32 := if ¬ (999 < ((σ 0) + y)) then (zr_passes σ NL NS NC y.toNatClampNeg) else σ
def zf_carries (σ : Nat → Int32) (NL NS NC : Nat) (o x y : Int32) : Int32 := if o = 99 then (zf_comesCrab σ NC x y) else (if o = 104 then (1 : Int32) else (if o = 108 then (zf_comesLimpet σ NL x) else (if o = 115 then (if zf_comesShell σ NS x y then (1 : Int32) else 0) else (if o = 116 then (1 : Int32) else (if ¬ (999 < ((σ 0) + y)) then (if (¬ (999 < ((σ 0) + y))) ∧ (¬ ((zf_passes σ NL NS NC y.toNatClampNeg) < 0)) then (1 : Int32) else 0) else (if (¬ (999 < ((σ 0) + y))) ∧ (¬ ((0 : Int32) < 0)) then (1 : Int32) else 0))))))
def zr_carries (σ : Nat → Int32) (NL NS NC : Nat) (o x y : Int32) : Nat → Int32 := if o = 99 then (zr_comesCrab σ NC x y) else (if o = 104 then (upd σ (7 + x.toNatClampNeg) y) else (if o = 108 then (zr_comesLimpet σ NL x) else (if o = 115 then (zr_comesShell σ NS x y) else (if o = 116 then (upd (upd σ 1 x) 2 y) else (if ¬ (999 < ((σ 0) + y)) then (zr_passes σ NL NS NC y.toNatClampNeg) else σ)))))
set_option maxHeartbeats 4000000 in
theorem k_carries {G : zE} {A : Nat → Nat} (hA : zinj A 5) {P : Nat} (hP : P ≤ 287) {σ s pa ke no f : Nat → Int32} {h0 : zH} {p : Int32} (hp : p = nI P) {NL NS NC : Nat} (hok : zok σ NL NS NC) {o x y : Int32} (h9 : f 9 = o) (h10 : f 10 = x) (h11 : f 11 = y) (hz : zod o x y) {d : Nat} (hd : 12 ≤ d) : zCon G fX3_carries d 0 0 [.ref (A 0), .int p] (mdl G A (zput P σ s) pa ke no f h0) (zA (.int (zf_carries σ NL NS NC o x y)) (mdl G A (zput P (zr_carries σ NL NS NC o x y) s) pa ke no f h0)) nX := by
  refine zCon.of9 (L := [some (.ref (A 0)), some (.int p), none, none]) (by simp [Value.category]) (Nat.le_of_ble_eq_true rfl) pX3 rfl rfl ?_
  obtain ⟨bL, bS, bC⟩ := hok.b
  refine z_aload_n dX3_carries_0 rfl ?_
  refine zm_get 9 (v := .int o) dX3_carries_1 q1751 rfl (congrArg (fun z => some (Value.int z)) h9) ?_
  by_cases c_1 : o = (99 : Int32)
  · refine z_lookup (off := 62) (tgt := 66) dX3_carries_4 (by decide) (by rw [c_1]; rfl) (by decide) ?_
    refine z_aload_n dX3_carries_66 rfl ?_
    refine z_iload_n dX3_carries_67 rfl ?_
    refine z_aload_n dX3_carries_68 rfl ?_
    refine zm_get 10 (v := .int x) dX3_carries_69 q1752 rfl (congrArg (fun z => some (Value.int z)) h10) ?_
    refine z_aload_n dX3_carries_72 rfl ?_
    refine zm_get 11 (v := .int y) dX3_carries_73 q1753 rfl (congrArg (fun z => some (Value.int z)) h11) ?_
    refine z_cV zc7 mX3_comesCrab (k_comesCrab (d := d - 1) hA (P := P) hP hp hok (by omega)) dX3_carries_76 q1815 (by omega) rfl (Nat.le_of_ble_eq_true rfl) rfl mdl_0 rfl ?_
    refine z_ret dX3_carries_79 rfl (znarrow zf_comesCrab_b) ⟨by simp only [zf_carries, if_pos c_1], by simp only [zr_carries, if_pos c_1]⟩
  ·
    by_cases c_2 : o = (104 : Int32)
    · refine z_lookup (off := 90) (tgt := 94) dX3_carries_4 (by decide) (by rw [c_2]; rfl) (by decide) ?_
      refine z_aload_n dX3_carries_94 rfl ?_
      refine zm_get 0 dX3_carries_95 q1742 rfl rfl ?_
      refine z_iload_n dX3_carries_98 rfl ?_
      refine z_bipush dX3_carries_99 (v := 7) rfl ?_
      refine z_iadd dX3_carries_101 ?_
      refine z_aload_n dX3_carries_102 rfl ?_
      refine zm_get 10 (v := .int x) dX3_carries_103 q1752 rfl (congrArg (fun z => some (Value.int z)) h10) ?_
      have lb_3 := (hz.p (by rw [c_2]; decide) (by rw [c_2]; decide)).2
      refine z_iadd dX3_carries_106 ?_
      refine z_aload_n dX3_carries_107 rfl ?_
      refine zm_get 11 (v := .int y) dX3_carries_108 q1753 rfl (congrArg (fun z => some (Value.int z)) h11) ?_
      refine zm_st hA hP (P := P) (7 + x.toNatClampNeg) dX3_carries_111 (zn_to (zn_add (zn_add hp (zk 7)) ((hz.p (by rw [c_2]; decide) (by rw [c_2]; decide)).1)) (by omega)) (by omega) ?_
      refine z_iconst dX3_carries_112 (v := 1) rfl ?_
      refine z_ret dX3_carries_113 rfl rfl ⟨by simp only [zf_carries, if_neg c_1, if_pos c_2], by simp only [zr_carries, if_neg c_1, if_pos c_2]⟩
    ·
      by_cases c_4 : o = (108 : Int32)
      · refine z_lookup (off := 52) (tgt := 56) dX3_carries_4 (by decide) (by rw [c_4]; rfl) (by decide) ?_
        refine z_aload_n dX3_carries_56 rfl ?_
        refine z_iload_n dX3_carries_57 rfl ?_
        refine z_aload_n dX3_carries_58 rfl ?_
        refine zm_get 10 (v := .int x) dX3_carries_59 q1752 rfl (congrArg (fun z => some (Value.int z)) h10) ?_
        refine z_cV zc7 mX3_comesLimpet (k_comesLimpet (d := d - 1) hA (P := P) hP hp hok (by omega)) dX3_carries_62 q1804 (by omega) rfl (Nat.le_of_ble_eq_true rfl) rfl mdl_0 rfl ?_
        refine z_ret dX3_carries_65 rfl (znarrow zf_comesLimpet_b) ⟨by simp only [zf_carries, if_neg c_1, if_neg c_2, if_pos c_4], by simp only [zr_carries, if_neg c_1, if_neg c_2, if_pos c_4]⟩
      ·
        by_cases c_5 : o = (115 : Int32)
        · refine z_lookup (off := 76) (tgt := 80) dX3_carries_4 (by decide) (by rw [c_5]; rfl) (by decide) ?_
          refine z_aload_n dX3_carries_80 rfl ?_
          refine z_iload_n dX3_carries_81 rfl ?_
          refine z_aload_n dX3_carries_82 rfl ?_
          refine zm_get 10 (v := .int x) dX3_carries_83 q1752 rfl (congrArg (fun z => some (Value.int z)) h10) ?_
          refine z_aload_n dX3_carries_86 rfl ?_
          refine zm_get 11 (v := .int y) dX3_carries_87 q1753 rfl (congrArg (fun z => some (Value.int z)) h11) ?_
          refine z_cV zc7 mX3_comesShell (k_comesShell (d := d - 1) hA (P := P) hP hp hok (by omega)) dX3_carries_90 q1826 (by omega) rfl (Nat.le_of_ble_eq_true rfl) rfl mdl_0 rfl ?_
          refine z_ret dX3_carries_93 rfl z_bool ⟨by simp only [zf_carries, if_neg c_1, if_neg c_2, if_neg c_4, if_pos c_5], by simp only [zr_carries, if_neg c_1, if_neg c_2, if_neg c_4, if_pos c_5]⟩
        ·
          by_cases c_6 : o = (116 : Int32)
          · refine z_lookup (off := 110) (tgt := 114) dX3_carries_4 (by decide) (by rw [c_6]; rfl) (by decide) ?_
            refine z_aload_n dX3_carries_114 rfl ?_
            refine zm_get 0 dX3_carries_115 q1742 rfl rfl ?_
            refine z_iload_n dX3_carries_118 rfl ?_
            refine z_iconst dX3_carries_119 (v := 1) rfl ?_
            refine z_iadd dX3_carries_120 ?_
            refine z_aload_n dX3_carries_121 rfl ?_
            refine zm_get 10 (v := .int x) dX3_carries_122 q1752 rfl (congrArg (fun z => some (Value.int z)) h10) ?_
            refine zm_st hA hP (P := P) (1) dX3_carries_125 (zn_to (zn_add hp (zk 1)) (by omega)) (by omega) ?_
            refine z_aload_n dX3_carries_126 rfl ?_
            refine zm_get 0 dX3_carries_127 q1742 rfl rfl ?_
            refine z_iload_n dX3_carries_130 rfl ?_
            refine z_iconst dX3_carries_131 (v := 2) rfl ?_
            refine z_iadd dX3_carries_132 ?_
            refine z_aload_n dX3_carries_133 rfl ?_
            refine zm_get 11 (v := .int y) dX3_carries_134 q1753 rfl (congrArg (fun z => some (Value.int z)) h11) ?_
            refine zm_st hA hP (P := P) (2) dX3_carries_137 (zn_to (zn_add hp (zk 2)) (by omega)) (by omega) ?_
            refine z_iconst dX3_carries_138 (v := 1) rfl ?_
            refine z_ret dX3_carries_139 rfl rfl ⟨by simp only [zf_carries, if_neg c_1, if_neg c_2, if_neg c_4, if_neg c_5, if_pos c_6], by simp only [zr_carries, if_neg c_1, if_neg c_2, if_neg c_4, if_neg c_5, if_pos c_6]⟩
          ·
            refine z_lookup (off := 136) (tgt := 140) dX3_carries_4 (by decide) (zlk_cons (lit := (99 : Int32)) rfl c_1 (zlk_cons (lit := (104 : Int32)) rfl c_2 (zlk_cons (lit := (108 : Int32)) rfl c_4 (zlk_cons (lit := (115 : Int32)) rfl c_5 (zlk_cons (lit := (116 : Int32)) rfl c_6 rfl))))) (by decide) ?_
            refine z_aload_n dX3_carries_140 rfl ?_
            refine zm_get 0 dX3_carries_141 q1742 rfl rfl ?_
            refine z_iload_n dX3_carries_144 rfl ?_
            refine z_iconst dX3_carries_145 (v := 0) rfl ?_
            refine z_iadd dX3_carries_146 ?_
            refine zm_ld hA hP (P := P) (0) (v := σ 0) dX3_carries_147 (zn_to (zn_add hp (zk 0)) (by omega)) (by omega) (rfl) ?_
            refine z_aload_n dX3_carries_148 rfl ?_
            refine zm_get 11 (v := .int y) dX3_carries_149 q1753 rfl (congrArg (fun z => some (Value.int z)) h11) ?_
            refine z_iadd dX3_carries_152 ?_
            refine z_sipush dX3_carries_153 (v := 999) rfl ?_
            refine z_join 164 (.int (if ¬ (999 < ((σ 0) + y)) then (1 : Int32) else 0)) 2 ?_ (fun hJ => ?_)
            rotate_left
            ·
              refine z_icmp_gt (tgt := 163) dX3_carries_156 (by decide) (fun c_7 => ?_) (fun c_7 => ?_)
              ·
                refine z_iconst dX3_carries_163 (v := 0) rfl ?_
                exact z_jv (if_neg (fun z => z c_7)) hJ
              ·
                refine z_iconst dX3_carries_159 (v := 1) rfl ?_
                refine z_goto (tgt := 164) dX3_carries_160 (by decide) ?_
                exact z_jv (if_pos c_7) hJ
            refine z_istore_n dX3_carries_164 (by decide) ?_
            refine z_iload_n dX3_carries_165 rfl ?_
            refine z_ifB_eq (tgt := 181) dX3_carries_166 (by decide) (fun c_8 => ?_) (fun c_8 => ?_)
            ·
              refine z_iconst dX3_carries_181 (v := 0) rfl ?_
              refine z_istore_n dX3_carries_182 (by decide) ?_
              refine z_iload_n dX3_carries_183 rfl ?_
              refine z_join 196 (.int (if (¬ (999 < ((σ 0) + y))) ∧ (¬ ((0 : Int32) < 0)) then (1 : Int32) else 0)) 1 ?_ (fun hJ => ?_)
              rotate_left
              ·
                refine z_ifB_eq (tgt := 195) dX3_carries_184 (by decide) (fun c_9 => ?_) (fun c_9 => ?_)
                ·
                  refine z_iconst dX3_carries_195 (v := 0) rfl ?_
                  exact z_jv (if_neg (fun z => c_9 z.1)) hJ
                ·
                  refine z_iload_n dX3_carries_187 rfl ?_
                  refine z_if_lt (tgt := 195) dX3_carries_188 (by decide) (fun c_10 => ?_) (fun c_10 => ?_)
                  ·
                    refine z_iconst dX3_carries_195 (v := 0) rfl ?_
                    exact z_jv (if_neg (fun z => (fun z => z c_10) z.2)) hJ
                  ·
                    refine z_iconst dX3_carries_191 (v := 1) rfl ?_
                    refine z_goto (tgt := 196) dX3_carries_192 (by decide) ?_
                    exact z_jv (if_pos (⟨c_9, c_10⟩)) hJ
              refine z_ret dX3_carries_196 rfl z_bool ⟨by simp only [zf_carries, if_neg c_1, if_neg c_2, if_neg c_4, if_neg c_5, if_neg c_6, if_neg c_8], by simp only [zr_carries, if_neg c_1, if_neg c_2, if_neg c_4, if_neg c_5, if_neg c_6, if_neg c_8]⟩
            ·
              refine z_aload_n dX3_carries_169 rfl ?_
              refine z_iload_n dX3_carries_170 rfl ?_
              refine z_aload_n dX3_carries_171 rfl ?_
              refine zm_get 11 (v := .int y) dX3_carries_172 q1753 rfl (congrArg (fun z => some (Value.int z)) h11) ?_
              have lb_11 := (hz.w c_1 c_2 c_4 c_5 c_6).2
              refine z_cV zc7 mX3_passes (k_passes (d := d - 1) hA (P := P) hP hp hok ((hz.w c_1 c_2 c_4 c_5 c_6).1) (by omega) (by omega)) dX3_carries_175 q1873 (by omega) rfl (Nat.le_of_ble_eq_true rfl) rfl mdl_0 rfl ?_
              refine z_goto (tgt := 182) dX3_carries_178 (by decide) ?_
              refine z_istore_n dX3_carries_182 (by decide) ?_
              refine z_iload_n dX3_carries_183 rfl ?_
              refine z_join 196 (.int (if (¬ (999 < ((σ 0) + y))) ∧ (¬ ((zf_passes σ NL NS NC y.toNatClampNeg) < 0)) then (1 : Int32) else 0)) 1 ?_ (fun hJ => ?_)
              rotate_left
              ·
                refine z_ifB_eq (tgt := 195) dX3_carries_184 (by decide) (fun c_12 => ?_) (fun c_12 => ?_)
                ·
                  refine z_iconst dX3_carries_195 (v := 0) rfl ?_
                  exact z_jv (if_neg (fun z => c_12 z.1)) hJ
                ·
                  refine z_iload_n dX3_carries_187 rfl ?_
                  refine z_if_lt (tgt := 195) dX3_carries_188 (by decide) (fun c_13 => ?_) (fun c_13 => ?_)
                  ·
                    refine z_iconst dX3_carries_195 (v := 0) rfl ?_
                    exact z_jv (if_neg (fun z => (fun z => z c_13) z.2)) hJ
                  ·
                    refine z_iconst dX3_carries_191 (v := 1) rfl ?_
                    refine z_goto (tgt := 196) dX3_carries_192 (by decide) ?_
                    exact z_jv (if_pos (⟨c_12, c_13⟩)) hJ
              refine z_ret dX3_carries_196 rfl z_bool ⟨by simp only [zf_carries, if_neg c_1, if_neg c_2, if_neg c_4, if_neg c_5, if_neg c_6, if_pos c_8], by simp only [zr_carries, if_neg c_1, if_neg c_2, if_neg c_4, if_neg c_5, if_neg c_6, if_pos c_8]⟩
theorem zst_carries {σ : Nat → Int32} {o x y : Int32} (h : zst σ) (hz : zod o x y) : zst (zr_carries σ (dL σ) (dS σ) (dC σ) o x y) := by
  obtain ⟨hok, h25, T, hT, lT⟩ := h
  generalize dL σ = NL at hok ⊢
  generalize dS σ = NS at hok h25 ⊢
  generalize dC σ = NC at hok ⊢
  obtain ⟨bL, bS, bC⟩ := hok.b
  unfold zr_carries
  by_cases c1 : o = 99
  · rw [if_pos c1]
    unfold zr_comesCrab
    by_cases q : σ 211 = 15
    · rw [if_pos q]; exact zst_of hok h25 hT lT
    · rw [if_neg q]
      refine zst_of (zok_comesCrab hok (hok.c15 q) (hz.p (by rw [c1]; decide) (by rw [c1]; decide))) h25 ?_ lT
      rw [upd_n (by omega), upd_n (by omega), upd_n (by omega), upd_n (by omega), upd_n (by omega), upd_n (by omega)]; exact hT
  rw [if_neg c1]
  by_cases c2 : o = 104
  · rw [if_pos c2]
    have hx := (hz.p (by rw [c2]; decide) (by rw [c2]; decide)).2
    exact zst_of (hok.frP (by omega)) h25 ((upd_n (by omega)).trans hT) lT
  rw [if_neg c2]
  by_cases c3 : o = 108
  · rw [if_pos c3]
    unfold zr_comesLimpet
    by_cases q : σ 31 = 20
    · rw [if_pos q]; exact zst_of hok h25 hT lT
    · rw [if_neg q]
      have hn : NL < 20 := by
        rcases Nat.lt_or_ge NL 20 with w | w
        · exact w
        · exact absurd (by rw [hok.nl, show NL = 20 by omega]; rfl) q
      refine zst_of (zok_comesLimpet hok hn (hz.p (by rw [c3]; decide) (by rw [c3]; decide))) h25 ?_ lT
      rw [upd_n (by omega), upd_n (by omega), upd_n (by omega), upd_n (by omega), upd_n (by omega), upd_n (by omega)]; exact hT
  rw [if_neg c3]
  by_cases c4 : o = 115
  · rw [if_pos c4]
    unfold zr_comesShell zr_comesShell_34
    by_cases q : ¬ 25 ≤ σ 132
    · rw [if_pos q]
      rw [hok.ns] at q
      have hn : NS < 25 := zn_nle (b := 25) q (by omega) (by omega)
      refine zst_of (zok_lays hok h25) (by omega) ?_ lT
      unfold zr_laysShell
      rw [upd_n (by omega), upd_n (by omega), upd_n (by omega), upd_n (by omega)]; exact hT
    · rw [if_neg q]; exact zst_of hok h25 hT lT
  rw [if_neg c4]
  by_cases c5 : o = 116
  · rw [if_pos c5]
    refine zst_of ((hok.frP (by omega)).frP (by omega)) h25 ?_ lT
    rw [upd_n (by omega), upd_n (by omega)]; exact hT
  rw [if_neg c5]
  by_cases q : ¬ 999 < σ 0 + y
  · rw [if_pos q]
    obtain ⟨e, l⟩ := hz.w c1 c2 c3 c4 c5
    refine zst_of (zok_passes hok) h25 (fr0_passes hT) ?_
    rw [hT, e, nI_add] at q
    exact zn_nlt (b := T + y.toNatClampNeg) (a := 999) q (by omega) (by omega)
  · rw [if_neg q]; exact zst_of hok h25 hT lT
theorem zrd_12 {f : Nat → Int32} {a : Nat} {o x y u v : Int32} : upd (zrd (upd f 12 u) a o x y) 12 v = zrd (upd f 12 v) a o x y := by
  funext q
  simp only [upd, zrd]
  by_cases h : q = 12
  · subst h; rfl
  · rw [if_neg h, if_neg h, if_neg h]
theorem zrd_12a {f : Nat → Int32} {v : Int32} : upd (upd f 8 0) 12 v = zrd (upd f 12 v) 0 (f 9) (f 10) (f 11) := by
  rw [upd_comm (by decide), zrd_0]
  rw [upd_n (by decide), upd_n (by decide), upd_n (by decide)]
/-- the answer, the reader, how many orders, the row beside -/
def zb_tries (no : Nat → Int32) (ln : Nat) : Nat → Nat → Int32 → Int32 → Int32 → Nat → (Nat → Int32) → Int32 × Nat × Int32 × Int32 × Int32 × Nat × (Nat → Int32)
  | 0, a, o, x, y, m, τ => (0, a, o, x, y, m, τ)
  | j + 1, a, o, x, y, m, τ => if ((zf_isOrder no ln a o x y).1) = 0 then ((nI m), ((zf_isOrder no ln a o x y).2.1), ((zf_isOrder no ln a o x y).2.2.1), ((zf_isOrder no ln a o x y).2.2.2.1), ((zf_isOrder no ln a o x y).2.2.2.2), m, τ) else (if (zf_carries τ (dL τ) (dS τ) (dC τ) ((zf_isOrder no ln a o x y).2.2.1) ((zf_isOrder no ln a o x y).2.2.2.1) ((zf_isOrder no ln a o x y).2.2.2.2)) = 0 then ((nI m), ((zf_isOrder no ln a o x y).2.1), ((zf_isOrder no ln a o x y).2.2.1), ((zf_isOrder no ln a o x y).2.2.2.1), ((zf_isOrder no ln a o x y).2.2.2.2), m, (zr_carries τ (dL τ) (dS τ) (dC τ) ((zf_isOrder no ln a o x y).2.2.1) ((zf_isOrder no ln a o x y).2.2.2.1) ((zf_isOrder no ln a o x y).2.2.2.2))) else (if zf_isSign no ln ((zf_isOrder no ln a o x y).2.1) 59 then (zb_tries no ln j (zna_isSign no ln ((zf_isOrder no ln a o x y).2.1) 59) ((zf_isOrder no ln a o x y).2.2.1) ((zf_isOrder no ln a o x y).2.2.2.1) ((zf_isOrder no ln a o x y).2.2.2.2) (m + 1) (zr_carries τ (dL τ) (dS τ) (dC τ) ((zf_isOrder no ln a o x y).2.2.1) ((zf_isOrder no ln a o x y).2.2.2.1) ((zf_isOrder no ln a o x y).2.2.2.2))) else ((-1), (zna_isSign no ln ((zf_isOrder no ln a o x y).2.1) 59), ((zf_isOrder no ln a o x y).2.2.1), ((zf_isOrder no ln a o x y).2.2.2.1), ((zf_isOrder no ln a o x y).2.2.2.2), (m + 1), (zr_carries τ (dL τ) (dS τ) (dC τ) ((zf_isOrder no ln a o x y).2.2.1) ((zf_isOrder no ln a o x y).2.2.2.1) ((zf_isOrder no ln a o x y).2.2.2.2)))))
set_option maxHeartbeats 4000000 in
theorem l_tries {G : zE} {A : Nat → Nat} (hA : zinj A 5) {s pa ke no f : Nat → Int32} {h0 : zH} {ln : Nat} (h6 : f 6 = nI ln) (hl : ln ≤ 60) {σ : Nat → Int32} {d k n : Nat} (hd : 13 ≤ d) : ∀ (j a : Nat) (o x y : Int32) (m : Nat) (τ : Nat → Int32), a ≤ ln → ln < a + j → zst τ → zV G fX3_tries d 20 [some (.ref (A 0)), none, none] [] (mdl G A (zput 287 τ (zput 0 σ s)) pa ke no (zrd (upd f 12 (nI m)) a o x y) h0) k n (zA (.int (zb_tries no ln j a o x y m τ).1) (mdl G A (zput 287 (zb_tries no ln j a o x y m τ).2.2.2.2.2.2 (zput 0 σ s)) pa ke no (zrd (upd f 12 (nI (zb_tries no ln j a o x y m τ).2.2.2.2.2.1)) (zb_tries no ln j a o x y m τ).2.1 (zb_tries no ln j a o x y m τ).2.2.1 (zb_tries no ln j a o x y m τ).2.2.2.1 (zb_tries no ln j a o x y m τ).2.2.2.2.1) h0)) nX := by
  intro j
  induction j with
  | zero => intro a o x y m τ la hj _; exact absurd hj (by omega)
  | succ j ih =>
    intro a o x y m τ la hj hst
    refine z_aload_n dX3_tries_20 rfl ?_
    have lb_1 := zf_isOrder_b (no := no) (o := o) (x := x) (y := y) hl (a := a) (by omega)
    have lb_2 := lb_1.1
    refine z_cV zc7 mX3_isOrder (k_isOrder (d := d - 1) hA ((upd_n (by decide)).trans h6) hl (a := a) (by omega) (by omega)) dX3_tries_21 q1977 (by omega) rfl (Nat.le_of_ble_eq_true rfl) rfl mdl_0 rfl ?_
    refine z_if_eq (tgt := 41) dX3_tries_24 (by decide) (fun c_3 => ?_) (fun c_3 => ?_)
    ·
      refine z_iconst dX3_tries_41 (v := 0) rfl ?_
      refine z_istore_n dX3_tries_42 (by decide) ?_
      refine z_iload_n dX3_tries_43 rfl ?_
      refine z_if_ne (tgt := 52) dX3_tries_44 (by decide) (fun c_4 => ?_) (fun c_4 => ?_)
      · exact absurd rfl c_4
      ·
        refine z_aload_n dX3_tries_47 rfl ?_
        refine zm_get 12 (v := .int (nI m)) dX3_tries_48 q1754 rfl rfl ?_
        refine z_ret dX3_tries_51 rfl rfl ⟨by simp only [zb_tries, if_pos c_3, if_pos c_4], by simp only [zb_tries, if_pos c_3, if_pos c_4]⟩
    ·
      refine z_aload_n dX3_tries_27 rfl ?_
      refine z_sipush dX3_tries_28 (v := 287) rfl ?_
      have hzo := (lb_1.2.2 c_3).2
      obtain ⟨hok, h25, T9, hT, lT⟩ := hst
      refine z_cV zc7 mX3_carries (k_carries (d := d - 1) hA (P := 287) (by decide) (zk 287) hok (o := (zf_isOrder no ln a o x y).2.2.1) (x := (zf_isOrder no ln a o x y).2.2.2.1) (y := (zf_isOrder no ln a o x y).2.2.2.2) rfl rfl rfl hzo (by omega)) dX3_tries_31 q2009 (by omega) rfl (Nat.le_of_ble_eq_true rfl) rfl mdl_0 rfl ?_
      refine z_if_eq (tgt := 41) dX3_tries_34 (by decide) (fun c_5 => ?_) (fun c_5 => ?_)
      ·
        refine z_iconst dX3_tries_41 (v := 0) rfl ?_
        refine z_istore_n dX3_tries_42 (by decide) ?_
        refine z_iload_n dX3_tries_43 rfl ?_
        refine z_if_ne (tgt := 52) dX3_tries_44 (by decide) (fun c_6 => ?_) (fun c_6 => ?_)
        · exact absurd rfl c_6
        ·
          refine z_aload_n dX3_tries_47 rfl ?_
          refine zm_get 12 (v := .int (nI m)) dX3_tries_48 q1754 rfl rfl ?_
          refine z_ret dX3_tries_51 rfl rfl ⟨by simp only [zb_tries, if_neg c_3, if_pos c_5, if_pos c_6], by simp only [zb_tries, if_neg c_3, if_pos c_5, if_pos c_6]⟩
      ·
        refine z_iconst dX3_tries_37 (v := 1) rfl ?_
        refine z_goto (tgt := 42) dX3_tries_38 (by decide) ?_
        refine z_istore_n dX3_tries_42 (by decide) ?_
        refine z_iload_n dX3_tries_43 rfl ?_
        refine z_if_ne (tgt := 52) dX3_tries_44 (by decide) (fun c_7 => ?_) (fun c_7 => ?_)
        ·
          refine z_aload_n dX3_tries_52 rfl ?_
          refine z_dup dX3_tries_53 rfl ?_
          refine zm_get 12 (v := .int (nI m)) dX3_tries_54 q1754 rfl rfl ?_
          refine z_iconst dX3_tries_57 (v := 1) rfl ?_
          refine z_iadd dX3_tries_58 ?_
          refine zm_putR 12 dX3_tries_59 q1754 rfl rfl rfl rfl rfl ((congrArg (fun z => upd _ 12 z) (show (nI m) + 1 = nI (m + 1) from zn_add rfl (zk 1))).trans zrd_12) ?_
          refine z_aload_n dX3_tries_62 rfl ?_
          refine z_bipush dX3_tries_63 (v := 59) rfl ?_
          refine z_cV zc7 mX3_isSign (k_isSign (d := d - 1) hA ((upd_n (by decide)).trans h6) hl (a := (zf_isOrder no ln a o x y).2.1) (by omega) (by omega)) dX3_tries_65 q1985 (by omega) rfl (Nat.le_of_ble_eq_true rfl) rfl mdl_0 rfl ?_
          refine z_istore_n dX3_tries_68 (by decide) ?_
          refine z_goto (tgt := 16) dX3_tries_69 (by decide) ?_
          refine z_iload_n dX3_tries_16 rfl ?_
          refine z_ifB_eq (tgt := 72) dX3_tries_17 (by decide) (fun c_8 => ?_) (fun c_8 => ?_)
          ·
            refine z_iconst dX3_tries_72 (v := (-1)) rfl ?_
            refine z_ret dX3_tries_73 rfl rfl ⟨by simp only [zb_tries, if_neg c_3, if_neg c_5, if_neg c_7, if_neg c_8], by simp only [zb_tries, if_neg c_3, if_neg c_5, if_neg c_7, if_neg c_8]⟩
          ·
            have lb_9 := (lb_1.2.2 c_3).1
            have lb_10 := zf_isSign_b (no := no) (c := 59) hl (a := (zf_isOrder no ln a o x y).2.1) (by omega)
            refine z_loc (L2 := [some (.ref (A 0)), none, none]) ⟨rfl, trivial⟩ ?_
            have h9 := ih (zna_isSign no ln ((zf_isOrder no ln a o x y).2.1) 59) ((zf_isOrder no ln a o x y).2.2.1) ((zf_isOrder no ln a o x y).2.2.2.1) ((zf_isOrder no ln a o x y).2.2.2.2) (m + 1) (zr_carries τ (dL τ) (dS τ) (dC τ) ((zf_isOrder no ln a o x y).2.2.1) ((zf_isOrder no ln a o x y).2.2.2.1) ((zf_isOrder no ln a o x y).2.2.2.2)) (by omega) (by omega) (zst_carries ⟨hok, h25, T9, hT, lT⟩ hzo)
            simp only [zb_tries, if_neg c_3, if_neg c_5, if_neg c_7, if_pos c_8]
            exact h9
        · exact absurd c_7 (by decide)
def zf_tries (no : Nat → Int32) (ln : Nat) (σ f : Nat → Int32) : Int32 × Nat × Int32 × Int32 × Int32 × Nat × (Nat → Int32) := zb_tries no ln (ln + 1) 0 (f 9) (f 10) (f 11) 0 σ
set_option maxHeartbeats 4000000 in
theorem k_tries {G : zE} {A : Nat → Nat} (hA : zinj A 5) {s pa ke no f : Nat → Int32} {h0 : zH} {ln : Nat} (h6 : f 6 = nI ln) (hl : ln ≤ 60) {σ : Nat → Int32} (hst : zst σ) {d : Nat} (hd : 13 ≤ d) : zCon G fX3_tries d 0 0 [.ref (A 0)] (mdl G A (zput 0 σ s) pa ke no f h0) (zA (.int (zf_tries no ln σ f).1) (mdl G A (zput 287 (zf_tries no ln σ f).2.2.2.2.2.2 (zput 0 σ s)) pa ke no (zrd (upd f 12 (nI (zf_tries no ln σ f).2.2.2.2.2.1)) (zf_tries no ln σ f).2.1 (zf_tries no ln σ f).2.2.1 (zf_tries no ln σ f).2.2.2.1 (zf_tries no ln σ f).2.2.2.2.1) h0)) nX := by
  refine zCon.of9 (L := [some (.ref (A 0)), none, none]) (by simp [Value.category]) (Nat.le_of_ble_eq_true rfl) pX3 rfl rfl ?_
  refine z_aload_n dX3_tries_0 rfl ?_
  refine z_cVv zc7 mX3_copies (k_copies (d := d - 1) hA (by omega)) dX3_tries_1 q2005 (by omega) rfl (Nat.le_of_ble_eq_true rfl) rfl mdl_0 rfl ?_
  refine z_aload_n dX3_tries_4 rfl ?_
  refine z_iconst dX3_tries_5 (v := 0) rfl ?_
  refine zm_put 8 dX3_tries_6 q1750 rfl rfl rfl rfl rfl ?_
  refine z_aload_n dX3_tries_9 rfl ?_
  refine z_iconst dX3_tries_10 (v := 0) rfl ?_
  refine zm_putR 12 dX3_tries_11 q1754 rfl rfl rfl rfl rfl zrd_12a ?_
  refine z_iconst dX3_tries_14 (v := 1) rfl ?_
  refine z_istore_n dX3_tries_15 (by decide) ?_
  refine z_iload_n dX3_tries_16 rfl ?_
  refine z_if_eq (tgt := 72) dX3_tries_17 (by decide) (fun c => ?_) (fun c => ?_)
  · exact absurd c (by decide)
  · refine z_loc (L2 := [some (.ref (A 0)), none, none]) ⟨rfl, trivial⟩ ?_
    exact l_tries hA h6 hl (by omega) (ln + 1) 0 (f 9) (f 10) (f 11) 0 σ (by omega) (by omega) hst
set_option maxHeartbeats 4000000 in
theorem k_tries1 {G : zE} {A : Nat → Nat} (hA : zinj A 5) {s pa ke no f : Nat → Int32} {h0 : zH} {ln : Nat} (h6 : f 6 = nI ln) (hl : ln ≤ 60) {σ τ : Nat → Int32} (hst : zst σ) {d : Nat} (hd : 13 ≤ d) : zCon G fX3_tries d 0 0 [.ref (A 0)] (mdl G A (zput 287 τ (zput 0 σ s)) pa ke no f h0) (zA (.int (zf_tries no ln σ f).1) (mdl G A (zput 287 (zf_tries no ln σ f).2.2.2.2.2.2 (zput 0 σ s)) pa ke no (zrd (upd f 12 (nI (zf_tries no ln σ f).2.2.2.2.2.1)) (zf_tries no ln σ f).2.1 (zf_tries no ln σ f).2.2.1 (zf_tries no ln σ f).2.2.2.1 (zf_tries no ln σ f).2.2.2.2.1) h0)) nX := by
  refine zCon.of9 (L := [some (.ref (A 0)), none, none]) (by simp [Value.category]) (Nat.le_of_ble_eq_true rfl) pX3 rfl rfl ?_
  refine z_aload_n dX3_tries_0 rfl ?_
  refine z_cVv zc7 mX3_copies (k_copies1 (d := d - 1) hA (by omega)) dX3_tries_1 q2005 (by omega) rfl (Nat.le_of_ble_eq_true rfl) rfl mdl_0 rfl ?_
  refine z_aload_n dX3_tries_4 rfl ?_
  refine z_iconst dX3_tries_5 (v := 0) rfl ?_
  refine zm_put 8 dX3_tries_6 q1750 rfl rfl rfl rfl rfl ?_
  refine z_aload_n dX3_tries_9 rfl ?_
  refine z_iconst dX3_tries_10 (v := 0) rfl ?_
  refine zm_putR 12 dX3_tries_11 q1754 rfl rfl rfl rfl rfl zrd_12a ?_
  refine z_iconst dX3_tries_14 (v := 1) rfl ?_
  refine z_istore_n dX3_tries_15 (by decide) ?_
  refine z_iload_n dX3_tries_16 rfl ?_
  refine z_if_eq (tgt := 72) dX3_tries_17 (by decide) (fun c => ?_) (fun c => ?_)
  · exact absurd c (by decide)
  · refine z_loc (L2 := [some (.ref (A 0)), none, none]) ⟨rfl, trivial⟩ ?_
    exact l_tries hA h6 hl (by omega) (ln + 1) 0 (f 9) (f 10) (f 11) 0 σ (by omega) (by omega) hst
