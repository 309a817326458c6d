/-! THE REFERENCE, part 5: the heron takes, crabs grow, hours; what comes -/
set_option maxRecDepth 100000
theorem zix_ite3 {c : Prop} [Decidable c] {x y : Int32} {n : Nat} (hx : c → zix x n) (hy : ¬ c → zix y n) : zix (if c then x else y) n := by
  by_cases h : c
  · rw [if_pos h]; exact hx h
  · rw [if_neg h]; exact hy h
/-- what the heron's choice may be -/
def zpr (x : Int32) (NL NC : Nat) : Prop := x = 0 ∨ (∃ b, b < NC ∧ x = nI (100 + b)) ∨ ∃ a, a < NL ∧ x = nI (200 + a)
theorem zpr_ite {c : Prop} [Decidable c] {x y : Int32} {NL NC : Nat} (hx : zpr x NL NC) (hy : zpr y NL NC) : zpr (if c then x else y) NL NC := by
  by_cases h : c
  · rw [if_pos h]; exact hx
  · rw [if_neg h]; exact hy
theorem zpr.l {x : Int32} {NL NC : Nat} (h : zpr x NL NC) (hl : NL ≤ 20) (hc : NC ≤ 15) (h2 : ¬ x < 200) : zix (x - 200) NL := by
  rcases h with h | ⟨b, hb, h⟩ | ⟨a, ha, h⟩
  · subst h; exact absurd (by decide) h2
  · subst h
    exact absurd (show nI (100 + b) < nI 200 from nI_lt (by omega) (by omega)) h2
  · subst h
    rw [show nI (200 + a) - 200 = nI a from by rw [zn_sub (a := 200 + a) (b := 200) rfl (zk 200) (by omega), Nat.add_sub_cancel_left]]
    exact zix_nI ha (by omega)
theorem zpr.c {x : Int32} {NL NC : Nat} (h : zpr x NL NC) (hl : NL ≤ 20) (hc : NC ≤ 15) (h1 : x < 200) (h2 : ¬ x < 100) : zix (x - 100) NC := by
  rcases h with h | ⟨b, hb, h⟩ | ⟨a, ha, h⟩
  · subst h; exact absurd (by decide) h2
  · subst h
    rw [show nI (100 + b) - 100 = nI b from by rw [zn_sub (a := 100 + b) (b := 100) rfl (zk 100) (by omega), Nat.add_sub_cancel_left]]
    exact zix_nI hb (by omega)
  · subst h
    exact absurd h1 (show ¬ nI (200 + a) < nI 200 from nI_nlt (by omega) (by omega))
theorem zb_prey_ix {σ : Nat → Int32} {pool : Int32} {N : Nat} (hN : N < 2 ^ 31) : ∀ (j K : Nat) (x y : Int32), K + j = N → (¬ x = -1 → zix x N) → ¬ (zb_prey σ pool j K x y).1 = -1 → zix (zb_prey σ pool j K x y).1 N := by
  intro j
  induction j with
  | zero => intro K x y _ hx; exact hx
  | succ j ih => intro K x y hK hx; exact ih (K + 1) _ _ (by omega) (zix_if hx (by omega) hN)
theorem zf_prey_ok {σ : Nat → Int32} {NL NC : Nat} {pool : Int32} (hl : NL ≤ 20) (hc : NC ≤ 15) : zpr (zf_prey σ NL NC pool) NL NC := by
  unfold zf_prey
  have hg : ∀ w : Int32, ¬ zf_greatest σ NC pool w = -1 → zix (zf_greatest σ NC pool w) NC := fun w => zf_greatest_ix hc
  have h1 : ¬ (if zf_greatest σ NC pool 1 = -1 then zf_greatest σ NC pool 0 else zf_greatest σ NC pool 1) = -1 → zix (if zf_greatest σ NC pool 1 = -1 then zf_greatest σ NC pool 0 else zf_greatest σ NC pool 1) NC := zix_ite2 (hg 0) (hg 1)
  generalize (if zf_greatest σ NC pool 1 = -1 then zf_greatest σ NC pool 0 else zf_greatest σ NC pool 1) = z at h1 ⊢
  have h2 := zb_prey_ix (σ := σ) (pool := pool) (N := NL) (by omega) NL 0 (-1) 0 (by omega) (fun e => absurd rfl e)
  generalize (zb_prey σ pool NL 0 (-1) 0).1 = y at h2 ⊢
  by_cases hz : z = -1
  · rw [if_pos hz]
    by_cases hy : y = -1
    · rw [if_pos hy]; exact Or.inl rfl
    · rw [if_neg hy]
      obtain ⟨e1, e2⟩ := h2 hy
      exact Or.inr (Or.inr ⟨_, e2, by rw [zn_add (zk 200) e1]⟩)
  · rw [if_neg hz]
    obtain ⟨e1, e2⟩ := h1 hz
    exact Or.inr (Or.inl ⟨_, e2, by rw [zn_add (zk 100) e1]⟩)
def zr_hunts_129 (σ : Nat → Int32) (NL NC : Nat) : Nat → Int32 := if (if (if ((σ 0) - (σ 0) / (σ 4) * (σ 4)) = 0 then (zb_next σ 8 1) else ((-1) : Int32)) = (-1) then (0 : Int32) else (zf_prey σ NL NC (if ((σ 0) - (σ 0) / (σ 4) * (σ 4)) = 0 then (zb_next σ 8 1) else ((-1) : Int32)))) < 200 then (if (if (if ((σ 0) - (σ 0) / (σ 4) * (σ 4)) = 0 then (zb_next σ 8 1) else ((-1) : Int32)) = (-1) then (0 : Int32) else (zf_prey σ NL NC (if ((σ 0) - (σ 0) / (σ 4) * (σ 4)) = 0 then (zb_next σ 8 1) else ((-1) : Int32)))) < 100 then (upd σ 5 (if (if ((σ 0) - (σ 0) / (σ 4) * (σ 4)) = 0 then (zb_next σ 8 1) else ((-1) : Int32)) = (-1) then (σ 5) else (if ((σ 0) - (σ 0) / (σ 4) * (σ 4)) = 0 then (zb_next σ 8 1) else ((-1) : Int32)))) else (upd (zr_leaves (upd σ 5 (if (if ((σ 0) - (σ 0) / (σ 4) * (σ 4)) = 0 then (zb_next σ 8 1) else ((-1) : Int32)) = (-1) then (σ 5) else (if ((σ 0) - (σ 0) / (σ 4) * (σ 4)) = 0 then (zb_next σ 8 1) else ((-1) : Int32)))) (((if (if ((σ 0) - (σ 0) / (σ 4) * (σ 4)) = 0 then (zb_next σ 8 1) else ((-1) : Int32)) = (-1) then (0 : Int32) else (zf_prey σ NL NC (if ((σ 0) - (σ 0) / (σ 4) * (σ 4)) = 0 then (zb_next σ 8 1) else ((-1) : Int32)))) - 100).toNatClampNeg)) (212 + 5 * (((if (if ((σ 0) - (σ 0) / (σ 4) * (σ 4)) = 0 then (zb_next σ 8 1) else ((-1) : Int32)) = (-1) then (0 : Int32) else (zf_prey σ NL NC (if ((σ 0) - (σ 0) / (σ 4) * (σ 4)) = 0 then (zb_next σ 8 1) else ((-1) : Int32)))) - 100).toNatClampNeg) + 3) 3)) else (upd (upd σ 5 (if (if ((σ 0) - (σ 0) / (σ 4) * (σ 4)) = 0 then (zb_next σ 8 1) else ((-1) : Int32)) = (-1) then (σ 5) else (if ((σ 0) - (σ 0) / (σ 4) * (σ 4)) = 0 then (zb_next σ 8 1) else ((-1) : Int32)))) (32 + 5 * (((if (if ((σ 0) - (σ 0) / (σ 4) * (σ 4)) = 0 then (zb_next σ 8 1) else ((-1) : Int32)) = (-1) then (0 : Int32) else (zf_prey σ NL NC (if ((σ 0) - (σ 0) / (σ 4) * (σ 4)) = 0 then (zb_next σ 8 1) else ((-1) : Int32)))) - 200).toNatClampNeg) + 4) 3)
theorem zok_hunts_129 {σ : Nat → Int32} {NL : Nat} {NC : Nat} {NS : Nat} (hok : zok σ NL NS NC) : zok (zr_hunts_129 σ NL NC) NL NS NC := by
  obtain ⟨bL, bS, bC⟩ := hok.b
  unfold zr_hunts_129
  exact zok_ite (fun hc0 => zok_ite (fun hc1 => (hok.hpw (zix_ite3 (fun hz2 => hok.hp) (fun hz2 => ((zix_ite2 (zb_next_ix hok 8 1 (by omega)) (fun e => absurd rfl e)) hz2))))) (fun hc1 => ((zok_leaves (hok.hpw (zix_ite3 (fun hz2 => hok.hp) (fun hz2 => ((zix_ite2 (zb_next_ix hok 8 1 (by omega)) (fun e => absurd rfl e)) hz2)))) ((zpr.c (zpr_ite (Or.inl rfl) (zf_prey_ok (by omega) (by omega))) (by omega) (by omega) hc0 hc1)).2).cfw (k := (((if (if ((σ 0) - (σ 0) / (σ 4) * (σ 4)) = 0 then (zb_next σ 8 1) else ((-1) : Int32)) = (-1) then (0 : Int32) else (zf_prey σ NL NC (if ((σ 0) - (σ 0) / (σ 4) * (σ 4)) = 0 then (zb_next σ 8 1) else ((-1) : Int32)))) - 100).toNatClampNeg)) (i := 3) ((zpr.c (zpr_ite (Or.inl rfl) (zf_prey_ok (by omega) (by omega))) (by omega) (by omega) hc0 hc1)).2 (by omega)))) (fun hc0 => ((hok.hpw (zix_ite3 (fun hz1 => hok.hp) (fun hz1 => ((zix_ite2 (zb_next_ix hok 8 1 (by omega)) (fun e => absurd rfl e)) hz1)))).lw (k := (((if (if ((σ 0) - (σ 0) / (σ 4) * (σ 4)) = 0 then (zb_next σ 8 1) else ((-1) : Int32)) = (-1) then (0 : Int32) else (zf_prey σ NL NC (if ((σ 0) - (σ 0) / (σ 4) * (σ 4)) = 0 then (zb_next σ 8 1) else ((-1) : Int32)))) - 200).toNatClampNeg)) ((zpr.l (zpr_ite (Or.inl rfl) (zf_prey_ok (by omega) (by omega))) (by omega) (by omega) hc0)).2 (by omega)))
def zf_hunts (σ : Nat → Int32) (NL NC : Nat) : Int32 := if ¬ ((if (if ((σ 0) - (σ 0) / (σ 4) * (σ 4)) = 0 then (zb_next σ 8 1) else ((-1) : Int32)) = (-1) then (0 : Int32) else (zf_prey σ NL NC (if ((σ 0) - (σ 0) / (σ 4) * (σ 4)) = 0 then (zb_next σ 8 1) else ((-1) : Int32)))) = 0) then (1 : Int32) else 0
def zr_hunts (σ : Nat → Int32) (NL NC : Nat) : Nat → Int32 := upd (zr_hunts_129 σ NL NC) 6 ((zr_hunts_129 σ NL NC 6) + (if ¬ ((if (if ((σ 0) - (σ 0) / (σ 4) * (σ 4)) = 0 then (zb_next σ 8 1) else ((-1) : Int32)) = (-1) then (0 : Int32) else (zf_prey σ NL NC (if ((σ 0) - (σ 0) / (σ 4) * (σ 4)) = 0 then (zb_next σ 8 1) else ((-1) : Int32)))) = 0) then (1 : Int32) else 0))
theorem zok_hunts {σ : Nat → Int32} {NL : Nat} {NC : Nat} {NS : Nat} (hok : zok σ NL NS NC) : zok (zr_hunts σ NL NC) NL NS NC := by
  obtain ⟨bL, bS, bC⟩ := hok.b
  unfold zr_hunts
  exact ((zok_hunts_129 hok).frP (by omega))
set_option maxHeartbeats 4000000 in
theorem k_hunts {G : zE} {A : Nat → Nat} (hA : zinj A 5) {P : Nat} (hP : P ≤ 287) {σ s pa ke no f : Nat → Int32} {h0 : zH} {p : Int32} (hp : p = nI P) {NL NS NC : Nat} (hok : zok σ NL NS NC) {d : Nat} (hd : 6 ≤ d) : zCon G fX3_hunts d 0 0 [.ref (A 0), .int p] (mdl G A (zput P σ s) pa ke no f h0) (zA (.int (zf_hunts σ NL NC)) (mdl G A (zput P (zr_hunts σ NL NC) s) pa ke no f h0)) nX := by
  refine zCon.of9 (L := [some (.ref (A 0)), some (.int p), none, none]) (by simp [Value.category]) (Nat.le_of_ble_eq_true rfl) pX3 rfl rfl ?_
  obtain ⟨bL, bS, bC⟩ := hok.b
  refine z_aload_n dX3_hunts_0 rfl ?_
  refine zm_get 0 dX3_hunts_1 q1742 rfl rfl ?_
  refine z_iload_n dX3_hunts_4 rfl ?_
  refine z_iconst dX3_hunts_5 (v := 0) rfl ?_
  refine z_iadd dX3_hunts_6 ?_
  refine zm_ld hA hP (P := P) (0) (v := σ 0) dX3_hunts_7 (zn_to (zn_add hp (zk 0)) (by omega)) (by omega) (rfl) ?_
  refine z_aload_n dX3_hunts_8 rfl ?_
  refine zm_get 0 dX3_hunts_9 q1742 rfl rfl ?_
  refine z_iload_n dX3_hunts_12 rfl ?_
  refine z_iconst dX3_hunts_13 (v := 4) rfl ?_
  refine z_iadd dX3_hunts_14 ?_
  refine zm_ld hA hP (P := P) (4) (v := σ 4) dX3_hunts_15 (zn_to (zn_add hp (zk 4)) (by omega)) (by omega) (rfl) ?_
  refine z_irem dX3_hunts_16 hok.p0 ?_
  refine z_join 29 (.int (if ((σ 0) - (σ 0) / (σ 4) * (σ 4)) = 0 then (zb_next σ 8 1) else ((-1) : Int32))) 1 ?_ (fun hJ => ?_)
  rotate_left
  ·
    refine z_if_ne (tgt := 28) dX3_hunts_17 (by decide) (fun c_1 => ?_) (fun c_1 => ?_)
    ·
      refine z_iconst dX3_hunts_28 (v := (-1)) rfl ?_
      exact z_jv (by simp only [if_neg c_1] <;> rfl) hJ
    ·
      refine z_aload_n dX3_hunts_20 rfl ?_
      refine z_iload_n dX3_hunts_21 rfl ?_
      refine z_cV zc7 mX3_next (k_next (d := d - 1) hA (P := P) hP hp hok (by omega)) dX3_hunts_22 q1945 (by omega) rfl (Nat.le_of_ble_eq_true rfl) rfl mdl_0 rfl ?_
      refine z_goto (tgt := 29) dX3_hunts_25 (by decide) ?_
      exact z_jv (by simp only [if_pos c_1] <;> rfl) hJ
  refine z_istore_n dX3_hunts_29 (by decide) ?_
  refine z_iload_n dX3_hunts_30 rfl ?_
  refine z_iconst dX3_hunts_31 (v := (-1)) rfl ?_
  refine z_join 45 (.int (if (if ((σ 0) - (σ 0) / (σ 4) * (σ 4)) = 0 then (zb_next σ 8 1) else ((-1) : Int32)) = (-1) then (0 : Int32) else (zf_prey σ NL NC (if ((σ 0) - (σ 0) / (σ 4) * (σ 4)) = 0 then (zb_next σ 8 1) else ((-1) : Int32))))) 2 ?_ (fun hJ => ?_)
  rotate_left
  ·
    refine z_icmp_ne (tgt := 39) dX3_hunts_32 (by decide) (fun c_2 => ?_) (fun c_2 => ?_)
    ·
      refine z_aload_n dX3_hunts_39 rfl ?_
      refine z_iload_n dX3_hunts_40 rfl ?_
      refine z_iload_n dX3_hunts_41 rfl ?_
      refine z_cV zc7 mX3_prey (k_prey (d := d - 1) hA (P := P) hP hp hok (by omega)) dX3_hunts_42 q1949 (by omega) rfl (Nat.le_of_ble_eq_true rfl) rfl mdl_0 rfl ?_
      exact z_jv (by simp only [if_neg c_2] <;> rfl) hJ
    ·
      refine z_iconst dX3_hunts_35 (v := 0) rfl ?_
      refine z_goto (tgt := 45) dX3_hunts_36 (by decide) ?_
      exact z_jv (by simp only [if_pos c_2] <;> rfl) hJ
  refine z_istore_n dX3_hunts_45 (by decide) ?_
  refine z_aload_n dX3_hunts_46 rfl ?_
  refine zm_get 0 dX3_hunts_47 q1742 rfl rfl ?_
  refine z_iload_n dX3_hunts_50 rfl ?_
  refine z_iconst dX3_hunts_51 (v := 5) rfl ?_
  refine z_iadd dX3_hunts_52 ?_
  refine z_iload_n dX3_hunts_53 rfl ?_
  refine z_iconst dX3_hunts_54 (v := (-1)) rfl ?_
  refine z_join 70 (.int (if (if ((σ 0) - (σ 0) / (σ 4) * (σ 4)) = 0 then (zb_next σ 8 1) else ((-1) : Int32)) = (-1) then (σ 5) else (if ((σ 0) - (σ 0) / (σ 4) * (σ 4)) = 0 then (zb_next σ 8 1) else ((-1) : Int32)))) 2 ?_ (fun hJ => ?_)
  rotate_left
  ·
    refine z_icmp_ne (tgt := 69) dX3_hunts_55 (by decide) (fun c_3 => ?_) (fun c_3 => ?_)
    ·
      refine z_iload_n dX3_hunts_69 rfl ?_
      exact z_jv (by simp only [if_neg c_3] <;> rfl) hJ
    ·
      refine z_aload_n dX3_hunts_58 rfl ?_
      refine zm_get 0 dX3_hunts_59 q1742 rfl rfl ?_
      refine z_iload_n dX3_hunts_62 rfl ?_
      refine z_iconst dX3_hunts_63 (v := 5) rfl ?_
      refine z_iadd dX3_hunts_64 ?_
      refine zm_ld hA hP (P := P) (5) (v := σ 5) dX3_hunts_65 (zn_to (zn_add hp (zk 5)) (by omega)) (by omega) (rfl) ?_
      refine z_goto (tgt := 70) dX3_hunts_66 (by decide) ?_
      exact z_jv (by simp only [if_pos c_3] <;> rfl) hJ
  refine zm_st hA hP (P := P) (5) dX3_hunts_70 (zn_to (zn_add hp (zk 5)) (by omega)) (by omega) ?_
  refine z_iload_n dX3_hunts_71 rfl ?_
  refine z_sipush dX3_hunts_72 (v := 200) rfl ?_
  refine z_joinH 129 [some (.ref (A 0)), some (.int p), some (.int (if ((σ 0) - (σ 0) / (σ 4) * (σ 4)) = 0 then (zb_next σ 8 1) else ((-1) : Int32))), some (.int (if (if ((σ 0) - (σ 0) / (σ 4) * (σ 4)) = 0 then (zb_next σ 8 1) else ((-1) : Int32)) = (-1) then (0 : Int32) else (zf_prey σ NL NC (if ((σ 0) - (σ 0) / (σ 4) * (σ 4)) = 0 then (zb_next σ 8 1) else ((-1) : Int32)))))] (mdl G A (zput P (zr_hunts_129 σ NL NC) s) pa ke no f h0) 2 ?_ (fun hJ => ?_)
  rotate_left
  ·
    refine z_icmp_lt (tgt := 98) dX3_hunts_75 (by decide) (fun c_4 => ?_) (fun c_4 => ?_)
    ·
      refine z_iload_n dX3_hunts_98 rfl ?_
      refine z_bipush dX3_hunts_99 (v := 100) rfl ?_
      refine z_icmp_lt (tgt := 129) dX3_hunts_101 (by decide) (fun c_5 => ?_) (fun c_5 => ?_)
      ·
        exact z_jH (by first | rfl | (simp only [if_pos c_4, if_pos c_5] <;> rfl)) (by simp only [zr_hunts_129, if_pos c_4, if_pos c_5]) hJ
      ·
        refine z_aload_n dX3_hunts_104 rfl ?_
        refine z_iload_n dX3_hunts_105 rfl ?_
        refine z_iload_n dX3_hunts_106 rfl ?_
        refine z_bipush dX3_hunts_107 (v := 100) rfl ?_
        refine z_isub dX3_hunts_109 ?_
        have lb_6 := (zpr.c (zpr_ite (Or.inl rfl) (zf_prey_ok (by omega) (by omega))) (by omega) (by omega) c_4 c_5).2
        refine z_cVv zc7 mX3_leaves (k_leaves (d := d - 1) hA (P := P) hP hp (hok.hpw (zix_ite3 (fun hz0 => hok.hp) (fun hz0 => ((zix_ite2 (zb_next_ix hok 8 1 (by omega)) (fun e => absurd rfl e)) hz0)))) ((zpr.c (zpr_ite (Or.inl rfl) (zf_prey_ok (by omega) (by omega))) (by omega) (by omega) c_4 c_5).1) (by omega) (by omega)) dX3_hunts_110 q1933 (by omega) rfl (Nat.le_of_ble_eq_true rfl) rfl mdl_0 rfl ?_
        refine z_aload_n dX3_hunts_113 rfl ?_
        refine zm_get 0 dX3_hunts_114 q1742 rfl rfl ?_
        refine z_iload_n dX3_hunts_117 rfl ?_
        refine z_iload_n dX3_hunts_118 rfl ?_
        refine z_bipush dX3_hunts_119 (v := 100) rfl ?_
        refine z_isub dX3_hunts_121 ?_
        refine z_cS mX3_crab (k_crab (d := d - 1) hp ((zpr.c (zpr_ite (Or.inl rfl) (zf_prey_ok (by omega) (by omega))) (by omega) (by omega) c_4 c_5).1) (by omega)) dX3_hunts_122 q1819 (by omega) rfl (Nat.le_of_ble_eq_true rfl) rfl ?_
        refine z_iconst dX3_hunts_125 (v := 3) rfl ?_
        refine z_iadd dX3_hunts_126 ?_
        refine z_iconst dX3_hunts_127 (v := 3) rfl ?_
        refine zm_st hA hP (P := P) (212 + 5 * (((if (if ((σ 0) - (σ 0) / (σ 4) * (σ 4)) = 0 then (zb_next σ 8 1) else ((-1) : Int32)) = (-1) then (0 : Int32) else (zf_prey σ NL NC (if ((σ 0) - (σ 0) / (σ 4) * (σ 4)) = 0 then (zb_next σ 8 1) else ((-1) : Int32)))) - 100).toNatClampNeg) + 3) dX3_hunts_128 (zn_to (zn_add rfl (zk 3)) (by omega)) (by omega) ?_
        exact z_jH (by first | rfl | (simp only [if_pos c_4, if_neg c_5] <;> rfl)) (by simp only [zr_hunts_129, if_pos c_4, if_neg c_5]) hJ
    ·
      refine z_aload_n dX3_hunts_78 rfl ?_
      refine zm_get 0 dX3_hunts_79 q1742 rfl rfl ?_
      refine z_iload_n dX3_hunts_82 rfl ?_
      refine z_iload_n dX3_hunts_83 rfl ?_
      refine z_sipush dX3_hunts_84 (v := 200) rfl ?_
      refine z_isub dX3_hunts_87 ?_
      have lb_7 := (zpr.l (zpr_ite (Or.inl rfl) (zf_prey_ok (by omega) (by omega))) (by omega) (by omega) c_4).2
      refine z_cS mX3_limpet (k_limpet (d := d - 1) hp ((zpr.l (zpr_ite (Or.inl rfl) (zf_prey_ok (by omega) (by omega))) (by omega) (by omega) c_4).1) (by omega)) dX3_hunts_88 q1808 (by omega) rfl (Nat.le_of_ble_eq_true rfl) rfl ?_
      refine z_iconst dX3_hunts_91 (v := 4) rfl ?_
      refine z_iadd dX3_hunts_92 ?_
      refine z_iconst dX3_hunts_93 (v := 3) rfl ?_
      refine zm_st hA hP (P := P) (32 + 5 * (((if (if ((σ 0) - (σ 0) / (σ 4) * (σ 4)) = 0 then (zb_next σ 8 1) else ((-1) : Int32)) = (-1) then (0 : Int32) else (zf_prey σ NL NC (if ((σ 0) - (σ 0) / (σ 4) * (σ 4)) = 0 then (zb_next σ 8 1) else ((-1) : Int32)))) - 200).toNatClampNeg) + 4) dX3_hunts_94 (zn_to (zn_add rfl (zk 4)) (by omega)) (by omega) ?_
      refine z_goto (tgt := 129) dX3_hunts_95 (by decide) ?_
      exact z_jH (by first | rfl | (simp only [if_neg c_4] <;> rfl)) (by simp only [zr_hunts_129, if_neg c_4]) hJ
  refine z_aload_n dX3_hunts_129 rfl ?_
  refine zm_get 0 dX3_hunts_130 q1742 rfl rfl ?_
  refine z_iload_n dX3_hunts_133 rfl ?_
  refine z_bipush dX3_hunts_134 (v := 6) rfl ?_
  refine z_iadd dX3_hunts_136 ?_
  refine z_dup2 dX3_hunts_137 rfl rfl ?_
  refine zm_ld hA hP (P := P) (6) (v := zr_hunts_129 σ NL NC 6) dX3_hunts_138 (zn_to (zn_add hp (zk 6)) (by omega)) (by omega) (rfl) ?_
  refine z_iload_n dX3_hunts_139 rfl ?_
  refine z_join 148 (.int (if ¬ ((if (if ((σ 0) - (σ 0) / (σ 4) * (σ 4)) = 0 then (zb_next σ 8 1) else ((-1) : Int32)) = (-1) then (0 : Int32) else (zf_prey σ NL NC (if ((σ 0) - (σ 0) / (σ 4) * (σ 4)) = 0 then (zb_next σ 8 1) else ((-1) : Int32)))) = 0) then (1 : Int32) else 0)) 1 ?_ (fun hJ => ?_)
  rotate_left
  ·
    refine z_if_ne (tgt := 147) dX3_hunts_140 (by decide) (fun c_8 => ?_) (fun c_8 => ?_)
    ·
      refine z_iconst dX3_hunts_147 (v := 1) rfl ?_
      exact z_jv (if_pos c_8) hJ
    ·
      refine z_iconst dX3_hunts_143 (v := 0) rfl ?_
      refine z_goto (tgt := 148) dX3_hunts_144 (by decide) ?_
      exact z_jv (if_neg (fun z => z c_8)) hJ
  refine z_iadd dX3_hunts_148 ?_
  refine zm_st hA hP (P := P) (6) dX3_hunts_149 (zn_to (zn_add hp (zk 6)) (by omega)) (by omega) ?_
  refine z_iload_n dX3_hunts_150 rfl ?_
  refine z_join 159 (.int (if ¬ ((if (if ((σ 0) - (σ 0) / (σ 4) * (σ 4)) = 0 then (zb_next σ 8 1) else ((-1) : Int32)) = (-1) then (0 : Int32) else (zf_prey σ NL NC (if ((σ 0) - (σ 0) / (σ 4) * (σ 4)) = 0 then (zb_next σ 8 1) else ((-1) : Int32)))) = 0) then (1 : Int32) else 0)) 1 ?_ (fun hJ => ?_)
  rotate_left
  ·
    refine z_if_ne (tgt := 158) dX3_hunts_151 (by decide) (fun c_9 => ?_) (fun c_9 => ?_)
    ·
      refine z_iconst dX3_hunts_158 (v := 1) rfl ?_
      exact z_jv (if_pos c_9) hJ
    ·
      refine z_iconst dX3_hunts_154 (v := 0) rfl ?_
      refine z_goto (tgt := 159) dX3_hunts_155 (by decide) ?_
      exact z_jv (if_neg (fun z => z c_9)) hJ
  refine z_ret dX3_hunts_159 rfl rfl ⟨rfl, rfl⟩
def zb_grows  : Nat → Nat → (Nat → Int32) → (Nat → Int32)
  | 0, _, σ => σ
  | j + 1, K, σ => if ((σ 0) - (σ 0) / 24 * 24) = 0 then (zb_grows j (K + 1) (upd σ (212 + 5 * K) ((σ (212 + 5 * K)) + (if ((zf_lives σ K) ∧ (¬ ((σ (212 + 5 * K + 2)) = (-1)) ∧ (¬ ((σ (133 + 3 * ((σ (212 + 5 * K + 2)).toNatClampNeg))) ≤ (σ (212 + 5 * K)))))) ∧ (¬ (20 ≤ (σ (212 + 5 * K)))) then (1 : Int32) else 0)))) else (σ)
theorem zokb_grows  {NL NS NC : Nat} : ∀ (j K : Nat) (σ : (Nat → Int32)), K + j = NC → zok σ NL NS NC → zok (zb_grows j K σ) NL NS NC := by
  intro j
  induction j with
  | zero => intro K σ _ hok; exact hok
  | succ j ih =>
    intro K σ hK hok
    obtain ⟨bL, bS, bC⟩ := hok.b
    show zok (if ((σ 0) - (σ 0) / 24 * 24) = 0 then (zb_grows j (K + 1) (upd σ (212 + 5 * K) ((σ (212 + 5 * K)) + (if ((zf_lives σ K) ∧ (¬ ((σ (212 + 5 * K + 2)) = (-1)) ∧ (¬ ((σ (133 + 3 * ((σ (212 + 5 * K + 2)).toNatClampNeg))) ≤ (σ (212 + 5 * K)))))) ∧ (¬ (20 ≤ (σ (212 + 5 * K)))) then (1 : Int32) else 0)))) else (σ)) NL NS NC
    by_cases hc0 : ((σ 0) - (σ 0) / 24 * 24) = 0
    · rw [if_pos hc0]
      exact ih (K + 1) (upd σ (212 + 5 * K) ((σ (212 + 5 * K)) + (if ((zf_lives σ K) ∧ (¬ ((σ (212 + 5 * K + 2)) = (-1)) ∧ (¬ ((σ (133 + 3 * ((σ (212 + 5 * K + 2)).toNatClampNeg))) ≤ (σ (212 + 5 * K)))))) ∧ (¬ (20 ≤ (σ (212 + 5 * K)))) then (1 : Int32) else 0))) (by omega) (hok.cfw (k := K) (i := 0) (by omega) (by omega))
    · rw [if_neg hc0]
      exact hok
set_option maxHeartbeats 4000000 in
theorem l_grows {G : zE} {A : Nat → Nat} (hA : zinj A 5) {P : Nat} (hP : P ≤ 287) {s pa ke no f : Nat → Int32} {h0 : zH} {p : Int32} (hp : p = nI P) {NL NS NC : Nat} {d k n : Nat} (hd : 3 ≤ d) {Q : Option Value → zH → Prop} {X : String → zH → Prop} : ∀ (j K : Nat) (σ : (Nat → Int32)), K + j = NC → zok σ NL NS NC → zV G fX3_grows d 126 [some (.ref (A 0)), some (.int p), none, none, none] [] (mdl G A (zput P (zb_grows j K σ) s) pa ke no f h0) k n Q X → zV G fX3_grows d 2 [some (.ref (A 0)), some (.int p), some (.int (nI K)), none, none] [] (mdl G A (zput P σ s) pa ke no f h0) k n Q X := by
  intro j
  induction j with
  | zero =>
    intro K σ hK hinv hx
    have hK9 : K = NC := by omega
    subst hK9
    refine z_iload_n dX3_grows_2 rfl ?_
    refine z_aload_n dX3_grows_3 rfl ?_
    refine zm_get 0 dX3_grows_4 q1742 rfl rfl ?_
    refine z_iload_n dX3_grows_7 rfl ?_
    refine z_sipush dX3_grows_8 (v := 211) rfl ?_
    refine z_iadd dX3_grows_11 ?_
    refine zm_ld hA hP (P := P) (211) (v := σ 211) dX3_grows_12 (zn_to (zn_add hp (zk 211)) (by omega)) (by omega) (rfl) ?_
    refine z_icmp_ge (tgt := 126) dX3_grows_13 (by decide) (fun hg => ?_) (fun hg => ?_)
    ·
      refine z_loc (L2 := [some (.ref (A 0)), some (.int p), none, none, none]) ⟨rfl, rfl, trivial⟩ ?_
      exact hx
    · exact absurd (by rw [hinv.nc]; exact Int32.le_refl _) hg
  | succ j ih =>
    intro K σ hK hinv hx
    obtain ⟨bL, bS, bC⟩ := hinv.b
    refine z_iload_n dX3_grows_2 rfl ?_
    refine z_aload_n dX3_grows_3 rfl ?_
    refine zm_get 0 dX3_grows_4 q1742 rfl rfl ?_
    refine z_iload_n dX3_grows_7 rfl ?_
    refine z_sipush dX3_grows_8 (v := 211) rfl ?_
    refine z_iadd dX3_grows_11 ?_
    refine zm_ld hA hP (P := P) (211) (v := σ 211) dX3_grows_12 (zn_to (zn_add hp (zk 211)) (by omega)) (by omega) (rfl) ?_
    refine z_icmp_ge (tgt := 126) dX3_grows_13 (by decide) (fun hg => ?_) (fun hg => ?_)
    · exact absurd hg (by rw [hinv.nc]; exact nI_ge (by omega) (by omega))
    ·
      refine z_aload_n dX3_grows_16 rfl ?_
      refine zm_get 0 dX3_grows_17 q1742 rfl rfl ?_
      refine z_iload_n dX3_grows_20 rfl ?_
      refine z_iconst dX3_grows_21 (v := 0) rfl ?_
      refine z_iadd dX3_grows_22 ?_
      refine zm_ld hA hP (P := P) (0) (v := σ 0) dX3_grows_23 (zn_to (zn_add hp (zk 0)) (by omega)) (by omega) (rfl) ?_
      refine z_bipush dX3_grows_24 (v := 24) rfl ?_
      refine z_irem dX3_grows_26 (by decide) ?_
      refine z_if_ne (tgt := 126) dX3_grows_27 (by decide) (fun c_1 => ?_) (fun c_1 => ?_)
      ·
        refine z_loc (L2 := [some (.ref (A 0)), some (.int p), none, none, none]) ⟨rfl, rfl, trivial⟩ ?_
        exact (by have h9 := hx; simp only [zb_grows, if_neg c_1] at h9; exact h9)
      ·
        refine z_iload_n dX3_grows_30 rfl ?_
        refine z_iload_n dX3_grows_31 rfl ?_
        refine z_cS mX3_crab (k_crab (d := d - 1) hp rfl (by omega)) dX3_grows_32 q1819 (by omega) rfl (Nat.le_of_ble_eq_true rfl) rfl ?_
        refine z_istore_n dX3_grows_35 (by decide) ?_
        refine z_aload_n dX3_grows_36 rfl ?_
        refine z_iload_n dX3_grows_37 rfl ?_
        refine z_iload_n dX3_grows_38 rfl ?_
        refine z_cV zc7 mX3_lives (k_lives (d := d - 1) hA (P := P) hP hp rfl (by omega) (by omega)) dX3_grows_39 q1905 (by omega) rfl (Nat.le_of_ble_eq_true rfl) rfl mdl_0 rfl ?_
        refine z_join 88 (.int (if (zf_lives σ K) ∧ (¬ ((σ (212 + 5 * K + 2)) = (-1)) ∧ (¬ ((σ (133 + 3 * ((σ (212 + 5 * K + 2)).toNatClampNeg))) ≤ (σ (212 + 5 * K))))) then (1 : Int32) else 0)) 1 ?_ (fun hJ => ?_)
        rotate_left
        ·
          refine z_ifB_eq (tgt := 87) dX3_grows_42 (by decide) (fun c_2 => ?_) (fun c_2 => ?_)
          ·
            refine z_iconst dX3_grows_87 (v := 0) rfl ?_
            exact z_jv (if_neg (fun z => c_2 z.1)) hJ
          ·
            refine z_aload_n dX3_grows_45 rfl ?_
            refine zm_get 0 dX3_grows_46 q1742 rfl rfl ?_
            refine z_iload_n dX3_grows_49 rfl ?_
            refine z_iconst dX3_grows_50 (v := 2) rfl ?_
            refine z_iadd dX3_grows_51 ?_
            refine zm_ld hA hP (P := P) (212 + 5 * K + 2) (v := σ (212 + 5 * K + 2)) dX3_grows_52 (zn_to (zn_add rfl (zk 2)) (by omega)) (by omega) (rfl) ?_
            refine z_iconst dX3_grows_53 (v := (-1)) rfl ?_
            refine z_icmp_eq (tgt := 87) dX3_grows_54 (by decide) (fun c_3 => ?_) (fun c_3 => ?_)
            ·
              refine z_iconst dX3_grows_87 (v := 0) rfl ?_
              exact z_jv (if_neg (fun z => (fun z => z.1 c_3) z.2)) hJ
            ·
              refine z_aload_n dX3_grows_57 rfl ?_
              refine zm_get 0 dX3_grows_58 q1742 rfl rfl ?_
              refine z_iload_n dX3_grows_61 rfl ?_
              refine z_aload_n dX3_grows_62 rfl ?_
              refine zm_get 0 dX3_grows_63 q1742 rfl rfl ?_
              refine z_iload_n dX3_grows_66 rfl ?_
              refine z_iconst dX3_grows_67 (v := 2) rfl ?_
              refine z_iadd dX3_grows_68 ?_
              refine zm_ld hA hP (P := P) (212 + 5 * K + 2) (v := σ (212 + 5 * K + 2)) dX3_grows_69 (zn_to (zn_add rfl (zk 2)) (by omega)) (by omega) (rfl) ?_
              have lb_4 := (hinv.cw (k := K) (by omega) c_3).2
              refine z_cS mX3_shell (k_shell (d := d - 1) hp ((hinv.cw (k := K) (by omega) c_3).1) (by omega)) dX3_grows_70 q1834 (by omega) rfl (Nat.le_of_ble_eq_true rfl) rfl ?_
              refine zm_ld hA hP (P := P) (133 + 3 * ((σ (212 + 5 * K + 2)).toNatClampNeg)) (v := σ (133 + 3 * ((σ (212 + 5 * K + 2)).toNatClampNeg))) dX3_grows_73 (zn_to (rfl) (by omega)) (by omega) (rfl) ?_
              refine z_aload_n dX3_grows_74 rfl ?_
              refine zm_get 0 dX3_grows_75 q1742 rfl rfl ?_
              refine z_iload_n dX3_grows_78 rfl ?_
              refine zm_ld hA hP (P := P) (212 + 5 * K) (v := σ (212 + 5 * K)) dX3_grows_79 (zn_to (rfl) (by omega)) (by omega) (rfl) ?_
              refine z_icmp_le (tgt := 87) dX3_grows_80 (by decide) (fun c_5 => ?_) (fun c_5 => ?_)
              ·
                refine z_iconst dX3_grows_87 (v := 0) rfl ?_
                exact z_jv (if_neg (fun z => (fun z => (fun z => z c_5) z.2) z.2)) hJ
              ·
                refine z_iconst dX3_grows_83 (v := 1) rfl ?_
                refine z_goto (tgt := 88) dX3_grows_84 (by decide) ?_
                exact z_jv (if_pos (⟨c_2, ⟨c_3, c_5⟩⟩)) hJ
        refine z_istore dX3_grows_88 (by decide) ?_
        refine z_aload_n dX3_grows_90 rfl ?_
        refine zm_get 0 dX3_grows_91 q1742 rfl rfl ?_
        refine z_iload_n dX3_grows_94 rfl ?_
        refine z_dup2 dX3_grows_95 rfl rfl ?_
        refine zm_ld hA hP (P := P) (212 + 5 * K) (v := σ (212 + 5 * K)) dX3_grows_96 (zn_to (rfl) (by omega)) (by omega) (rfl) ?_
        refine z_iload dX3_grows_97 rfl ?_
        refine z_join 118 (.int (if ((zf_lives σ K) ∧ (¬ ((σ (212 + 5 * K + 2)) = (-1)) ∧ (¬ ((σ (133 + 3 * ((σ (212 + 5 * K + 2)).toNatClampNeg))) ≤ (σ (212 + 5 * K)))))) ∧ (¬ (20 ≤ (σ (212 + 5 * K)))) then (1 : Int32) else 0)) 1 ?_ (fun hJ => ?_)
        rotate_left
        ·
          refine z_ifB_eq (tgt := 117) dX3_grows_99 (by decide) (fun c_6 => ?_) (fun c_6 => ?_)
          ·
            refine z_iconst dX3_grows_117 (v := 0) rfl ?_
            exact z_jv (if_neg (fun z => c_6 z.1)) hJ
          ·
            refine z_aload_n dX3_grows_102 rfl ?_
            refine zm_get 0 dX3_grows_103 q1742 rfl rfl ?_
            refine z_iload_n dX3_grows_106 rfl ?_
            refine zm_ld hA hP (P := P) (212 + 5 * K) (v := σ (212 + 5 * K)) dX3_grows_107 (zn_to (rfl) (by omega)) (by omega) (rfl) ?_
            refine z_bipush dX3_grows_108 (v := 20) rfl ?_
            refine z_icmp_ge (tgt := 117) dX3_grows_110 (by decide) (fun c_7 => ?_) (fun c_7 => ?_)
            ·
              refine z_iconst dX3_grows_117 (v := 0) rfl ?_
              exact z_jv (if_neg (fun z => (fun z => z c_7) z.2)) hJ
            ·
              refine z_iconst dX3_grows_113 (v := 1) rfl ?_
              refine z_goto (tgt := 118) dX3_grows_114 (by decide) ?_
              exact z_jv (if_pos (⟨c_6, c_7⟩)) hJ
        refine z_iadd dX3_grows_118 ?_
        refine zm_st hA hP (P := P) (212 + 5 * K) dX3_grows_119 (zn_to (rfl) (by omega)) (by omega) ?_
        refine z_iinc dX3_grows_120 rfl (v := nI (K + 1)) (z_inc rfl) ?_
        refine z_goto (tgt := 2) dX3_grows_123 (by decide) ?_
        refine z_loc (L2 := [some (.ref (A 0)), some (.int p), some (.int (nI (K + 1))), none, none]) ⟨rfl, rfl, rfl, trivial⟩ ?_
        exact ih (K + 1) (upd σ (212 + 5 * K) ((σ (212 + 5 * K)) + (if ((zf_lives σ K) ∧ (¬ ((σ (212 + 5 * K + 2)) = (-1)) ∧ (¬ ((σ (133 + 3 * ((σ (212 + 5 * K + 2)).toNatClampNeg))) ≤ (σ (212 + 5 * K)))))) ∧ (¬ (20 ≤ (σ (212 + 5 * K)))) then (1 : Int32) else 0))) (by omega) (hinv.cfw (k := K) (i := 0) (by omega) (by omega)) (by have h9 := hx; simp only [zb_grows, if_pos c_1] at h9; exact h9)
def zr_grows (σ : Nat → Int32) (NC : Nat) : Nat → Int32 := zb_grows  NC 0 σ
theorem zok_grows {σ : Nat → Int32} {NC : Nat} {NL NS : Nat} (hok : zok σ NL NS NC) : zok (zr_grows σ NC) NL NS NC := by
  obtain ⟨bL, bS, bC⟩ := hok.b
  unfold zr_grows
  exact (zokb_grows _ _ _ (by omega) hok)
set_option maxHeartbeats 4000000 in
theorem k_grows {G : zE} {A : Nat → Nat} (hA : zinj A 5) {P : Nat} (hP : P ≤ 287) {σ s pa ke no f : Nat → Int32} {h0 : zH} {p : Int32} (hp : p = nI P) {NL NS NC : Nat} (hok : zok σ NL NS NC) {d : Nat} (hd : 4 ≤ d) : zCon G fX3_grows d 0 0 [.ref (A 0), .int p] (mdl G A (zput P σ s) pa ke no f h0) (zAv (mdl G A (zput P (zr_grows σ NC) s) pa ke no f h0)) nX := by
  refine zCon.of9 (L := [some (.ref (A 0)), some (.int p), none, none, none]) (by simp [Value.category]) (Nat.le_of_ble_eq_true rfl) pX3 rfl rfl ?_
  refine z_iconst dX3_grows_0 (v := 0) rfl ?_
  refine z_istore_n dX3_grows_1 (by decide) ?_
  refine z_loc (L2 := [some (.ref (A 0)), some (.int p), some (.int 0), none, none]) ⟨rfl, rfl, rfl, trivial⟩ ?_
  refine l_grows hA hP hp (by omega) NC 0 σ (by omega) hok ?_
  refine z_vret dX3_grows_126 rfl ⟨rfl, rfl⟩
def zr_hour_54 (σ : Nat → Int32) (NL NS NC : Nat) : Nat → Int32 := if (zf_changes (zr_wanders (zr_grazes (zr_warms (upd σ 0 ((σ 0) + 1))) NL) NS NC) NS NC) < 0 then (zr_changes (zr_wanders (zr_grazes (zr_warms (upd σ 0 ((σ 0) + 1))) NL) NS NC) NS NC) else (zr_hunts (zr_heats (zr_changes (zr_wanders (zr_grazes (zr_warms (upd σ 0 ((σ 0) + 1))) NL) NS NC) NS NC) NC) NL NC)
theorem zok_hour_54 {σ : Nat → Int32} {NL : Nat} {NS : Nat} {NC : Nat}  (hok : zok σ NL NS NC) : zok (zr_hour_54 σ NL NS NC) NL NS NC := by
  obtain ⟨bL, bS, bC⟩ := hok.b
  unfold zr_hour_54
  exact zok_ite (fun hc0 => (zok_changes (zok_wanders (zok_grazes (zok_warms (hok.frP (by omega))))))) (fun hc0 => (zok_hunts (zok_heats (zok_changes (zok_wanders (zok_grazes (zok_warms (hok.frP (by omega)))))))))
def zf_hour (σ : Nat → Int32) (NL NS NC : Nat) : Int32 := if (zf_changes (zr_wanders (zr_grazes (zr_warms (upd σ 0 ((σ 0) + 1))) NL) NS NC) NS NC) < 0 then ((zf_grazes (zr_warms (upd σ 0 ((σ 0) + 1))) NL) + 0) else ((zf_grazes (zr_warms (upd σ 0 ((σ 0) + 1))) NL) + ((zf_heats (zr_changes (zr_wanders (zr_grazes (zr_warms (upd σ 0 ((σ 0) + 1))) NL) NS NC) NS NC) NC) + (zf_hunts (zr_heats (zr_changes (zr_wanders (zr_grazes (zr_warms (upd σ 0 ((σ 0) + 1))) NL) NS NC) NS NC) NC) NL NC)))
def zr_hour (σ : Nat → Int32) (NL NS NC : Nat) : Nat → Int32 := if (zf_changes (zr_wanders (zr_grazes (zr_warms (upd σ 0 ((σ 0) + 1))) NL) NS NC) NS NC) < 0 then (zr_grows (zr_changes (zr_wanders (zr_grazes (zr_warms (upd σ 0 ((σ 0) + 1))) NL) NS NC) NS NC) NC) else (zr_grows (zr_hunts (zr_heats (zr_changes (zr_wanders (zr_grazes (zr_warms (upd σ 0 ((σ 0) + 1))) NL) NS NC) NS NC) NC) NL NC) NC)
theorem zok_hour {σ : Nat → Int32} {NL : Nat} {NS : Nat} {NC : Nat}  (hok : zok σ NL NS NC) : zok (zr_hour σ NL NS NC) NL NS NC := by
  obtain ⟨bL, bS, bC⟩ := hok.b
  unfold zr_hour
  exact zok_ite (fun hc0 => (zok_grows (zok_changes (zok_wanders (zok_grazes (zok_warms (hok.frP (by omega)))))))) (fun hc0 => (zok_grows (zok_hunts (zok_heats (zok_changes (zok_wanders (zok_grazes (zok_warms (hok.frP (by omega))))))))))
set_option maxHeartbeats 4000000 in
theorem k_hour {G : zE} {A : Nat → Nat} (hA : zinj A 5) {P : Nat} (hP : P ≤ 287) {σ s pa ke no f : Nat → Int32} {h0 : zH} {p : Int32} (hp : p = nI P) {NL NS NC : Nat} (hok : zok σ NL NS NC) {d : Nat} (hd : 9 ≤ d) : zCon G fX3_hour d 0 0 [.ref (A 0), .int p] (mdl G A (zput P σ s) pa ke no f h0) (zA (.int (zf_hour σ NL NS NC)) (mdl G A (zput P (zr_hour σ NL NS NC) s) pa ke no f h0)) nX := by
  refine zCon.of9 (L := [some (.ref (A 0)), some (.int p), none, none]) (by simp [Value.category]) (Nat.le_of_ble_eq_true rfl) pX3 rfl rfl ?_
  obtain ⟨bL, bS, bC⟩ := hok.b
  refine z_aload_n dX3_hour_0 rfl ?_
  refine zm_get 0 dX3_hour_1 q1742 rfl rfl ?_
  refine z_iload_n dX3_hour_4 rfl ?_
  refine z_iconst dX3_hour_5 (v := 0) rfl ?_
  refine z_iadd dX3_hour_6 ?_
  refine z_dup2 dX3_hour_7 rfl rfl ?_
  refine zm_ld hA hP (P := P) (0) (v := σ 0) dX3_hour_8 (zn_to (zn_add hp (zk 0)) (by omega)) (by omega) (rfl) ?_
  refine z_iconst dX3_hour_9 (v := 1) rfl ?_
  refine z_iadd dX3_hour_10 ?_
  refine zm_st hA hP (P := P) (0) dX3_hour_11 (zn_to (zn_add hp (zk 0)) (by omega)) (by omega) ?_
  refine z_aload_n dX3_hour_12 rfl ?_
  refine z_iload_n dX3_hour_13 rfl ?_
  refine z_cVv zc7 mX3_warms (k_warms (d := d - 1) hA (P := P) hP hp (by omega)) dX3_hour_14 q1881 (by omega) rfl (Nat.le_of_ble_eq_true rfl) rfl mdl_0 rfl ?_
  refine z_aload_n dX3_hour_17 rfl ?_
  refine z_iload_n dX3_hour_18 rfl ?_
  refine z_cV zc7 mX3_grazes (k_grazes (d := d - 1) hA (P := P) hP hp (zok_warms (hok.frP (by omega))) (by omega)) dX3_hour_19 q1889 (by omega) rfl (Nat.le_of_ble_eq_true rfl) rfl mdl_0 rfl ?_
  refine z_istore_n dX3_hour_22 (by decide) ?_
  refine z_aload_n dX3_hour_23 rfl ?_
  refine z_iload_n dX3_hour_24 rfl ?_
  refine z_cVv zc7 mX3_wanders (k_wanders (d := d - 1) hA (P := P) hP hp (zok_grazes (zok_warms (hok.frP (by omega)))) (by omega)) dX3_hour_25 q1901 (by omega) rfl (Nat.le_of_ble_eq_true rfl) rfl mdl_0 rfl ?_
  refine z_aload_n dX3_hour_28 rfl ?_
  refine z_iload_n dX3_hour_29 rfl ?_
  refine z_cV zc7 mX3_changes (k_changes (d := d - 1) hA (P := P) hP hp (zok_wanders (zok_grazes (zok_warms (hok.frP (by omega))))) (by omega)) dX3_hour_30 q1929 (by omega) rfl (Nat.le_of_ble_eq_true rfl) rfl mdl_0 rfl ?_
  refine z_istore_n dX3_hour_33 (by decide) ?_
  refine z_iload_n dX3_hour_34 rfl ?_
  refine z_iload_n dX3_hour_35 rfl ?_
  refine z_if_lt (tgt := 53) dX3_hour_36 (by decide) (fun c_1 => ?_) (fun c_1 => ?_)
  ·
    refine z_iconst dX3_hour_53 (v := 0) rfl ?_
    refine z_iadd dX3_hour_54 ?_
    refine z_istore_n dX3_hour_55 (by decide) ?_
    refine z_aload_n dX3_hour_56 rfl ?_
    refine z_iload_n dX3_hour_57 rfl ?_
    refine z_cVv zc7 mX3_grows (k_grows (d := d - 1) hA (P := P) hP hp (zok_changes (zok_wanders (zok_grazes (zok_warms (hok.frP (by omega)))))) (by omega)) dX3_hour_58 q1957 (by omega) rfl (Nat.le_of_ble_eq_true rfl) rfl mdl_0 rfl ?_
    refine z_iload_n dX3_hour_61 rfl ?_
    refine z_ret dX3_hour_62 rfl rfl ⟨by simp only [zf_hour, if_pos c_1], by simp only [zr_hour, if_pos c_1]⟩
  ·
    refine z_aload_n dX3_hour_39 rfl ?_
    refine z_iload_n dX3_hour_40 rfl ?_
    refine z_cV zc7 mX3_heats (k_heats (d := d - 1) hA (P := P) hP hp (zok_changes (zok_wanders (zok_grazes (zok_warms (hok.frP (by omega)))))) (by omega)) dX3_hour_41 q1937 (by omega) rfl (Nat.le_of_ble_eq_true rfl) rfl mdl_0 rfl ?_
    refine z_aload_n dX3_hour_44 rfl ?_
    refine z_iload_n dX3_hour_45 rfl ?_
    refine z_cV zc7 mX3_hunts (k_hunts (d := d - 1) hA (P := P) hP hp (zok_heats (zok_changes (zok_wanders (zok_grazes (zok_warms (hok.frP (by omega))))))) (by omega)) dX3_hour_46 q1941 (by omega) rfl (Nat.le_of_ble_eq_true rfl) rfl mdl_0 rfl ?_
    refine z_iadd dX3_hour_49 ?_
    refine z_goto (tgt := 54) dX3_hour_50 (by decide) ?_
    refine z_iadd dX3_hour_54 ?_
    refine z_istore_n dX3_hour_55 (by decide) ?_
    refine z_aload_n dX3_hour_56 rfl ?_
    refine z_iload_n dX3_hour_57 rfl ?_
    refine z_cVv zc7 mX3_grows (k_grows (d := d - 1) hA (P := P) hP hp (zok_hunts (zok_heats (zok_changes (zok_wanders (zok_grazes (zok_warms (hok.frP (by omega)))))))) (by omega)) dX3_hour_58 q1957 (by omega) rfl (Nat.le_of_ble_eq_true rfl) rfl mdl_0 rfl ?_
    refine z_iload_n dX3_hour_61 rfl ?_
    refine z_ret dX3_hour_62 rfl rfl ⟨by simp only [zf_hour, if_neg c_1], by simp only [zr_hour, if_neg c_1]⟩
def zb_passes (NL NS NC : Nat) : Nat → Nat → Int32 → (Nat → Int32) → Int32 × (Nat → Int32)
  | 0, _, x, σ => (x, σ)
  | j + 1, K, x, σ => zb_passes NL NS NC j (K + 1) (x + (zf_hour σ NL NS NC)) (zr_hour σ NL NS NC)
theorem zokb_passes {NL NS NC : Nat}  : ∀ (j K : Nat) (x : Int32) (σ : (Nat → Int32)), zok σ NL NS NC → zok (zb_passes NL NS NC j K x σ).2 NL NS NC := by
  intro j
  induction j with
  | zero => intro K x σ hok; exact hok
  | succ j ih =>
    intro K x σ hok
    obtain ⟨bL, bS, bC⟩ := hok.b
    show zok (zb_passes NL NS NC j (K + 1) (x + (zf_hour σ NL NS NC)) (zr_hour σ NL NS NC)).2 NL NS NC
    exact ih (K + 1) (x + (zf_hour σ NL NS NC)) (zr_hour σ NL NS NC) (zok_hour hok)
set_option maxHeartbeats 4000000 in
theorem l_passes {G : zE} {A : Nat → Nat} (hA : zinj A 5) {P : Nat} (hP : P ≤ 287) {s pa ke no f : Nat → Int32} {h0 : zH} {p : Int32} (hp : p = nI P) {NL NS NC : Nat} {hours : Int32} {H : Nat} (hh : hours = nI H) (hH : H < 2 ^ 31) {d k n : Nat} (hd : 10 ≤ d) {Q : Option Value → zH → Prop} {X : String → zH → Prop} : ∀ (j K : Nat) (x : Int32) (σ : (Nat → Int32)), K + j = H → zok σ NL NS NC → zV G fX3_passes d 25 [some (.ref (A 0)), some (.int p), some (.int hours), some (.int ((zb_passes NL NS NC j K x σ).1)), none] [] (mdl G A (zput P ((zb_passes NL NS NC j K x σ).2) s) pa ke no f h0) k n Q X → zV G fX3_passes d 5 [some (.ref (A 0)), some (.int p), some (.int hours), some (.int x), some (.int (nI K))] [] (mdl G A (zput P σ s) pa ke no f h0) k n Q X := by
  intro j
  induction j with
  | zero =>
    intro K x σ hK hinv hx
    have hK9 : K = H := by omega
    subst hK9
    refine z_iload dX3_passes_5 rfl ?_
    refine z_iload_n dX3_passes_7 rfl ?_
    refine z_icmp_ge (tgt := 25) dX3_passes_8 (by decide) (fun hg => ?_) (fun hg => ?_)
    ·
      refine z_loc (L2 := [some (.ref (A 0)), some (.int p), some (.int hours), some (.int x), none]) ⟨rfl, rfl, rfl, rfl, trivial⟩ ?_
      exact hx
    · exact absurd (by rw [hh]; exact Int32.le_refl _) hg
  | succ j ih =>
    intro K x σ hK hinv hx
    obtain ⟨bL, bS, bC⟩ := hinv.b
    refine z_iload dX3_passes_5 rfl ?_
    refine z_iload_n dX3_passes_7 rfl ?_
    refine z_icmp_ge (tgt := 25) dX3_passes_8 (by decide) (fun hg => ?_) (fun hg => ?_)
    · exact absurd hg (by rw [hh]; exact nI_ge (by omega) (by omega))
    ·
      refine z_iload_n dX3_passes_11 rfl ?_
      refine z_aload_n dX3_passes_12 rfl ?_
      refine z_iload_n dX3_passes_13 rfl ?_
      refine z_cV zc7 mX3_hour (k_hour (d := d - 1) hA (P := P) hP hp hinv (by omega)) dX3_passes_14 q1877 (by omega) rfl (Nat.le_of_ble_eq_true rfl) rfl mdl_0 rfl ?_
      refine z_iadd dX3_passes_17 ?_
      refine z_istore_n dX3_passes_18 (by decide) ?_
      refine z_iinc dX3_passes_19 rfl (v := nI (K + 1)) (z_inc rfl) ?_
      refine z_goto (tgt := 5) dX3_passes_22 (by decide) ?_
      refine z_loc (L2 := [some (.ref (A 0)), some (.int p), some (.int hours), some (.int (x + (zf_hour σ NL NS NC))), some (.int (nI (K + 1)))]) ⟨rfl, rfl, rfl, rfl, rfl, trivial⟩ ?_
      exact ih (K + 1) (x + (zf_hour σ NL NS NC)) (zr_hour σ NL NS NC) (by omega) (zok_hour hinv) hx
def zf_passes (σ : Nat → Int32) (NL NS NC H : Nat) : Int32 := (zb_passes NL NS NC H 0 (0 : Int32) σ).1
def zr_passes (σ : Nat → Int32) (NL NS NC H : Nat) : Nat → Int32 := (zb_passes NL NS NC H 0 (0 : Int32) σ).2
theorem zok_passes {σ : Nat → Int32} {NL : Nat} {NS : Nat} {NC : Nat} {H : Nat}  (hok : zok σ NL NS NC) : zok (zr_passes σ NL NS NC H) NL NS NC := by
  obtain ⟨bL, bS, bC⟩ := hok.b
  unfold zr_passes
  exact (zokb_passes _ _ _ _ hok)
set_option maxHeartbeats 4000000 in
theorem k_passes {G : zE} {A : Nat → Nat} (hA : zinj A 5) {P : Nat} (hP : P ≤ 287) {σ s pa ke no f : Nat → Int32} {h0 : zH} {p : Int32} (hp : p = nI P) {NL NS NC : Nat} (hok : zok σ NL NS NC) {hours : Int32} {H : Nat} (hh : hours = nI H) (hH : H < 2 ^ 31) {d : Nat} (hd : 11 ≤ d) : zCon G fX3_passes d 0 0 [.ref (A 0), .int p, .int hours] (mdl G A (zput P σ s) pa ke no f h0) (zA (.int (zf_passes σ NL NS NC H)) (mdl G A (zput P (zr_passes σ NL NS NC H) s) pa ke no f h0)) nX := by
  refine zCon.of9 (L := [some (.ref (A 0)), some (.int p), some (.int hours), none, none]) (by simp [Value.category]) (Nat.le_of_ble_eq_true rfl) pX3 rfl rfl ?_
  refine z_iconst dX3_passes_0 (v := 0) rfl ?_
  refine z_istore_n dX3_passes_1 (by decide) ?_
  refine z_iconst dX3_passes_2 (v := 0) rfl ?_
  refine z_istore dX3_passes_3 (by decide) ?_
  refine z_loc (L2 := [some (.ref (A 0)), some (.int p), some (.int hours), some (.int 0), some (.int 0)]) ⟨rfl, rfl, rfl, rfl, rfl, trivial⟩ ?_
  refine l_passes hA hP hp hh hH (by omega) H 0 (0 : Int32) σ (by omega) hok ?_
  refine z_iload_n dX3_passes_25 rfl ?_
  refine z_ret dX3_passes_26 rfl rfl ⟨rfl, rfl⟩
