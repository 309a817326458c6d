/-! THE REFERENCE, part 14: the hour is kept but by hours; orders carried -/
set_option maxRecDepth 100000
theorem fr_ite {c : Prop} [Decidable c] {x y : Nat → Int32} {v : Int32} {q : Nat} (h1 : x q = v) (h2 : y q = v) : (if c then x else y) q = v := by
  by_cases h : c
  · rw [if_pos h]; exact h1
  · rw [if_neg h]; exact h2
theorem fr0b_warms  : ∀ (j K : Nat) (σ : (Nat → Int32)), (zb_warms j K σ) 0 = σ 0 := by
  intro j
  induction j with
  | zero => intros; rfl
  | succ j ih =>
    intro K σ
    show (zb_warms j (K + 1) (upd (upd σ (15 + K) (if zf_isWet σ K then (10 : Int32) else (if ((σ (15 + K)) + (σ 3)) ≤ 40 then ((σ (15 + K)) + (σ 3)) else (40 : Int32)))) (23 + K) (if ((σ (23 + K)) + (if zf_isWet σ K then (3 : Int32) else (1 : Int32))) ≤ 99 then ((σ (23 + K)) + (if zf_isWet σ K then (3 : Int32) else (1 : Int32))) else (99 : Int32)))) 0 = σ 0
    exact (ih (K + 1) (upd (upd σ (15 + K) (if zf_isWet σ K then (10 : Int32) else (if ((σ (15 + K)) + (σ 3)) ≤ 40 then ((σ (15 + K)) + (σ 3)) else (40 : Int32)))) (23 + K) (if ((σ (23 + K)) + (if zf_isWet σ K then (3 : Int32) else (1 : Int32))) ≤ 99 then ((σ (23 + K)) + (if zf_isWet σ K then (3 : Int32) else (1 : Int32))) else (99 : Int32)))).trans ((upd_n (by omega)).trans ((upd_n (by omega)).trans rfl))
theorem fr0_warms {σ : Nat → Int32} : zr_warms σ 0 = σ 0 := by
  unfold zr_warms
  exact ((fr0b_warms _ _ _).trans rfl)
theorem fr0_feeds_164 {σ : Nat → Int32} {a : Nat} : zr_feeds_164 σ a 0 = σ 0 := by
  unfold zr_feeds_164
  exact (fr_ite ((upd_n (by omega)).trans ((upd_n (by omega)).trans ((upd_n (by omega)).trans ((upd_n (by omega)).trans rfl)))) (fr_ite ((upd_n (by omega)).trans rfl) ((upd_n (by omega)).trans ((upd_n (by omega)).trans ((upd_n (by omega)).trans ((upd_n (by omega)).trans rfl))))))
theorem fr0_feeds {σ : Nat → Int32} {a : Nat} : zr_feeds σ a 0 = σ 0 := by
  unfold zr_feeds
  exact (fr0_feeds_164.trans rfl)
theorem fr0_dries {σ : Nat → Int32} {a : Nat} : zr_dries σ a 0 = σ 0 := by
  unfold zr_dries
  exact ((upd_n (by omega)).trans ((upd_n (by omega)).trans ((upd_n (by omega)).trans rfl)))
theorem fr0_grazes_68 {K : Nat} {x : Int32} {σ : Nat → Int32} : zr_grazes_68 K x σ 0 = σ 0 := by
  unfold zr_grazes_68
  exact (fr_ite (fr0_feeds.trans rfl) (fr0_dries.trans rfl))
theorem fr0_grazes_160 {K : Nat} {x : Int32} {σ : Nat → Int32} : zr_grazes_160 K x σ 0 = σ 0 := by
  unfold zr_grazes_160
  exact (fr_ite ((upd_n (by omega)).trans ((upd_n (by omega)).trans (fr0_grazes_68.trans rfl))) rfl)
theorem fr0b_grazes  : ∀ (j K : Nat) (x : Int32) (σ : (Nat → Int32)), (zb_grazes j K x σ).2 0 = σ 0 := by
  intro j
  induction j with
  | zero => intros; rfl
  | succ j ih =>
    intro K x σ
    show (zb_grazes j (K + 1) (if (σ (32 + 5 * K + 4)) = 0 then (x + (if ¬ ((if (zr_grazes_68 K x σ (32 + 5 * K + 1)) = 0 then (1 : Int32) else (if ((zr_grazes_68 K x σ (32 + 5 * K + 2)) - (if ((zr_grazes_68 K x σ 0) - (zr_grazes_68 K x σ 0) / 4 * 4) = 0 then (1 : Int32) else 0)) = 0 then (2 : Int32) else (0 : Int32))) = 0) then (1 : Int32) else 0)) else x) (zr_grazes_160 K x σ)).2 0 = σ 0
    exact (ih (K + 1) (if (σ (32 + 5 * K + 4)) = 0 then (x + (if ¬ ((if (zr_grazes_68 K x σ (32 + 5 * K + 1)) = 0 then (1 : Int32) else (if ((zr_grazes_68 K x σ (32 + 5 * K + 2)) - (if ((zr_grazes_68 K x σ 0) - (zr_grazes_68 K x σ 0) / 4 * 4) = 0 then (1 : Int32) else 0)) = 0 then (2 : Int32) else (0 : Int32))) = 0) then (1 : Int32) else 0)) else x) (zr_grazes_160 K x σ)).trans (fr0_grazes_160.trans rfl)
theorem fr0_grazes {σ : Nat → Int32} {NL : Nat} : zr_grazes σ NL 0 = σ 0 := by
  unfold zr_grazes
  exact ((fr0b_grazes _ _ _ _).trans rfl)
theorem fr0_leaves_47 {σ : Nat → Int32} {b : Nat} : zr_leaves_47 σ b 0 = σ 0 := by
  unfold zr_leaves_47
  exact (fr_ite rfl ((upd_n (by omega)).trans ((upd_n (by omega)).trans rfl)))
theorem fr0_leaves {σ : Nat → Int32} {b : Nat} : zr_leaves σ b 0 = σ 0 := by
  unfold zr_leaves
  exact (fr0_leaves_47.trans rfl)
theorem fr0_heats_98 {K : Nat} {x : Int32} {σ : Nat → Int32} : zr_heats_98 K x σ 0 = σ 0 := by
  unfold zr_heats_98
  exact (fr_ite (fr_ite (fr_ite rfl (fr_ite rfl ((upd_n (by omega)).trans rfl))) rfl) rfl)
theorem fr0b_heats  : ∀ (j K : Nat) (x : Int32) (σ : (Nat → Int32)), (zb_heats j K x σ).2 0 = σ 0 := by
  intro j
  induction j with
  | zero => intros; rfl
  | succ j ih =>
    intro K x σ
    show (zb_heats j (K + 1) (if zf_lives σ K then (if (σ (212 + 5 * K + 2)) = (-1) then (if zf_isWet σ ((σ (212 + 5 * K + 1)).toNatClampNeg) then x else (if (σ (15 + ((σ (212 + 5 * K + 1)).toNatClampNeg))) < 30 then x else (x + 1))) else x) else x) (zr_heats_98 K x σ)).2 0 = σ 0
    exact (ih (K + 1) (if zf_lives σ K then (if (σ (212 + 5 * K + 2)) = (-1) then (if zf_isWet σ ((σ (212 + 5 * K + 1)).toNatClampNeg) then x else (if (σ (15 + ((σ (212 + 5 * K + 1)).toNatClampNeg))) < 30 then x else (x + 1))) else x) else x) (zr_heats_98 K x σ)).trans (fr0_heats_98.trans rfl)
theorem fr0_heats {σ : Nat → Int32} {NC : Nat} : zr_heats σ NC 0 = σ 0 := by
  unfold zr_heats
  exact ((fr0b_heats _ _ _ _).trans rfl)
theorem fr0_wanders_141 {NS : Nat} {K : Nat} {σ : Nat → Int32} : zr_wanders_141 NS K σ 0 = σ 0 := by
  unfold zr_wanders_141
  exact (fr_ite rfl (fr_ite ((upd_n (by omega)).trans rfl) ((upd_n (by omega)).trans ((upd_n (by omega)).trans rfl))))
theorem fr0b_wanders {NS : Nat} : ∀ (j K : Nat) (σ : (Nat → Int32)), (zb_wanders NS j K σ) 0 = σ 0 := by
  intro j
  induction j with
  | zero => intros; rfl
  | succ j ih =>
    intro K σ
    show (zb_wanders NS j (K + 1) (zr_wanders_141 NS K σ)) 0 = σ 0
    exact (ih (K + 1) (zr_wanders_141 NS K σ)).trans (fr0_wanders_141.trans rfl)
theorem fr0_wanders {σ : Nat → Int32} {NS : Nat} {NC : Nat} : zr_wanders σ NS NC 0 = σ 0 := by
  unfold zr_wanders
  exact ((fr0b_wanders _ _ _).trans rfl)
theorem fr0_changes_167 {NS : Nat} {NC : Nat} {K : Nat} {x : Int32} {σ : Nat → Int32} : zr_changes_167 NS NC K x σ 0 = σ 0 := by
  unfold zr_changes_167
  exact (fr_ite rfl ((upd_n (by omega)).trans ((upd_n (by omega)).trans ((upd_n (by omega)).trans (fr0_leaves.trans rfl)))))
theorem fr0b_changes {NS NC : Nat} : ∀ (j K : Nat) (x : Int32) (σ : (Nat → Int32)), (zb_changes NS NC j K x σ).2 0 = σ 0 := by
  intro j
  induction j with
  | zero => intros; rfl
  | succ j ih =>
    intro K x σ
    show (zb_changes NS NC j (K + 1) (if (if (zf_lives σ (K % NC)) ∧ ((σ (212 + 5 * (K % NC))) = (20 - ((nI K) / (σ 211)))) then (zf_better σ (K % NC) NS (σ (212 + 5 * (K % NC) + 1))) else ((-1) : Int32)) = (-1) then x else (x + 1)) (zr_changes_167 NS NC K x σ)).2 0 = σ 0
    exact (ih (K + 1) (if (if (zf_lives σ (K % NC)) ∧ ((σ (212 + 5 * (K % NC))) = (20 - ((nI K) / (σ 211)))) then (zf_better σ (K % NC) NS (σ (212 + 5 * (K % NC) + 1))) else ((-1) : Int32)) = (-1) then x else (x + 1)) (zr_changes_167 NS NC K x σ)).trans (fr0_changes_167.trans rfl)
theorem fr0_changes {σ : Nat → Int32} {NS : Nat} {NC : Nat} : zr_changes σ NS NC 0 = σ 0 := by
  unfold zr_changes
  exact ((fr0b_changes _ _ _ _).trans rfl)
theorem fr0_hunts_129 {σ : Nat → Int32} {NL : Nat} {NC : Nat} : zr_hunts_129 σ NL NC 0 = σ 0 := by
  unfold zr_hunts_129
  exact (fr_ite (fr_ite ((upd_n (by omega)).trans rfl) ((upd_n (by omega)).trans (fr0_leaves.trans ((upd_n (by omega)).trans rfl)))) ((upd_n (by omega)).trans ((upd_n (by omega)).trans rfl)))
theorem fr0_hunts {σ : Nat → Int32} {NL : Nat} {NC : Nat} : zr_hunts σ NL NC 0 = σ 0 := by
  unfold zr_hunts
  exact ((upd_n (by omega)).trans (fr0_hunts_129.trans rfl))
theorem fr0b_grows  : ∀ (j K : Nat) (σ : (Nat → Int32)), (zb_grows j K σ) 0 = σ 0 := by
  intro j
  induction j with
  | zero => intros; rfl
  | succ j ih =>
    intro K σ
    show (if ((σ 0) - (σ 0) / 24 * 24) = 0 then (zb_grows j (K + 1) (upd σ (212 + 5 * K) ((σ (212 + 5 * K)) + (if ((zf_lives σ K) ∧ (¬ ((σ (212 + 5 * K + 2)) = (-1)) ∧ (¬ ((σ (133 + 3 * ((σ (212 + 5 * K + 2)).toNatClampNeg))) ≤ (σ (212 + 5 * K)))))) ∧ (¬ (20 ≤ (σ (212 + 5 * K)))) then (1 : Int32) else 0)))) else (σ)) 0 = σ 0
    by_cases hc0 : ((σ 0) - (σ 0) / 24 * 24) = 0
    · rw [if_pos hc0]
      exact (ih (K + 1) (upd σ (212 + 5 * K) ((σ (212 + 5 * K)) + (if ((zf_lives σ K) ∧ (¬ ((σ (212 + 5 * K + 2)) = (-1)) ∧ (¬ ((σ (133 + 3 * ((σ (212 + 5 * K + 2)).toNatClampNeg))) ≤ (σ (212 + 5 * K)))))) ∧ (¬ (20 ≤ (σ (212 + 5 * K)))) then (1 : Int32) else 0)))).trans ((upd_n (by omega)).trans rfl)
    · rw [if_neg hc0]
      try exact rfl
theorem fr0_grows {σ : Nat → Int32} {NC : Nat} : zr_grows σ NC 0 = σ 0 := by
  unfold zr_grows
  exact ((fr0b_grows _ _ _).trans rfl)
theorem fr0_hour_54 {σ : Nat → Int32} {NL NS NC : Nat} : zr_hour_54 σ NL NS NC 0 = σ 0 + 1 := by
  unfold zr_hour_54
  exact fr_ite (fr0_changes.trans (fr0_wanders.trans (fr0_grazes.trans (fr0_warms.trans upd_s)))) (fr0_hunts.trans (fr0_heats.trans (fr0_changes.trans (fr0_wanders.trans (fr0_grazes.trans (fr0_warms.trans upd_s))))))
theorem fr0_hour {σ : Nat → Int32} {NL NS NC : Nat} : zr_hour σ NL NS NC 0 = σ 0 + 1 := by
  unfold zr_hour
  exact fr_ite (fr0_grows.trans (fr0_changes.trans (fr0_wanders.trans (fr0_grazes.trans (fr0_warms.trans upd_s))))) (fr0_grows.trans (fr0_hunts.trans (fr0_heats.trans (fr0_changes.trans (fr0_wanders.trans (fr0_grazes.trans (fr0_warms.trans upd_s)))))))
theorem fr0b_passes {NL NS NC : Nat} : ∀ (j K : Nat) (x : Int32) (σ : Nat → Int32) (T : Nat), σ 0 = nI T → (zb_passes NL NS NC j K x σ).2 0 = nI (T + j) := by
  intro j
  induction j with
  | zero => intro K x σ T h; exact h
  | succ j ih =>
    intro K x σ T h
    refine (ih _ _ _ (T + 1) ?_).trans ?_
    · rw [fr0_hour, h]; exact nI_add T 1
    · rw [show T + 1 + j = T + (j + 1) by omega]
theorem fr0_passes {σ : Nat → Int32} {NL NS NC H T : Nat} (h : σ 0 = nI T) : zr_passes σ NL NS NC H 0 = nI (T + H) := by
  unfold zr_passes
  exact fr0b_passes _ _ _ _ _ h
/-- how many there are, by the row -/
def dL (σ : Nat → Int32) : Nat := (σ 31).toNatClampNeg
def dS (σ : Nat → Int32) : Nat := (σ 132).toNatClampNeg
def dC (σ : Nat → Int32) : Nat := (σ 211).toNatClampNeg
/-- a state of the reference -/
def zst (σ : Nat → Int32) : Prop := zok σ (dL σ) (dS σ) (dC σ) ∧ dS σ ≤ 25 ∧ ∃ T, σ 0 = nI T ∧ T ≤ 999
section
variable {σ : Nat → Int32} {NL NS NC : Nat}
theorem zok_dL (h : zok σ NL NS NC) : dL σ = NL := by
  have hb := h.b
  unfold dL
  rw [h.nl, nI_clamp (by omega)]
theorem zok_dS (h : zok σ NL NS NC) : dS σ = NS := by
  have hb := h.b
  unfold dS
  rw [h.ns, nI_clamp (by omega)]
theorem zok_dC (h : zok σ NL NS NC) : dC σ = NC := by
  have hb := h.b
  unfold dC
  rw [h.nc, nI_clamp (by omega)]
theorem zst_of {T : Nat} (h : zok σ NL NS NC) (h25 : NS ≤ 25) (hT : σ 0 = nI T) (lT : T ≤ 999) : zst σ := by
  unfold zst
  rw [zok_dL h, zok_dS h, zok_dC h]
  exact ⟨h, h25, T, hT, lT⟩
theorem zok_comesLimpet {pool : Int32} (hok : zok σ NL NS NC) (hn : NL < 20) (hp : zix pool 8) : zok (upd (upd (upd (upd (upd (upd σ (32 + 5 * NL) pool) (32 + 5 * NL + 1) 12) (32 + 5 * NL + 2) 10) (32 + 5 * NL + 3) 0) (32 + 5 * NL + 4) 0) 31 ((σ 31) + 1)) (NL + 1) NS NC := by
  obtain ⟨bL, bS, bC⟩ := hok.b
  have e : ∀ j, j ≠ 31 → ¬ (32 + 5 * NL ≤ j ∧ j < 32 + 5 * NL + 5) → (upd (upd (upd (upd (upd (upd σ (32 + 5 * NL) pool) (32 + 5 * NL + 1) 12) (32 + 5 * NL + 2) 10) (32 + 5 * NL + 3) 0) (32 + 5 * NL + 4) 0) 31 ((σ 31) + 1)) j = σ j := by
    intro j h1 h2
    rw [upd_n h1, upd_n (by omega), upd_n (by omega), upd_n (by omega), upd_n (by omega), upd_n (by omega)]
  refine ⟨⟨by omega, bS, bC⟩, ⟨by rw [upd_s, hok.nl, nI_1], by rw [e _ (by omega) (by omega)]; exact hok.ns, by rw [e _ (by omega) (by omega)]; exact hok.nc⟩, fun k hk => ?_, fun k hk => ?_, fun k hk => ?_, ?_, ?_, ?_⟩
  · by_cases hk2 : k = NL
    · subst hk2
      rw [upd_n (by omega), upd_n (by omega), upd_n (by omega), upd_n (by omega), upd_n (by omega), upd_s]; exact hp
    · rw [e _ (by omega) (by omega)]; exact hok.lp (by omega)
  · rw [e _ (by omega) (by omega)]; exact hok.cp hk
  · rw [e _ (by omega) (by omega)]; exact hok.cw hk
  · rw [e _ (by omega) (by omega)]; exact hok.hp
  · rw [e _ (by omega) (by omega)]; exact hok.pz
  · rw [e _ (by omega) (by omega)]; exact hok.p0
theorem zok_comesCrab {pool size : Int32} (hok : zok σ NL NS NC) (hn : NC < 15) (hp : zix pool 8) : zok (upd (upd (upd (upd (upd (upd σ (212 + 5 * NC) size) (212 + 5 * NC + 1) pool) (212 + 5 * NC + 2) (-1)) (212 + 5 * NC + 3) 0) (212 + 5 * NC + 4) 0) 211 ((σ 211) + 1)) NL NS (NC + 1) := by
  obtain ⟨bL, bS, bC⟩ := hok.b
  have e : ∀ j, j ≠ 211 → ¬ (212 + 5 * NC ≤ j ∧ j < 212 + 5 * NC + 5) → (upd (upd (upd (upd (upd (upd σ (212 + 5 * NC) size) (212 + 5 * NC + 1) pool) (212 + 5 * NC + 2) (-1)) (212 + 5 * NC + 3) 0) (212 + 5 * NC + 4) 0) 211 ((σ 211) + 1)) j = σ j := by
    intro j h1 h2
    rw [upd_n h1, upd_n (by omega), upd_n (by omega), upd_n (by omega), upd_n (by omega), upd_n (by omega)]
  refine ⟨⟨bL, bS, by omega⟩, ⟨by rw [e _ (by omega) (by omega)]; exact hok.nl, by rw [e _ (by omega) (by omega)]; exact hok.ns, by rw [upd_s, hok.nc, nI_1]⟩, fun k hk => ?_, fun k hk => ?_, fun k hk => ?_, ?_, ?_, ?_⟩
  · rw [e _ (by omega) (by omega)]; exact hok.lp hk
  · by_cases hk2 : k = NC
    · subst hk2
      rw [upd_n (by omega), upd_n (by omega), upd_n (by omega), upd_n (by omega), upd_s]; exact hp
    · rw [e _ (by omega) (by omega)]; exact hok.cp (by omega)
  · by_cases hk2 : k = NC
    · subst hk2
      rw [upd_n (by omega), upd_n (by omega), upd_n (by omega), upd_s]; exact fun h => absurd rfl h
    · rw [e _ (by omega) (by omega)]; exact hok.cw (by omega)
  · rw [e _ (by omega) (by omega)]; exact hok.hp
  · rw [e _ (by omega) (by omega)]; exact hok.pz
  · rw [e _ (by omega) (by omega)]; exact hok.p0
end
theorem zod.p {o x y : Int32} (h : zod o x y) (h1 : ¬ o = 116) (h2 : ¬ o = 119) : zix x 8 := by
  rcases h with ⟨_, h⟩ | ⟨_, h, _⟩ | ⟨_, h, _⟩ | ⟨_, h, _⟩ | ⟨h, _⟩ | ⟨h, _⟩
  · exact h
  · exact h
  · exact h
  · exact h
  · exact absurd h h1
  · exact absurd h h2
theorem zod.w {o x y : Int32} (h : zod o x y) (h1 : ¬ o = 99) (h2 : ¬ o = 104) (h3 : ¬ o = 108) (h4 : ¬ o = 115) (h5 : ¬ o = 116) : zix y 100 := by
  rcases h with ⟨h, _⟩ | ⟨h, _⟩ | ⟨h, _⟩ | ⟨h, _⟩ | ⟨h, _⟩ | ⟨_, n, h, l1, l2⟩
  · exact absurd h h3
  · exact absurd h h1
  · exact absurd h h4
  · exact absurd h h2
  · exact absurd h h5
  · rw [h]; exact zix_nI (by omega) (by omega)
theorem zf_comesLimpet_b {σ : Nat → Int32} {NL : Nat} {pool : Int32} : zf_comesLimpet σ NL pool = 0 ∨ zf_comesLimpet σ NL pool = 1 := by
  unfold zf_comesLimpet
  by_cases h : σ 31 = 20
  · rw [if_pos h]; exact Or.inl rfl
  · rw [if_neg h]; exact Or.inr rfl
theorem zf_comesCrab_b {σ : Nat → Int32} {NC : Nat} {pool size : Int32} : zf_comesCrab σ NC pool size = 0 ∨ zf_comesCrab σ NC pool size = 1 := by
  unfold zf_comesCrab
  by_cases h : σ 211 = 15
  · rw [if_pos h]; exact Or.inl rfl
  · rw [if_neg h]; exact Or.inr rfl
