/-! THE REFERENCE, part 16: notes carried out, undone, kept -/
set_option maxRecDepth 100000
/-- the answer w; thrown at thr; the fields below 7 as in f; whatever lies beside and in the reader -/
def zAh (w : Value) (thr : Int32) (f : Nat → Int32) (g : (Nat → Int32) → (Nat → Int32) → zH) : Option Value → zH → Prop := fun r h => r = some w ∧ ∃ s f', (∀ q, q < 7 → f' q = f q) ∧ f' 7 = thr ∧ h = g s f'
theorem zrd_lo {f : Nat → Int32} {a : Nat} {o x y : Int32} {q : Nat} (h : q < 8) : zrd f a o x y q = f q := by
  unfold zrd
  rw [if_neg (by omega), if_neg (by omega), if_neg (by omega), if_neg (by omega)]
theorem zrd_lo2 {f : Nat → Int32} {a : Nat} {o x y v : Int32} {q : Nat} (h : q < 8) : zrd (upd f 12 v) a o x y q = f q := (zrd_lo h).trans (upd_n (by omega))
/-- the fields behind error, behind tries -/
def zfe (no : Nat → Int32) (ln : Nat) (f : Nat → Int32) : Nat → Int32 := zrd f (zf_error no ln f).2.1 (zf_error no ln f).2.2.1 (zf_error no ln f).2.2.2.1 (zf_error no ln f).2.2.2.2
def zft (no : Nat → Int32) (ln : Nat) (σ f : Nat → Int32) : Nat → Int32 := zrd (upd f 12 (nI (zf_tries no ln σ f).2.2.2.2.2.1)) (zf_tries no ln σ f).2.1 (zf_tries no ln σ f).2.2.1 (zf_tries no ln σ f).2.2.2.1 (zf_tries no ln σ f).2.2.2.2.1
def zrt (no : Nat → Int32) (ln : Nat) (σ f : Nat → Int32) : Nat → Int32 := (zf_tries no ln σ f).2.2.2.2.2.2
section
variable {no σ f : Nat → Int32} {ln q : Nat}
theorem zfe_lo (h : q < 8) : zfe no ln f q = f q := zrd_lo h
theorem zft_lo (h : q < 8) : zft no ln σ f q = f q := zrd_lo2 h
theorem zft_12 : zft no ln σ f 12 = nI (zf_tries no ln σ f).2.2.2.2.2.1 := rfl
end
/-- a carried-out row put down -/
theorem zput_carry {σ τ s : Nat → Int32} : cp 0 (fun j => zput 0 σ (zput 287 τ s) (287 + j)) 287 (zput 0 σ (zput 287 τ s)) = zput 0 τ (zput 287 τ s) := by
  rw [cp_zput]
  refine (zput_ext (τ := τ) (fun j hj => ?_)).trans zput_zput
  show zput 0 σ (zput 287 τ s) (287 + j) = τ j
  rw [← zcomm]
  exact zput_at hj
set_option maxHeartbeats 4000000 in
theorem l_carryOut {G : zE} {A : Nat → Nat} (hA : zinj A 5) {s pa ke no f : Nat → Int32} {h0 : zH} {d k n : Nat} {Q : Option Value → zH → Prop} {X : String → zH → Prop} (hx : zV G fX3_carryOut d 75 [some (.ref (A 0)), none, none] [] (mdl G A (cp 0 (fun j => s (287 + j)) 287 s) pa ke no f h0) k n Q X) : ∀ (j K : Nat), K + j = 287 → zV G fX3_carryOut d 46 [some (.ref (A 0)), none, some (.int (nI K))] [] (mdl G A (cp 0 (fun j => s (287 + j)) K s) pa ke no f h0) k n Q X := by
  intro j
  induction j with
  | zero =>
    intro K hK
    have hK9 : K = 287 := by omega
    subst hK9
    refine z_iload_n dX3_carryOut_46 rfl ?_
    refine z_sipush dX3_carryOut_47 (v := 287) rfl ?_
    refine z_icmp_ge (tgt := 75) dX3_carryOut_50 (by decide) (fun hg => ?_) (fun hg => ?_)
    ·
      refine z_loc (L2 := [some (.ref (A 0)), none, none]) ⟨rfl, trivial⟩ ?_
      exact hx
    · exact absurd (by rw [zk 287]; exact Int32.le_refl _) hg
  | succ j ih =>
    intro K hK
    refine z_iload_n dX3_carryOut_46 rfl ?_
    refine z_sipush dX3_carryOut_47 (v := 287) rfl ?_
    refine z_icmp_ge (tgt := 75) dX3_carryOut_50 (by decide) (fun hg => ?_) (fun hg => ?_)
    · exact absurd hg (by rw [zk 287]; exact nI_ge (by omega) (by omega))
    ·
      refine z_aload_n dX3_carryOut_53 rfl ?_
      refine zm_get 0 dX3_carryOut_54 q1742 rfl rfl ?_
      refine z_iload_n dX3_carryOut_57 rfl ?_
      refine z_aload_n dX3_carryOut_58 rfl ?_
      refine zm_get 0 dX3_carryOut_59 q1742 rfl rfl ?_
      refine z_sipush dX3_carryOut_62 (v := 287) rfl ?_
      refine z_iload_n dX3_carryOut_65 rfl ?_
      refine z_iadd dX3_carryOut_66 ?_
      refine z_iald dX3_carryOut_67 (mdl_1 hA) (zn_to (zn_add (zk 287) rfl) rfl) (by omega) (by omega) ?_
      refine z_iast dX3_carryOut_68 (mdl_1 hA) (zn_to (rfl) rfl) (by omega) (by omega) ?_
      rw [mdl_w1 hA]
      refine z_iinc dX3_carryOut_69 rfl (v := nI (K + 1)) (z_inc rfl) ?_
      refine z_goto (tgt := 46) dX3_carryOut_72 (by decide) ?_
      refine z_loc (L2 := [some (.ref (A 0)), none, some (.int (nI (K + 1)))]) ⟨rfl, rfl, trivial⟩ ?_
      rw [cp_up (D := 0) (g := (fun j => s (287 + j))) (K := K) (by omega) (cp_out (by omega))]
      exact ih (K + 1) (by omega)
theorem l_carryOut0 {G : zE} {A : Nat → Nat} (hA : zinj A 5) {s pa ke no f : Nat → Int32} {h0 : zH} {d k n : Nat} {Q : Option Value → zH → Prop} {X : String → zH → Prop} (hx : zV G fX3_carryOut d 75 [some (.ref (A 0)), none, none] [] (mdl G A (cp 0 (fun j => s (287 + j)) 287 s) pa ke no f h0) k n Q X) : zV G fX3_carryOut d 46 [some (.ref (A 0)), none, some (.int (nI 0))] [] (mdl G A s pa ke no f h0) k n Q X := by
  have e := l_carryOut hA hx 287 0 (by omega)
  rw [cp_0] at e
  exact e
set_option maxHeartbeats 4000000 in
theorem l_undo {G : zE} {A : Nat → Nat} (hA : zinj A 5) {s pa ke no f : Nat → Int32} {h0 : zH} {Kn : Nat} (hKn : f 2 = nI Kn) (lKn : Kn ≤ 3) {d k n : Nat} {Q : Option Value → zH → Prop} {X : String → zH → Prop} (hx : zV G fX3_undo d 67 [some (.ref (A 0)), none] [] (mdl G A (cp 0 (fun j => pa (287 * Kn + j)) 287 s) pa ke no f h0) k n Q X) : ∀ (j K : Nat), K + j = 287 → zV G fX3_undo d 33 [some (.ref (A 0)), some (.int (nI K))] [] (mdl G A (cp 0 (fun j => pa (287 * Kn + j)) K s) pa ke no f h0) k n Q X := by
  intro j
  induction j with
  | zero =>
    intro K hK
    have hK9 : K = 287 := by omega
    subst hK9
    refine z_iload_n dX3_undo_33 rfl ?_
    refine z_sipush dX3_undo_34 (v := 287) rfl ?_
    refine z_icmp_ge (tgt := 67) dX3_undo_37 (by decide) (fun hg => ?_) (fun hg => ?_)
    ·
      refine z_loc (L2 := [some (.ref (A 0)), none]) ⟨rfl, trivial⟩ ?_
      exact hx
    · exact absurd (by rw [zk 287]; exact Int32.le_refl _) hg
  | succ j ih =>
    intro K hK
    refine z_iload_n dX3_undo_33 rfl ?_
    refine z_sipush dX3_undo_34 (v := 287) rfl ?_
    refine z_icmp_ge (tgt := 67) dX3_undo_37 (by decide) (fun hg => ?_) (fun hg => ?_)
    · exact absurd hg (by rw [zk 287]; exact nI_ge (by omega) (by omega))
    ·
      refine z_aload_n dX3_undo_40 rfl ?_
      refine zm_get 0 dX3_undo_41 q1742 rfl rfl ?_
      refine z_iload_n dX3_undo_44 rfl ?_
      refine z_aload_n dX3_undo_45 rfl ?_
      refine zm_get 1 dX3_undo_46 q1743 rfl rfl ?_
      refine z_sipush dX3_undo_49 (v := 287) rfl ?_
      refine z_aload_n dX3_undo_52 rfl ?_
      refine zm_get 2 (v := .int (nI Kn)) dX3_undo_53 q1744 rfl (congrArg (fun z => some (Value.int z)) hKn) ?_
      refine z_imul dX3_undo_56 ?_
      refine z_iload_n dX3_undo_57 rfl ?_
      refine z_iadd dX3_undo_58 ?_
      refine z_iald dX3_undo_59 (mdl_2 hA) (zn_to (zn_add (zn_mul (zk 287) rfl) rfl) rfl) (by omega) (by omega) ?_
      refine z_iast dX3_undo_60 (mdl_1 hA) (zn_to (rfl) rfl) (by omega) (by omega) ?_
      rw [mdl_w1 hA]
      refine z_iinc dX3_undo_61 rfl (v := nI (K + 1)) (z_inc rfl) ?_
      refine z_goto (tgt := 33) dX3_undo_64 (by decide) ?_
      refine z_loc (L2 := [some (.ref (A 0)), some (.int (nI (K + 1)))]) ⟨rfl, rfl, trivial⟩ ?_
      rw [cp_up (D := 0) (g := (fun j => pa (287 * Kn + j))) (K := K) (by omega) (rfl)]
      exact ih (K + 1) (by omega)
theorem l_undo0 {G : zE} {A : Nat → Nat} (hA : zinj A 5) {s pa ke no f : Nat → Int32} {h0 : zH} {Kn : Nat} (hKn : f 2 = nI Kn) (lKn : Kn ≤ 3) {d k n : Nat} {Q : Option Value → zH → Prop} {X : String → zH → Prop} (hx : zV G fX3_undo d 67 [some (.ref (A 0)), none] [] (mdl G A (cp 0 (fun j => pa (287 * Kn + j)) 287 s) pa ke no f h0) k n Q X) : zV G fX3_undo d 33 [some (.ref (A 0)), some (.int (nI 0))] [] (mdl G A s pa ke no f h0) k n Q X := by
  have e := l_undo hA hKn lKn hx 287 0 (by omega)
  rw [cp_0] at e
  exact e
set_option maxHeartbeats 4000000 in
theorem l_takeSnapshot {G : zE} {A : Nat → Nat} (hA : zinj A 5) {s pa ke no f : Nat → Int32} {h0 : zH} {d k n : Nat} {Q : Option Value → zH → Prop} {X : String → zH → Prop} (hx : zV G fX3_takeSnapshot d 32 [some (.ref (A 0)), none] [] (mdl G A s pa (cp 0 s 287 ke) no f h0) k n Q X) : ∀ (j K : Nat), K + j = 287 → zV G fX3_takeSnapshot d 7 [some (.ref (A 0)), some (.int (nI K))] [] (mdl G A s pa (cp 0 s K ke) no f h0) k n Q X := by
  intro j
  induction j with
  | zero =>
    intro K hK
    have hK9 : K = 287 := by omega
    subst hK9
    refine z_iload_n dX3_takeSnapshot_7 rfl ?_
    refine z_sipush dX3_takeSnapshot_8 (v := 287) rfl ?_
    refine z_icmp_ge (tgt := 32) dX3_takeSnapshot_11 (by decide) (fun hg => ?_) (fun hg => ?_)
    ·
      refine z_loc (L2 := [some (.ref (A 0)), none]) ⟨rfl, trivial⟩ ?_
      exact hx
    · exact absurd (by rw [zk 287]; exact Int32.le_refl _) hg
  | succ j ih =>
    intro K hK
    refine z_iload_n dX3_takeSnapshot_7 rfl ?_
    refine z_sipush dX3_takeSnapshot_8 (v := 287) rfl ?_
    refine z_icmp_ge (tgt := 32) dX3_takeSnapshot_11 (by decide) (fun hg => ?_) (fun hg => ?_)
    · exact absurd hg (by rw [zk 287]; exact nI_ge (by omega) (by omega))
    ·
      refine z_aload_n dX3_takeSnapshot_14 rfl ?_
      refine zm_get 3 dX3_takeSnapshot_15 q1745 rfl rfl ?_
      refine z_iload_n dX3_takeSnapshot_18 rfl ?_
      refine z_aload_n dX3_takeSnapshot_19 rfl ?_
      refine zm_get 0 dX3_takeSnapshot_20 q1742 rfl rfl ?_
      refine z_iload_n dX3_takeSnapshot_23 rfl ?_
      refine z_iald dX3_takeSnapshot_24 (mdl_1 hA) (zn_to (rfl) rfl) (by omega) (by omega) ?_
      refine z_iast dX3_takeSnapshot_25 (mdl_3 hA) (zn_to (rfl) rfl) (by omega) (by omega) ?_
      rw [mdl_w3 hA]
      refine z_iinc dX3_takeSnapshot_26 rfl (v := nI (K + 1)) (z_inc rfl) ?_
      refine z_goto (tgt := 7) dX3_takeSnapshot_29 (by decide) ?_
      refine z_loc (L2 := [some (.ref (A 0)), some (.int (nI (K + 1)))]) ⟨rfl, rfl, trivial⟩ ?_
      rw [cp_up (D := 0) (g := s) (K := K) (by omega) (rfl)]
      exact ih (K + 1) (by omega)
theorem l_takeSnapshot0 {G : zE} {A : Nat → Nat} (hA : zinj A 5) {s pa ke no f : Nat → Int32} {h0 : zH} {d k n : Nat} {Q : Option Value → zH → Prop} {X : String → zH → Prop} (hx : zV G fX3_takeSnapshot d 32 [some (.ref (A 0)), none] [] (mdl G A s pa (cp 0 s 287 ke) no f h0) k n Q X) : zV G fX3_takeSnapshot d 7 [some (.ref (A 0)), some (.int (nI 0))] [] (mdl G A s pa ke no f h0) k n Q X := by
  have e := l_takeSnapshot hA hx 287 0 (by omega)
  rw [cp_0] at e
  exact e
set_option maxHeartbeats 4000000 in
theorem l_restoreSnapshot {G : zE} {A : Nat → Nat} (hA : zinj A 5) {s pa ke no f : Nat → Int32} {h0 : zH} {d k n : Nat} {Q : Option Value → zH → Prop} {X : String → zH → Prop} (hx : zV G fX3_restoreSnapshot d 52 [some (.ref (A 0)), none] [] (mdl G A (cp 0 ke 287 s) pa ke no f h0) k n Q X) : ∀ (j K : Nat), K + j = 287 → zV G fX3_restoreSnapshot d 27 [some (.ref (A 0)), some (.int (nI K))] [] (mdl G A (cp 0 ke K s) pa ke no f h0) k n Q X := by
  intro j
  induction j with
  | zero =>
    intro K hK
    have hK9 : K = 287 := by omega
    subst hK9
    refine z_iload_n dX3_restoreSnapshot_27 rfl ?_
    refine z_sipush dX3_restoreSnapshot_28 (v := 287) rfl ?_
    refine z_icmp_ge (tgt := 52) dX3_restoreSnapshot_31 (by decide) (fun hg => ?_) (fun hg => ?_)
    ·
      refine z_loc (L2 := [some (.ref (A 0)), none]) ⟨rfl, trivial⟩ ?_
      exact hx
    · exact absurd (by rw [zk 287]; exact Int32.le_refl _) hg
  | succ j ih =>
    intro K hK
    refine z_iload_n dX3_restoreSnapshot_27 rfl ?_
    refine z_sipush dX3_restoreSnapshot_28 (v := 287) rfl ?_
    refine z_icmp_ge (tgt := 52) dX3_restoreSnapshot_31 (by decide) (fun hg => ?_) (fun hg => ?_)
    · exact absurd hg (by rw [zk 287]; exact nI_ge (by omega) (by omega))
    ·
      refine z_aload_n dX3_restoreSnapshot_34 rfl ?_
      refine zm_get 0 dX3_restoreSnapshot_35 q1742 rfl rfl ?_
      refine z_iload_n dX3_restoreSnapshot_38 rfl ?_
      refine z_aload_n dX3_restoreSnapshot_39 rfl ?_
      refine zm_get 3 dX3_restoreSnapshot_40 q1745 rfl rfl ?_
      refine z_iload_n dX3_restoreSnapshot_43 rfl ?_
      refine z_iald dX3_restoreSnapshot_44 (mdl_3 hA) (zn_to (rfl) rfl) (by omega) (by omega) ?_
      refine z_iast dX3_restoreSnapshot_45 (mdl_1 hA) (zn_to (rfl) rfl) (by omega) (by omega) ?_
      rw [mdl_w1 hA]
      refine z_iinc dX3_restoreSnapshot_46 rfl (v := nI (K + 1)) (z_inc rfl) ?_
      refine z_goto (tgt := 27) dX3_restoreSnapshot_49 (by decide) ?_
      refine z_loc (L2 := [some (.ref (A 0)), some (.int (nI (K + 1)))]) ⟨rfl, rfl, trivial⟩ ?_
      rw [cp_up (D := 0) (g := ke) (K := K) (by omega) (rfl)]
      exact ih (K + 1) (by omega)
theorem l_restoreSnapshot0 {G : zE} {A : Nat → Nat} (hA : zinj A 5) {s pa ke no f : Nat → Int32} {h0 : zH} {d k n : Nat} {Q : Option Value → zH → Prop} {X : String → zH → Prop} (hx : zV G fX3_restoreSnapshot d 52 [some (.ref (A 0)), none] [] (mdl G A (cp 0 ke 287 s) pa ke no f h0) k n Q X) : zV G fX3_restoreSnapshot d 27 [some (.ref (A 0)), some (.int (nI 0))] [] (mdl G A s pa ke no f h0) k n Q X := by
  have e := l_restoreSnapshot hA hx 287 0 (by omega)
  rw [cp_0] at e
  exact e
theorem k_errorF {G : zE} {A : Nat → Nat} (hA : zinj A 5) {s pa ke no f : Nat → Int32} {h0 : zH} {ln : Nat} (h6 : f 6 = nI ln) (hl : ln ≤ 60) {d : Nat} (hd : 5 ≤ d) : zCon G fX3_error d 0 0 [.ref (A 0)] (mdl G A s pa ke no f h0) (zA (.int (zf_error no ln f).1) (mdl G A s pa ke no (zfe no ln f) h0)) nX := k_error hA h6 hl hd
theorem k_triesF {G : zE} {A : Nat → Nat} (hA : zinj A 5) {s pa ke no f : Nat → Int32} {h0 : zH} {ln : Nat} (h6 : f 6 = nI ln) (hl : ln ≤ 60) {σ : Nat → Int32} (hst : zst σ) {d : Nat} (hd : 13 ≤ d) : zCon G fX3_tries d 0 0 [.ref (A 0)] (mdl G A (zput 0 σ s) pa ke no f h0) (zA (.int (zf_tries no ln σ f).1) (mdl G A (zput 287 (zrt no ln σ f) (zput 0 σ s)) pa ke no (zft no ln σ f) h0)) nX := k_tries hA h6 hl hst hd
def zf_type (ln : Nat) : Int32 := if ¬ ((if (nI ln) = 60 then (1 : Int32) else 0) ≤ 0) then (0 : Int32) else (nI (ln + 1))
def zh_type (G : zE) (A : Nat → Nat) (ln : Nat) (character : Int32) (σ s pa ke no f : Nat → Int32) (h0 : zH) : zH := if ¬ ((if (nI ln) = 60 then (1 : Int32) else 0) ≤ 0) then (mdl G A (zput 0 σ s) pa ke no (upd f 7 (if (nI ln) = 60 then (1 : Int32) else 0)) h0) else (mdl G A (zput 0 σ s) pa ke (upd no ln character) (upd (upd f 7 (if (nI ln) = 60 then (1 : Int32) else 0)) 6 ((nI ln) + 1)) h0)
set_option maxHeartbeats 4000000 in
theorem k_type {G : zE} {A : Nat → Nat} (hA : zinj A 5) {σ s pa ke no f : Nat → Int32} {h0 : zH} {ln : Nat} (h6 : f 6 = nI ln) (hl : ln ≤ 60) {character : Int32} {d : Nat} (hd : 2 ≤ d) : zCon G fX3_type d 0 0 [.ref (A 0), .int character] (mdl G A (zput 0 σ s) pa ke no f h0) (zA (.int (zf_type ln)) (zh_type G A ln character σ s pa ke no f h0)) nX := by
  refine zCon.of9 (L := [some (.ref (A 0)), some (.int character)]) (by simp [Value.category]) (Nat.le_of_ble_eq_true rfl) pX3 rfl rfl ?_
  refine z_aload_n dX3_type_0 rfl ?_
  refine z_aload_n dX3_type_1 rfl ?_
  refine zm_get 6 (v := .int (nI ln)) dX3_type_2 q1748 rfl (congrArg (fun z => some (Value.int z)) h6) ?_
  refine z_bipush dX3_type_5 (v := 60) rfl ?_
  refine z_join 15 (.int (if (nI ln) = 60 then (1 : Int32) else 0)) 2 ?_ (fun hJ => ?_)
  rotate_left
  ·
    refine z_icmp_ne (tgt := 14) dX3_type_7 (by decide) (fun c_1 => ?_) (fun c_1 => ?_)
    ·
      refine z_iconst dX3_type_14 (v := 0) rfl ?_
      exact z_jv (if_neg c_1) hJ
    ·
      refine z_iconst dX3_type_10 (v := 1) rfl ?_
      refine z_goto (tgt := 15) dX3_type_11 (by decide) ?_
      exact z_jv (if_pos c_1) hJ
  refine z_cV zc7 mX3_throwsAt (k_throwsAt (d := d - 1) (by omega)) dX3_type_15 q1796 (by omega) rfl (Nat.le_of_ble_eq_true rfl) rfl mdl_0 rfl ?_
  refine z_ifB_eq (tgt := 23) dX3_type_18 (by decide) (fun c_2 => ?_) (fun c_2 => ?_)
  ·
    refine z_aload_n dX3_type_23 rfl ?_
    refine zm_get 5 dX3_type_24 q1747 rfl rfl ?_
    refine z_aload_n dX3_type_27 rfl ?_
    refine zm_get 6 (v := .int (nI ln)) dX3_type_28 q1748 rfl (congrArg (fun z => some (Value.int z)) ((upd_n (by decide)).trans h6)) ?_
    refine z_iload_n dX3_type_31 rfl ?_
    have lb_3 := zn_ne (b := 60) (zth2 ((Decidable.not_not.mp c_2)) (by decide)).1
    refine z_iast dX3_type_32 (mdl_4 hA) (zn_to (rfl) rfl) (by omega) (by omega) ?_
    rw [mdl_w4 hA]
    refine z_aload_n dX3_type_33 rfl ?_
    refine z_dup dX3_type_34 rfl ?_
    refine zm_get 6 (v := .int (nI ln)) dX3_type_35 q1748 rfl (congrArg (fun z => some (Value.int z)) ((upd_n (by decide)).trans h6)) ?_
    refine z_iconst dX3_type_38 (v := 1) rfl ?_
    refine z_iadd dX3_type_39 ?_
    refine zm_put 6 dX3_type_40 q1748 rfl rfl rfl rfl rfl ?_
    refine z_aload_n dX3_type_43 rfl ?_
    refine zm_get 6 (v := .int (nI (ln + 1))) dX3_type_44 q1748 rfl (congrArg (fun z => some (Value.int z)) (upd_s.trans (zn_add rfl (zk 1)))) ?_
    refine z_ret dX3_type_47 rfl rfl ⟨by simp only [zf_type, if_neg c_2], by simp only [zh_type, if_neg c_2]⟩
  ·
    refine z_iconst dX3_type_21 (v := 0) rfl ?_
    refine z_ret dX3_type_22 rfl rfl ⟨by simp only [zf_type, if_pos c_2], by simp only [zh_type, if_pos c_2]⟩
def zf_clearNote (ln : Nat) : Int32 := nI ln
set_option maxHeartbeats 4000000 in
theorem k_clearNote {G : zE} {A : Nat → Nat} (hA : zinj A 5) {σ s pa ke no f : Nat → Int32} {h0 : zH} {ln : Nat} (h6 : f 6 = nI ln) (hl : ln ≤ 60) {d : Nat} (hd : 1 ≤ d) : zCon G fX3_clearNote d 0 0 [.ref (A 0)] (mdl G A (zput 0 σ s) pa ke no f h0) (zA (.int (zf_clearNote ln)) (mdl G A (zput 0 σ s) pa ke no (upd (upd f 7 0) 6 0) h0)) nX := by
  refine zCon.of9 (L := [some (.ref (A 0)), none]) (by simp [Value.category]) (Nat.le_of_ble_eq_true rfl) pX3 rfl rfl ?_
  refine z_aload_n dX3_clearNote_0 rfl ?_
  refine z_iconst dX3_clearNote_1 (v := 0) rfl ?_
  refine zm_put 7 dX3_clearNote_2 q1749 rfl rfl rfl rfl rfl ?_
  refine z_aload_n dX3_clearNote_5 rfl ?_
  refine zm_get 6 (v := .int (nI ln)) dX3_clearNote_6 q1748 rfl (congrArg (fun z => some (Value.int z)) ((upd_n (by decide)).trans h6)) ?_
  refine z_istore_n dX3_clearNote_9 (by decide) ?_
  refine z_aload_n dX3_clearNote_10 rfl ?_
  refine z_iconst dX3_clearNote_11 (v := 0) rfl ?_
  refine zm_put 6 dX3_clearNote_12 q1748 rfl rfl rfl rfl rfl ?_
  refine z_iload_n dX3_clearNote_15 rfl ?_
  refine z_ret dX3_clearNote_16 rfl rfl ⟨by simp only [zf_clearNote], rfl⟩
theorem zput_undo {σ s g : Nat → Int32} : cp 0 g 287 (zput 0 σ s) = zput 0 g s := by
  rw [cp_zput]; exact zput_zput
theorem cp_snap {σ s ke : Nat → Int32} : cp 0 (zput 0 σ s) 287 ke = zput 0 σ ke := by
  rw [cp_z0]; rfl
theorem zn_pred {n : Nat} (h : ¬ nI n = 0) : nI n - 1 = nI (n - 1) := by
  cases n with
  | zero => exact absurd rfl h
  | succ n => exact zn_dec
def zf_undo (Kn : Nat) : Int32 := if ¬ ((if (nI Kn) = 0 then (1 : Int32) else 0) ≤ 0) then (0 : Int32) else (nI (Kn - 1))
def zh_undo (G : zE) (A : Nat → Nat) (Kn : Nat) (σ s pa ke no f : Nat → Int32) (h0 : zH) : zH := if ¬ ((if (nI Kn) = 0 then (1 : Int32) else 0) ≤ 0) then (mdl G A (zput 0 σ s) pa ke no (upd f 7 (if (nI Kn) = 0 then (1 : Int32) else 0)) h0) else (mdl G A (zput 0 (fun j => pa (287 * (Kn - 1) + j)) s) pa ke no (upd (upd f 7 (if (nI Kn) = 0 then (1 : Int32) else 0)) 2 ((nI Kn) - 1)) h0)
set_option maxHeartbeats 4000000 in
theorem k_undo {G : zE} {A : Nat → Nat} (hA : zinj A 5) {σ s pa ke no f : Nat → Int32} {h0 : zH} {Kn : Nat} (hKn : f 2 = nI Kn) (lKn : Kn ≤ 4) {d : Nat} (hd : 2 ≤ d) : zCon G fX3_undo d 0 0 [.ref (A 0)] (mdl G A (zput 0 σ s) pa ke no f h0) (zA (.int (zf_undo Kn)) (zh_undo G A Kn σ s pa ke no f h0)) nX := by
  refine zCon.of9 (L := [some (.ref (A 0)), none]) (by simp [Value.category]) (Nat.le_of_ble_eq_true rfl) pX3 rfl rfl ?_
  refine z_aload_n dX3_undo_0 rfl ?_
  refine z_aload_n dX3_undo_1 rfl ?_
  refine zm_get 2 (v := .int (nI Kn)) dX3_undo_2 q1744 rfl (congrArg (fun z => some (Value.int z)) hKn) ?_
  refine z_join 13 (.int (if (nI Kn) = 0 then (1 : Int32) else 0)) 1 ?_ (fun hJ => ?_)
  rotate_left
  ·
    refine z_if_ne (tgt := 12) dX3_undo_5 (by decide) (fun c_1 => ?_) (fun c_1 => ?_)
    ·
      refine z_iconst dX3_undo_12 (v := 0) rfl ?_
      exact z_jv (if_neg c_1) hJ
    ·
      refine z_iconst dX3_undo_8 (v := 1) rfl ?_
      refine z_goto (tgt := 13) dX3_undo_9 (by decide) ?_
      exact z_jv (if_pos c_1) hJ
  refine z_cV zc7 mX3_throwsAt (k_throwsAt (d := d - 1) (by omega)) dX3_undo_13 q1796 (by omega) rfl (Nat.le_of_ble_eq_true rfl) rfl mdl_0 rfl ?_
  refine z_ifB_eq (tgt := 21) dX3_undo_16 (by decide) (fun c_2 => ?_) (fun c_2 => ?_)
  ·
    refine z_aload_n dX3_undo_21 rfl ?_
    refine z_dup dX3_undo_22 rfl ?_
    refine zm_get 2 (v := .int (nI Kn)) dX3_undo_23 q1744 rfl (congrArg (fun z => some (Value.int z)) ((upd_n (by decide)).trans hKn)) ?_
    refine z_iconst dX3_undo_26 (v := 1) rfl ?_
    refine z_isub dX3_undo_27 ?_
    refine zm_put 2 dX3_undo_28 q1744 rfl rfl rfl rfl rfl ?_
    have lb_3 := zn_ne (b := 0) (zth2 ((Decidable.not_not.mp c_2)) (by decide)).1
    refine z_iconst dX3_undo_31 (v := 0) rfl ?_
    refine z_istore_n dX3_undo_32 (by decide) ?_
    refine z_loc (L2 := [some (.ref (A 0)), some (.int 0)]) ⟨rfl, rfl, trivial⟩ ?_
    refine l_undo0 hA (Kn := Kn - 1) (upd_s.trans (zn_pred (zth2 ((Decidable.not_not.mp c_2)) (by decide)).1)) (by omega) ?_
    rw [zput_undo]
    refine z_aload_n dX3_undo_67 rfl ?_
    refine zm_get 2 (v := .int (nI (Kn - 1))) dX3_undo_68 q1744 rfl (congrArg (fun z => some (Value.int z)) (upd_s.trans (zn_pred (zth2 ((Decidable.not_not.mp c_2)) (by decide)).1))) ?_
    refine z_ret dX3_undo_71 rfl rfl ⟨by simp only [zf_undo, if_neg c_2], by simp only [zh_undo, if_neg c_2]⟩
  ·
    refine z_iconst dX3_undo_19 (v := 0) rfl ?_
    refine z_ret dX3_undo_20 rfl rfl ⟨by simp only [zf_undo, if_pos c_2], by simp only [zh_undo, if_pos c_2]⟩
def zf_takeSnapshot (σ : Nat → Int32) : Int32 := σ 0
set_option maxHeartbeats 4000000 in
theorem k_takeSnapshot {G : zE} {A : Nat → Nat} (hA : zinj A 5) {σ s pa ke no f : Nat → Int32} {h0 : zH} {d : Nat} (hd : 1 ≤ d) : zCon G fX3_takeSnapshot d 0 0 [.ref (A 0)] (mdl G A (zput 0 σ s) pa ke no f h0) (zA (.int (zf_takeSnapshot σ)) (mdl G A (zput 0 σ s) pa (zput 0 σ ke) no (upd (upd f 7 0) 4 1) h0)) nX := by
  refine zCon.of9 (L := [some (.ref (A 0)), none]) (by simp [Value.category]) (Nat.le_of_ble_eq_true rfl) pX3 rfl rfl ?_
  refine z_aload_n dX3_takeSnapshot_0 rfl ?_
  refine z_iconst dX3_takeSnapshot_1 (v := 0) rfl ?_
  refine zm_put 7 dX3_takeSnapshot_2 q1749 rfl rfl rfl rfl rfl ?_
  refine z_iconst dX3_takeSnapshot_5 (v := 0) rfl ?_
  refine z_istore_n dX3_takeSnapshot_6 (by decide) ?_
  refine z_loc (L2 := [some (.ref (A 0)), some (.int 0)]) ⟨rfl, rfl, trivial⟩ ?_
  refine l_takeSnapshot0 hA ?_
  rw [cp_snap]
  refine z_aload_n dX3_takeSnapshot_32 rfl ?_
  refine z_iconst dX3_takeSnapshot_33 (v := 1) rfl ?_
  refine zm_put 4 dX3_takeSnapshot_34 q1746 rfl rfl rfl rfl rfl ?_
  refine z_aload_n dX3_takeSnapshot_37 rfl ?_
  refine zm_get 0 dX3_takeSnapshot_38 q1742 rfl rfl ?_
  refine z_iconst dX3_takeSnapshot_41 (v := 0) rfl ?_
  refine zm_ld hA (by decide) (P := 0) (0) (v := σ 0) dX3_takeSnapshot_42 (zn_to (zk 0) (by omega)) (by omega) rfl ?_
  refine z_ret dX3_takeSnapshot_43 rfl rfl ⟨by simp only [zf_takeSnapshot], rfl⟩
def zf_restoreSnapshot (ke : Nat → Int32) (kp : Bool) : Int32 := if ¬ ((if ¬ (kp = true) then (1 : Int32) else 0) ≤ 0) then (0 : Int32) else (ke 0)
def zh_restoreSnapshot (G : zE) (A : Nat → Nat) (kp : Bool) (Kn : Nat) (σ s pa ke no f : Nat → Int32) (h0 : zH) : zH := if ¬ ((if ¬ (kp = true) then (1 : Int32) else 0) ≤ 0) then (mdl G A (zput 0 σ s) pa ke no (upd f 7 (if ¬ (kp = true) then (1 : Int32) else 0)) h0) else (mdl G A (zput 0 ke s) (zpa σ Kn pa) ke no (upd (upd f 7 (if ¬ (kp = true) then (1 : Int32) else 0)) 2 (nI (zkn Kn))) h0)
set_option maxHeartbeats 4000000 in
theorem k_restoreSnapshot {G : zE} {A : Nat → Nat} (hA : zinj A 5) {σ s pa ke no f : Nat → Int32} {h0 : zH} {Kn : Nat} (hKn : f 2 = nI Kn) (lKn : Kn ≤ 4) {kp : Bool} (hKp : f 4 = if kp = true then (1 : Int32) else 0) {d : Nat} (hd : 2 ≤ d) : zCon G fX3_restoreSnapshot d 0 0 [.ref (A 0)] (mdl G A (zput 0 σ s) pa ke no f h0) (zA (.int (zf_restoreSnapshot ke kp)) (zh_restoreSnapshot G A kp Kn σ s pa ke no f h0)) nX := by
  refine zCon.of9 (L := [some (.ref (A 0)), none]) (by simp [Value.category]) (Nat.le_of_ble_eq_true rfl) pX3 rfl rfl ?_
  refine z_aload_n dX3_restoreSnapshot_0 rfl ?_
  refine z_aload_n dX3_restoreSnapshot_1 rfl ?_
  refine zm_get 4 (v := .int (if kp = true then (1 : Int32) else 0)) dX3_restoreSnapshot_2 q1746 rfl (congrArg (fun z => some (Value.int z)) hKp) ?_
  refine z_join 13 (.int (if ¬ (kp = true) then (1 : Int32) else 0)) 1 ?_ (fun hJ => ?_)
  rotate_left
  ·
    refine z_ifB_eq (tgt := 12) dX3_restoreSnapshot_5 (by decide) (fun c_1 => ?_) (fun c_1 => ?_)
    ·
      refine z_iconst dX3_restoreSnapshot_12 (v := 1) rfl ?_
      exact z_jv (if_pos c_1) hJ
    ·
      refine z_iconst dX3_restoreSnapshot_8 (v := 0) rfl ?_
      refine z_goto (tgt := 13) dX3_restoreSnapshot_9 (by decide) ?_
      exact z_jv (if_neg (fun z => z c_1)) hJ
  refine z_cV zc7 mX3_throwsAt (k_throwsAt (d := d - 1) (by omega)) dX3_restoreSnapshot_13 q1796 (by omega) rfl (Nat.le_of_ble_eq_true rfl) rfl mdl_0 rfl ?_
  refine z_ifB_eq (tgt := 21) dX3_restoreSnapshot_16 (by decide) (fun c_2 => ?_) (fun c_2 => ?_)
  ·
    refine z_aload_n dX3_restoreSnapshot_21 rfl ?_
    refine z_cVv zc7 mX3_records (k_records (d := d - 1) hA (Kn := Kn) ((upd_n (by decide)).trans hKn) lKn (by omega)) dX3_restoreSnapshot_22 q1800 (by omega) rfl (Nat.le_of_ble_eq_true rfl) rfl mdl_0 rfl ?_
    refine z_iconst dX3_restoreSnapshot_25 (v := 0) rfl ?_
    refine z_istore_n dX3_restoreSnapshot_26 (by decide) ?_
    refine z_loc (L2 := [some (.ref (A 0)), some (.int 0)]) ⟨rfl, rfl, trivial⟩ ?_
    refine l_restoreSnapshot0 hA ?_
    rw [zput_undo]
    refine z_aload_n dX3_restoreSnapshot_52 rfl ?_
    refine zm_get 0 dX3_restoreSnapshot_53 q1742 rfl rfl ?_
    refine z_iconst dX3_restoreSnapshot_56 (v := 0) rfl ?_
    refine zm_ld hA (by decide) (P := 0) (0) (v := ke 0) dX3_restoreSnapshot_57 (zn_to (zk 0) (by omega)) (by omega) rfl ?_
    refine z_ret dX3_restoreSnapshot_58 rfl rfl ⟨by simp only [zf_restoreSnapshot, if_neg c_2], by simp only [zh_restoreSnapshot, if_neg c_2]⟩
  ·
    refine z_iconst dX3_restoreSnapshot_19 (v := 0) rfl ?_
    refine z_ret dX3_restoreSnapshot_20 rfl rfl ⟨by simp only [zf_restoreSnapshot, if_pos c_2], by simp only [zh_restoreSnapshot, if_pos c_2]⟩
def zf_recordedStates (Kn : Nat) : Int32 := nI Kn
set_option maxHeartbeats 4000000 in
theorem k_recordedStates {G : zE} {A : Nat → Nat} (hA : zinj A 5) {σ s pa ke no f : Nat → Int32} {h0 : zH} {Kn : Nat} (hKn : f 2 = nI Kn) (lKn : Kn ≤ 4) {d : Nat} (hd : 1 ≤ d) : zCon G fX3_recordedStates d 0 0 [.ref (A 0)] (mdl G A (zput 0 σ s) pa ke no f h0) (zA (.int (zf_recordedStates Kn)) (mdl G A (zput 0 σ s) pa ke no (upd f 7 0) h0)) nX := by
  refine zCon.of9 (L := [some (.ref (A 0))]) (by simp [Value.category]) (Nat.le_of_ble_eq_true rfl) pX3 rfl rfl ?_
  refine z_aload_n dX3_recordedStates_0 rfl ?_
  refine z_iconst dX3_recordedStates_1 (v := 0) rfl ?_
  refine zm_put 7 dX3_recordedStates_2 q1749 rfl rfl rfl rfl rfl ?_
  refine z_aload_n dX3_recordedStates_5 rfl ?_
  refine zm_get 2 (v := .int (nI Kn)) dX3_recordedStates_6 q1744 rfl (congrArg (fun z => some (Value.int z)) ((upd_n (by decide)).trans hKn)) ?_
  refine z_ret dX3_recordedStates_9 rfl rfl ⟨by simp only [zf_recordedStates], rfl⟩
theorem upd_lo {F f : Nat → Int32} {v : Int32} (h : ∀ q, q < 7 → F q = f q) : ∀ q, q < 7 → upd F 2 v q = upd f 2 v q := by
  intro q hq
  by_cases e : q = 2
  · subst e; rw [upd_s, upd_s]
  · rw [upd_n e, upd_n e]; exact h q hq
def zf_impossibleOrder (no : Nat → Int32) (ln : Nat) (σ f : Nat → Int32) : Int32 := if ¬ ((if ¬ (((zf_error no ln f).1) = (-1)) then (1 : Int32) else 0) ≤ 0) then (0 : Int32) else ((zf_tries no ln σ (upd (zfe no ln f) 7 (if ¬ (((zf_error no ln f).1) = (-1)) then (1 : Int32) else 0))).1)
def zt_impossibleOrder (no : Nat → Int32) (ln : Nat) (σ f : Nat → Int32) : Int32 := if ¬ (((zf_error no ln f).1) = (-1)) then (1 : Int32) else 0
set_option maxHeartbeats 4000000 in
theorem k_impossibleOrder {G : zE} {A : Nat → Nat} (hA : zinj A 5) {σ s pa ke no f : Nat → Int32} {h0 : zH} {ln : Nat} (h6 : f 6 = nI ln) (hl : ln ≤ 60) (hst : zst σ) {d : Nat} (hd : 14 ≤ d) : zCon G fX3_impossibleOrder d 0 0 [.ref (A 0)] (mdl G A (zput 0 σ s) pa ke no f h0) (zAh (.int (zf_impossibleOrder no ln σ f)) (zt_impossibleOrder no ln σ f) f (fun s9 f9 => mdl G A (zput 0 σ s9) pa ke no f9 h0)) nX := by
  refine zCon.of9 (L := [some (.ref (A 0))]) (by simp [Value.category]) (Nat.le_of_ble_eq_true rfl) pX3 rfl rfl ?_
  refine z_aload_n dX3_impossibleOrder_0 rfl ?_
  refine z_aload_n dX3_impossibleOrder_1 rfl ?_
  refine z_cV zc7 mX3_error (k_errorF (d := d - 1) hA h6 hl (by omega)) dX3_impossibleOrder_2 q1973 (by omega) rfl (Nat.le_of_ble_eq_true rfl) rfl mdl_0 rfl ?_
  refine z_iconst dX3_impossibleOrder_5 (v := (-1)) rfl ?_
  refine z_join 14 (.int (if ¬ (((zf_error no ln f).1) = (-1)) then (1 : Int32) else 0)) 2 ?_ (fun hJ => ?_)
  rotate_left
  ·
    refine z_icmp_ne (tgt := 13) dX3_impossibleOrder_6 (by decide) (fun c_1 => ?_) (fun c_1 => ?_)
    ·
      refine z_iconst dX3_impossibleOrder_13 (v := 1) rfl ?_
      exact z_jv (if_pos c_1) hJ
    ·
      refine z_iconst dX3_impossibleOrder_9 (v := 0) rfl ?_
      refine z_goto (tgt := 14) dX3_impossibleOrder_10 (by decide) ?_
      exact z_jv (if_neg (fun z => z c_1)) hJ
  refine z_cV zc7 mX3_throwsAt (k_throwsAt (d := d - 1) (by omega)) dX3_impossibleOrder_14 q1796 (by omega) rfl (Nat.le_of_ble_eq_true rfl) rfl mdl_0 rfl ?_
  refine z_ifB_eq (tgt := 24) dX3_impossibleOrder_17 (by decide) (fun c_2 => ?_) (fun c_2 => ?_)
  ·
    refine z_aload_n dX3_impossibleOrder_24 rfl ?_
    refine z_cV zc7 mX3_tries (k_triesF (d := d - 1) hA ((upd_n (by decide)).trans ((zfe_lo (by decide)).trans h6)) hl hst (by omega)) dX3_impossibleOrder_25 q2001 (by omega) rfl (Nat.le_of_ble_eq_true rfl) rfl mdl_0 rfl ?_
    refine z_ret dX3_impossibleOrder_28 rfl rfl ⟨by simp only [zf_impossibleOrder, if_neg c_2], zput 287 (zrt no ln σ (upd (zfe no ln f) 7 (if ¬ (((zf_error no ln f).1) = (-1)) then (1 : Int32) else 0))) s, zft no ln σ (upd (zfe no ln f) 7 (if ¬ (((zf_error no ln f).1) = (-1)) then (1 : Int32) else 0)), fun q hq => ((zft_lo (by omega)).trans ((upd_n (by omega)).trans ((zfe_lo (by omega)).trans rfl))), (((zft_lo (by decide)).trans upd_s)).trans (by simp only [zt_impossibleOrder, if_neg c_2]), (congrArg (fun z => mdl G A z pa ke no (zft no ln σ (upd (zfe no ln f) 7 (if ¬ (((zf_error no ln f).1) = (-1)) then (1 : Int32) else 0))) h0) zcomm)⟩
  ·
    refine z_iconst dX3_impossibleOrder_20 (v := 0) rfl ?_
    refine z_goto (tgt := 28) dX3_impossibleOrder_21 (by decide) ?_
    refine z_ret dX3_impossibleOrder_28 rfl rfl ⟨by simp only [zf_impossibleOrder, if_pos c_2], s, upd (zfe no ln f) 7 (if ¬ (((zf_error no ln f).1) = (-1)) then (1 : Int32) else 0), fun q hq => ((upd_n (by omega)).trans ((zfe_lo (by omega)).trans rfl)), (upd_s).trans (by simp only [zt_impossibleOrder, if_pos c_2]), (rfl)⟩
def zf_carryOut (no : Nat → Int32) (ln : Nat) (σ f : Nat → Int32) : Int32 := if ((zf_error no ln f).1) = (-1) then (if ((zf_tries no ln σ (zfe no ln f)).1) = (-1) then (nI (zf_tries no ln σ (zfe no ln f)).2.2.2.2.2.1) else (0 : Int32)) else (0 : Int32)
def zt_carryOut (no : Nat → Int32) (ln : Nat) (σ f : Nat → Int32) : Int32 := if ((zf_error no ln f).1) = (-1) then (if ((zf_tries no ln σ (zfe no ln f)).1) = (-1) then (0 : Int32) else (1 : Int32)) else (1 : Int32)
def zr_carryOut (no : Nat → Int32) (ln : Nat) (σ f : Nat → Int32) : Nat → Int32 := if ((zf_error no ln f).1) = (-1) then (if ((zf_tries no ln σ (zfe no ln f)).1) = (-1) then (zrt no ln σ (zfe no ln f)) else σ) else σ
def zp_carryOut (no : Nat → Int32) (ln : Nat) (σ f : Nat → Int32) (Kn : Nat) (pa : Nat → Int32) : Nat → Int32 := if ((zf_error no ln f).1) = (-1) then (if ((zf_tries no ln σ (zfe no ln f)).1) = (-1) then (zpa σ Kn pa) else pa) else pa
def zg_carryOut (no : Nat → Int32) (ln : Nat) (σ f : Nat → Int32) (Kn : Nat) : Nat → Int32 := if ((zf_error no ln f).1) = (-1) then (if ((zf_tries no ln σ (zfe no ln f)).1) = (-1) then (upd f 2 (nI (zkn Kn))) else f) else f
set_option maxHeartbeats 4000000 in
theorem k_carryOut {G : zE} {A : Nat → Nat} (hA : zinj A 5) {σ s pa ke no f : Nat → Int32} {h0 : zH} {ln : Nat} (h6 : f 6 = nI ln) (hl : ln ≤ 60) {Kn : Nat} (hKn : f 2 = nI Kn) (lKn : Kn ≤ 4) (hst : zst σ) {d : Nat} (hd : 14 ≤ d) : zCon G fX3_carryOut d 0 0 [.ref (A 0)] (mdl G A (zput 0 σ s) pa ke no f h0) (zAh (.int (zf_carryOut no ln σ f)) (zt_carryOut no ln σ f) (zg_carryOut no ln σ f Kn) (fun s9 f9 => mdl G A (zput 0 (zr_carryOut no ln σ f) s9) (zp_carryOut no ln σ f Kn pa) ke no f9 h0)) nX := by
  refine zCon.of9 (L := [some (.ref (A 0)), none, none]) (by simp [Value.category]) (Nat.le_of_ble_eq_true rfl) pX3 rfl rfl ?_
  refine z_aload_n dX3_carryOut_0 rfl ?_
  refine z_cV zc7 mX3_error (k_errorF (d := d - 1) hA h6 hl (by omega)) dX3_carryOut_1 q1973 (by omega) rfl (Nat.le_of_ble_eq_true rfl) rfl mdl_0 rfl ?_
  refine z_iconst dX3_carryOut_4 (v := (-1)) rfl ?_
  refine z_icmp_ne (tgt := 20) dX3_carryOut_5 (by decide) (fun c_1 => ?_) (fun c_1 => ?_)
  ·
    refine z_iconst dX3_carryOut_20 (v := 0) rfl ?_
    refine z_istore_n dX3_carryOut_21 (by decide) ?_
    refine z_aload_n dX3_carryOut_22 rfl ?_
    refine z_iload_n dX3_carryOut_23 rfl ?_
    refine z_if_eq (tgt := 31) dX3_carryOut_24 (by decide) (fun c_2 => ?_) (fun c_2 => ?_)
    ·
      refine z_iconst dX3_carryOut_31 (v := 1) rfl ?_
      refine z_cV zc7 mX3_throwsAt (k_throwsAt (d := d - 1) (by omega)) dX3_carryOut_32 q1796 (by omega) rfl (Nat.le_of_ble_eq_true rfl) rfl mdl_0 rfl ?_
      refine z_ifB_eq (tgt := 40) dX3_carryOut_35 (by decide) (fun c_3 => ?_) (fun c_3 => ?_)
      · exact absurd (by decide) c_3
      ·
        refine z_iconst dX3_carryOut_38 (v := 0) rfl ?_
        refine z_ret dX3_carryOut_39 rfl rfl ⟨by simp only [zf_carryOut, if_neg c_1, if_pos c_2, if_pos c_3], s, upd (zfe no ln f) 7 1, by simp only [zg_carryOut, if_neg c_1, if_pos c_2, if_pos c_3]; exact fun q hq => ((upd_n (by omega)).trans ((zfe_lo (by omega)).trans rfl)), (upd_s).trans (by simp only [zt_carryOut, if_neg c_1, if_pos c_2, if_pos c_3]), (by simp only [zr_carryOut, zp_carryOut, if_neg c_1, if_pos c_2, if_pos c_3] <;> rfl)⟩
    · exact absurd rfl c_2
  ·
    refine z_aload_n dX3_carryOut_8 rfl ?_
    refine z_cV zc7 mX3_tries (k_triesF (d := d - 1) hA ((zfe_lo (by decide)).trans h6) hl hst (by omega)) dX3_carryOut_9 q2001 (by omega) rfl (Nat.le_of_ble_eq_true rfl) rfl mdl_0 rfl ?_
    refine z_iconst dX3_carryOut_12 (v := (-1)) rfl ?_
    refine z_icmp_ne (tgt := 20) dX3_carryOut_13 (by decide) (fun c_4 => ?_) (fun c_4 => ?_)
    ·
      refine z_iconst dX3_carryOut_20 (v := 0) rfl ?_
      refine z_istore_n dX3_carryOut_21 (by decide) ?_
      refine z_aload_n dX3_carryOut_22 rfl ?_
      refine z_iload_n dX3_carryOut_23 rfl ?_
      refine z_if_eq (tgt := 31) dX3_carryOut_24 (by decide) (fun c_5 => ?_) (fun c_5 => ?_)
      ·
        refine z_iconst dX3_carryOut_31 (v := 1) rfl ?_
        refine z_cV zc7 mX3_throwsAt (k_throwsAt (d := d - 1) (by omega)) dX3_carryOut_32 q1796 (by omega) rfl (Nat.le_of_ble_eq_true rfl) rfl mdl_0 rfl ?_
        refine z_ifB_eq (tgt := 40) dX3_carryOut_35 (by decide) (fun c_6 => ?_) (fun c_6 => ?_)
        · exact absurd (by decide) c_6
        ·
          refine z_iconst dX3_carryOut_38 (v := 0) rfl ?_
          refine z_ret dX3_carryOut_39 rfl rfl ⟨by simp only [zf_carryOut, if_pos c_1, if_neg c_4, if_pos c_5, if_pos c_6], zput 287 (zrt no ln σ (zfe no ln f)) s, upd (zft no ln σ (zfe no ln f)) 7 1, by simp only [zg_carryOut, if_pos c_1, if_neg c_4, if_pos c_5, if_pos c_6]; exact fun q hq => ((upd_n (by omega)).trans ((zft_lo (by omega)).trans ((zfe_lo (by omega)).trans rfl))), (upd_s).trans (by simp only [zt_carryOut, if_pos c_1, if_neg c_4, if_pos c_5, if_pos c_6]), (by simp only [zr_carryOut, zp_carryOut, if_pos c_1, if_neg c_4, if_pos c_5, if_pos c_6]; exact congrArg (fun z => mdl G A z pa ke no (upd (zft no ln σ (zfe no ln f)) 7 1) h0) zcomm)⟩
      · exact absurd rfl c_5
    ·
      refine z_iconst dX3_carryOut_16 (v := 1) rfl ?_
      refine z_goto (tgt := 21) dX3_carryOut_17 (by decide) ?_
      refine z_istore_n dX3_carryOut_21 (by decide) ?_
      refine z_aload_n dX3_carryOut_22 rfl ?_
      refine z_iload_n dX3_carryOut_23 rfl ?_
      refine z_if_eq (tgt := 31) dX3_carryOut_24 (by decide) (fun c_7 => ?_) (fun c_7 => ?_)
      · exact absurd c_7 (by decide)
      ·
        refine z_iconst dX3_carryOut_27 (v := 0) rfl ?_
        refine z_goto (tgt := 32) dX3_carryOut_28 (by decide) ?_
        refine z_cV zc7 mX3_throwsAt (k_throwsAt (d := d - 1) (by omega)) dX3_carryOut_32 q1796 (by omega) rfl (Nat.le_of_ble_eq_true rfl) rfl mdl_0 rfl ?_
        refine z_ifB_eq (tgt := 40) dX3_carryOut_35 (by decide) (fun c_8 => ?_) (fun c_8 => ?_)
        ·
          refine z_aload_n dX3_carryOut_40 rfl ?_
          rw [zcomm (τ := (zrt no ln σ (zfe no ln f)))]
          refine z_cVv zc7 mX3_records (k_records (d := d - 1) hA (Kn := Kn) ((upd_n (by decide)).trans ((zft_lo (by decide)).trans ((zfe_lo (by decide)).trans hKn))) lKn (by omega)) dX3_carryOut_41 q1800 (by omega) rfl (Nat.le_of_ble_eq_true rfl) rfl mdl_0 rfl ?_
          refine z_iconst dX3_carryOut_44 (v := 0) rfl ?_
          refine z_istore_n dX3_carryOut_45 (by decide) ?_
          refine z_loc (L2 := [some (.ref (A 0)), none, some (.int 0)]) ⟨rfl, rfl, trivial⟩ ?_
          refine l_carryOut0 hA ?_
          rw [zput_carry]
          refine z_aload_n dX3_carryOut_75 rfl ?_
          refine zm_get 12 (v := .int (nI (zf_tries no ln σ (zfe no ln f)).2.2.2.2.2.1)) dX3_carryOut_76 q1754 rfl rfl ?_
          refine z_ret dX3_carryOut_79 rfl rfl ⟨by simp only [zf_carryOut, if_pos c_1, if_pos c_4, if_neg c_7, if_neg c_8], zput 287 (zrt no ln σ (zfe no ln f)) s, upd (upd (zft no ln σ (zfe no ln f)) 7 0) 2 (nI (zkn Kn)), by simp only [zg_carryOut, if_pos c_1, if_pos c_4, if_neg c_7, if_neg c_8]; exact upd_lo (fun q hq => ((upd_n (by omega)).trans ((zft_lo (by omega)).trans ((zfe_lo (by omega)).trans rfl)))), (((upd_n (by decide)).trans upd_s)).trans (by simp only [zt_carryOut, if_pos c_1, if_pos c_4, if_neg c_7, if_neg c_8]), (by simp only [zr_carryOut, zp_carryOut, if_pos c_1, if_pos c_4, if_neg c_7, if_neg c_8] <;> rfl)⟩
        · exact absurd c_8 (by decide)
