/-! THE REFERENCE, part 11: notes read -/
set_option maxRecDepth 100000
theorem zlk_cons {a o : Int} {r : List (Int × Int)} {dflt off : Int} {x lit : Int32} (hl : lit.toInt = a) (h : ¬ x = lit) (e : Op.lookupswitch.offset r dflt x.toInt = off) : Op.lookupswitch.offset ((a, o) :: r) dflt x.toInt = off := by
  rw [Op.lookupswitch.offset_cons, if_neg (fun q => h (Int32.toInt_inj.mp (by rw [hl, q]))), e]
/-- the reader's four numbers -/
def zrd (f : Nat → Int32) (a : Nat) (o x y : Int32) : Nat → Int32 := fun q => if q = 8 then nI a else if q = 9 then o else if q = 10 then x else if q = 11 then y else f q
section
variable {f : Nat → Int32} {a b : Nat} {o x y v : Int32}
theorem zrd_8 : upd (zrd f a o x y) 8 (nI b) = zrd f b o x y := by
  funext q
  simp only [upd, zrd]
  by_cases h : q = 8
  · rw [if_pos h, if_pos h]
  · rw [if_neg h, if_neg h, if_neg h]
theorem zrd_9 : upd (zrd f a o x y) 9 v = zrd f a v x y := by
  funext q
  simp only [upd, zrd]
  by_cases h : q = 9
  · subst h; rfl
  · rw [if_neg h, if_neg h, if_neg h]
theorem zrd_10 : upd (zrd f a o x y) 10 v = zrd f a o v y := by
  funext q
  simp only [upd, zrd]
  by_cases h : q = 10
  · subst h; rfl
  · rw [if_neg h, if_neg h, if_neg h]
theorem zrd_11 : upd (zrd f a o x y) 11 v = zrd f a o x v := by
  funext q
  simp only [upd, zrd]
  by_cases h : q = 11
  · subst h; rfl
  · rw [if_neg h, if_neg h, if_neg h]
theorem zrd_0 : upd f 8 0 = zrd f 0 (f 9) (f 10) (f 11) := by
  funext q
  simp only [upd, zrd]
  by_cases h : q = 8
  · rw [if_pos h, if_pos h]; rfl
  · rw [if_neg h, if_neg h]
    by_cases h9 : q = 9
    · rw [if_pos h9, h9]
    · rw [if_neg h9]
      by_cases h10 : q = 10
      · rw [if_pos h10, h10]
      · rw [if_neg h10]
        by_cases h11 : q = 11
        · rw [if_pos h11, h11]
        · rw [if_neg h11]
end
theorem zn_if {c : Prop} [Decidable c] : (if c then (1 : Int32) else 0) = nI (if c then 1 else 0) := by
  by_cases h : c
  · rw [if_pos h, if_pos h]; rfl
  · rw [if_neg h, if_neg h]; rfl
theorem zn_if2 {c : Prop} [Decidable c] {x y : Int32} {a b : Nat} (hx : x = nI a) (hy : y = nI b) : (if c then x else y) = nI (if c then a else b) := by
  by_cases h : c
  · rw [if_pos h, if_pos h, hx]
  · rw [if_neg h, if_neg h, hy]
theorem zn_dec {a : Nat} : nI (a + 1) - 1 = nI a := (zn_sub (x := nI (a + 1)) (y := 1) (a := a + 1) (b := 1) rfl rfl (by omega)).trans (by rw [Nat.add_sub_cancel])
section
variable {G : zE} {F : zF} {d pc k n : Nat} {L : List (Option Value)} {st : List Value} {Q : Option Value → zH → Prop} {X : String → zH → Prop} {A : Nat → Nat} {s pa ke no f f' : Nat → Int32} {h0 : zH}
theorem zm_putR (kf : Nat) {x : Int32} {index : Nat} (dd : decode F.2.1 pc = .ok (.putfield index, 3)) (hlink : Cond.fieldLink F.1.cls index (TX3 kf).1 (TX3 kf).2.1 (TX3 kf).2.2.1 ∈ lw_all) (hk : decide (kf < 13) = true) (hfin : (TX3 kf).2.2.2 = false) (hn : narrow (tyX3 kf) (.int x) = .int x) (hfit : fits (tyX3 kf) (.int x) = true) (hs : (zmf A f).set kf (.int x) = zmf A (upd f kf x)) (e : upd f kf x = f')
    (kk : zV G F d (pc + 3) L st (mdl G A s pa ke no f' h0) k n Q X) : zV G F d pc L (.int x :: .ref (A 0) :: st) (mdl G A s pa ke no f h0) k n Q X := zm_put kf dd hlink hk hfin hn hfit hs (e ▸ kk)
end
abbrev zf_isDigit (no : Nat → Int32) (ln a : Nat) : Prop := ¬ ((nI ln) ≤ (nI a)) ∧ (zf_in (no a) 48 57)
set_option maxHeartbeats 4000000 in
theorem k_isDigit {G : zE} {A : Nat → Nat} (hA : zinj A 5) {s pa ke no f : Nat → Int32} {h0 : zH} {ln : Nat} (h6 : f 6 = nI ln) (hl : ln ≤ 60) {a : Nat} (la : a < 100) {o x y : Int32} {d : Nat} (hd : 2 ≤ d) : zCon G fX3_isDigit d 0 0 [.ref (A 0)] (mdl G A s pa ke no (zrd f a o x y) h0) (zA (.int (if zf_isDigit no ln a then (1 : Int32) else 0)) (mdl G A s pa ke no (zrd f a o x y) h0)) nX := by
  refine zCon.of9 (L := [some (.ref (A 0))]) (by simp [Value.category]) (Nat.le_of_ble_eq_true rfl) pX3 rfl rfl ?_
  refine z_aload_n dX3_isDigit_0 rfl ?_
  refine zm_get 8 (v := .int (nI a)) dX3_isDigit_1 q1750 rfl rfl ?_
  refine z_aload_n dX3_isDigit_4 rfl ?_
  refine zm_get 6 (v := .int (nI ln)) dX3_isDigit_5 q1748 rfl (congrArg (fun z => some (Value.int z)) h6) ?_
  refine z_join 35 (.int (if ¬ ((nI ln) ≤ (nI a)) ∧ (zf_in (no a) 48 57) then (1 : Int32) else 0)) 2 ?_ (fun hJ => ?_)
  rotate_left
  ·
    refine z_icmp_ge (tgt := 34) dX3_isDigit_8 (by decide) (fun c_1 => ?_) (fun c_1 => ?_)
    ·
      refine z_iconst dX3_isDigit_34 (v := 0) rfl ?_
      exact z_jv (if_neg (fun z => z.1 c_1)) hJ
    ·
      refine z_aload_n dX3_isDigit_11 rfl ?_
      refine zm_get 5 dX3_isDigit_12 q1747 rfl rfl ?_
      refine z_aload_n dX3_isDigit_15 rfl ?_
      refine zm_get 8 (v := .int (nI a)) dX3_isDigit_16 q1750 rfl rfl ?_
      have lb_2 := zn_nle c_1 (by omega) (by omega)
      refine z_iald dX3_isDigit_19 (mdl_4 hA) (zn_to (rfl) rfl) (by omega) (by omega) ?_
      refine z_bipush dX3_isDigit_20 (v := 48) rfl ?_
      refine z_bipush dX3_isDigit_22 (v := 57) rfl ?_
      refine z_cS mX3_in (k_in (d := d - 1) (by omega)) dX3_isDigit_24 q1793 (by omega) rfl (Nat.le_of_ble_eq_true rfl) rfl ?_
      refine z_ifB_eq (tgt := 34) dX3_isDigit_27 (by decide) (fun c_3 => ?_) (fun c_3 => ?_)
      ·
        refine z_iconst dX3_isDigit_34 (v := 0) rfl ?_
        exact z_jv (if_neg (fun z => c_3 z.2)) hJ
      ·
        refine z_iconst dX3_isDigit_30 (v := 1) rfl ?_
        refine z_goto (tgt := 35) dX3_isDigit_31 (by decide) ?_
        exact z_jv (if_pos (⟨c_1, c_3⟩)) hJ
  refine z_ret dX3_isDigit_35 rfl z_bool ⟨rfl, rfl⟩
abbrev zf_isSign (no : Nat → Int32) (ln a : Nat) (c : Int32) : Prop := ¬ ((nI ln) ≤ (nI a)) ∧ ((no a) = c)
def zna_isSign (no : Nat → Int32) (ln a : Nat) (c : Int32) : Nat := a + (if zf_isSign no ln a c then 1 else 0)
set_option maxHeartbeats 4000000 in
theorem k_isSign {G : zE} {A : Nat → Nat} (hA : zinj A 5) {s pa ke no f : Nat → Int32} {h0 : zH} {ln : Nat} (h6 : f 6 = nI ln) (hl : ln ≤ 60) {a : Nat} (la : a < 100) {o x y : Int32} {c : Int32} {d : Nat} (hd : 1 ≤ d) : zCon G fX3_isSign d 0 0 [.ref (A 0), .int c] (mdl G A s pa ke no (zrd f a o x y) h0) (zA (.int (if zf_isSign no ln a c then (1 : Int32) else 0)) (mdl G A s pa ke no (zrd f (zna_isSign no ln a c) o x y) h0)) nX := by
  refine zCon.of9 (L := [some (.ref (A 0)), some (.int c), none]) (by simp [Value.category]) (Nat.le_of_ble_eq_true rfl) pX3 rfl rfl ?_
  refine z_aload_n dX3_isSign_0 rfl ?_
  refine zm_get 8 (v := .int (nI a)) dX3_isSign_1 q1750 rfl rfl ?_
  refine z_aload_n dX3_isSign_4 rfl ?_
  refine zm_get 6 (v := .int (nI ln)) dX3_isSign_5 q1748 rfl (congrArg (fun z => some (Value.int z)) h6) ?_
  refine z_join 29 (.int (if ¬ ((nI ln) ≤ (nI a)) ∧ ((no a) = c) then (1 : Int32) else 0)) 2 ?_ (fun hJ => ?_)
  rotate_left
  ·
    refine z_icmp_ge (tgt := 28) dX3_isSign_8 (by decide) (fun c_1 => ?_) (fun c_1 => ?_)
    ·
      refine z_iconst dX3_isSign_28 (v := 0) rfl ?_
      exact z_jv (if_neg (fun z => z.1 c_1)) hJ
    ·
      refine z_aload_n dX3_isSign_11 rfl ?_
      refine zm_get 5 dX3_isSign_12 q1747 rfl rfl ?_
      refine z_aload_n dX3_isSign_15 rfl ?_
      refine zm_get 8 (v := .int (nI a)) dX3_isSign_16 q1750 rfl rfl ?_
      have lb_2 := zn_nle c_1 (by omega) (by omega)
      refine z_iald dX3_isSign_19 (mdl_4 hA) (zn_to (rfl) rfl) (by omega) (by omega) ?_
      refine z_iload_n dX3_isSign_20 rfl ?_
      refine z_icmp_ne (tgt := 28) dX3_isSign_21 (by decide) (fun c_3 => ?_) (fun c_3 => ?_)
      ·
        refine z_iconst dX3_isSign_28 (v := 0) rfl ?_
        exact z_jv (if_neg (fun z => c_3 z.2)) hJ
      ·
        refine z_iconst dX3_isSign_24 (v := 1) rfl ?_
        refine z_goto (tgt := 29) dX3_isSign_25 (by decide) ?_
        exact z_jv (if_pos (⟨c_1, c_3⟩)) hJ
  refine z_istore_n dX3_isSign_29 (by decide) ?_
  refine z_aload_n dX3_isSign_30 rfl ?_
  refine z_dup dX3_isSign_31 rfl ?_
  refine zm_get 8 (v := .int (nI a)) dX3_isSign_32 q1750 rfl rfl ?_
  refine z_iload_n dX3_isSign_35 rfl ?_
  refine z_join 44 (.int (if ¬ ((nI ln) ≤ (nI a)) ∧ ((no a) = c) then (1 : Int32) else 0)) 1 ?_ (fun hJ => ?_)
  rotate_left
  ·
    refine z_ifB_eq (tgt := 43) dX3_isSign_36 (by decide) (fun c_4 => ?_) (fun c_4 => ?_)
    ·
      refine z_iconst dX3_isSign_43 (v := 0) rfl ?_
      exact z_jv (if_neg c_4) hJ
    ·
      refine z_iconst dX3_isSign_39 (v := 1) rfl ?_
      refine z_goto (tgt := 44) dX3_isSign_40 (by decide) ?_
      exact z_jv (if_pos c_4) hJ
  refine z_iadd dX3_isSign_44 ?_
  refine zm_putR 8 dX3_isSign_45 q1750 rfl rfl rfl rfl rfl ((congrArg (fun z => upd _ 8 z) (show (nI a) + (if ¬ ((nI ln) ≤ (nI a)) ∧ ((no a) = c) then (1 : Int32) else 0) = nI (a + if ¬ ((nI ln) ≤ (nI a)) ∧ ((no a) = c) then 1 else 0) from zn_add rfl (zn_if2 (c := ¬ ((nI ln) ≤ (nI a)) ∧ ((no a) = c)) (a := 1) (b := 0) rfl rfl))).trans zrd_8) ?_
  refine z_iload_n dX3_isSign_48 rfl ?_
  refine z_ret dX3_isSign_49 rfl z_bool ⟨rfl, rfl⟩
abbrev zf_isPlace (no : Nat → Int32) (ln a : Nat) : Prop := ¬ ((nI ln) ≤ (nI a)) ∧ (zf_in (no a) 48 55)
def zna_isPlace (no : Nat → Int32) (ln a : Nat) : Nat := a + (if zf_isPlace no ln a then 1 else 0)
def znx_isPlace (no : Nat → Int32) (ln a : Nat) : Int32 := if zf_isPlace no ln a then no a - 48 else 0
set_option maxHeartbeats 4000000 in
theorem k_isPlace {G : zE} {A : Nat → Nat} (hA : zinj A 5) {s pa ke no f : Nat → Int32} {h0 : zH} {ln : Nat} (h6 : f 6 = nI ln) (hl : ln ≤ 60) {a : Nat} (la : a < 100) {o x y : Int32} {d : Nat} (hd : 2 ≤ d) : zCon G fX3_isPlace d 0 0 [.ref (A 0)] (mdl G A s pa ke no (zrd f a o x y) h0) (zA (.int (if zf_isPlace no ln a then (1 : Int32) else 0)) (mdl G A s pa ke no (zrd f (zna_isPlace no ln a) o (znx_isPlace no ln a) y) h0)) nX := by
  refine zCon.of9 (L := [some (.ref (A 0)), none]) (by simp [Value.category]) (Nat.le_of_ble_eq_true rfl) pX3 rfl rfl ?_
  refine z_aload_n dX3_isPlace_0 rfl ?_
  refine zm_get 8 (v := .int (nI a)) dX3_isPlace_1 q1750 rfl rfl ?_
  refine z_aload_n dX3_isPlace_4 rfl ?_
  refine zm_get 6 (v := .int (nI ln)) dX3_isPlace_5 q1748 rfl (congrArg (fun z => some (Value.int z)) h6) ?_
  refine z_join 35 (.int (if ¬ ((nI ln) ≤ (nI a)) ∧ (zf_in (no a) 48 55) then (1 : Int32) else 0)) 2 ?_ (fun hJ => ?_)
  rotate_left
  ·
    refine z_icmp_ge (tgt := 34) dX3_isPlace_8 (by decide) (fun c_1 => ?_) (fun c_1 => ?_)
    ·
      refine z_iconst dX3_isPlace_34 (v := 0) rfl ?_
      exact z_jv (if_neg (fun z => z.1 c_1)) hJ
    ·
      refine z_aload_n dX3_isPlace_11 rfl ?_
      refine zm_get 5 dX3_isPlace_12 q1747 rfl rfl ?_
      refine z_aload_n dX3_isPlace_15 rfl ?_
      refine zm_get 8 (v := .int (nI a)) dX3_isPlace_16 q1750 rfl rfl ?_
      have lb_2 := zn_nle c_1 (by omega) (by omega)
      refine z_iald dX3_isPlace_19 (mdl_4 hA) (zn_to (rfl) rfl) (by omega) (by omega) ?_
      refine z_bipush dX3_isPlace_20 (v := 48) rfl ?_
      refine z_bipush dX3_isPlace_22 (v := 55) rfl ?_
      refine z_cS mX3_in (k_in (d := d - 1) (by omega)) dX3_isPlace_24 q1793 (by omega) rfl (Nat.le_of_ble_eq_true rfl) rfl ?_
      refine z_ifB_eq (tgt := 34) dX3_isPlace_27 (by decide) (fun c_3 => ?_) (fun c_3 => ?_)
      ·
        refine z_iconst dX3_isPlace_34 (v := 0) rfl ?_
        exact z_jv (if_neg (fun z => c_3 z.2)) hJ
      ·
        refine z_iconst dX3_isPlace_30 (v := 1) rfl ?_
        refine z_goto (tgt := 35) dX3_isPlace_31 (by decide) ?_
        exact z_jv (if_pos (⟨c_1, c_3⟩)) hJ
  refine z_istore_n dX3_isPlace_35 (by decide) ?_
  refine z_aload_n dX3_isPlace_36 rfl ?_
  refine z_iload_n dX3_isPlace_37 rfl ?_
  refine z_join 57 (.int (if ¬ ((nI ln) ≤ (nI a)) ∧ (zf_in (no a) 48 55) then ((no a) - 48) else (0 : Int32))) 1 ?_ (fun hJ => ?_)
  rotate_left
  ·
    refine z_ifB_eq (tgt := 56) dX3_isPlace_38 (by decide) (fun c_4 => ?_) (fun c_4 => ?_)
    ·
      refine z_iconst dX3_isPlace_56 (v := 0) rfl ?_
      exact z_jv (by simp only [if_neg c_4] <;> rfl) hJ
    ·
      refine z_aload_n dX3_isPlace_41 rfl ?_
      refine zm_get 5 dX3_isPlace_42 q1747 rfl rfl ?_
      refine z_aload_n dX3_isPlace_45 rfl ?_
      refine zm_get 8 (v := .int (nI a)) dX3_isPlace_46 q1750 rfl rfl ?_
      have lb_5 := zn_nle c_4.1 (by omega) (by omega)
      refine z_iald dX3_isPlace_49 (mdl_4 hA) (zn_to (rfl) rfl) (by omega) (by omega) ?_
      refine z_bipush dX3_isPlace_50 (v := 48) rfl ?_
      refine z_isub dX3_isPlace_52 ?_
      refine z_goto (tgt := 57) dX3_isPlace_53 (by decide) ?_
      exact z_jv (by simp only [if_pos c_4] <;> rfl) hJ
  refine zm_putR 10 dX3_isPlace_57 q1752 rfl rfl rfl rfl rfl zrd_10 ?_
  refine z_aload_n dX3_isPlace_60 rfl ?_
  refine z_dup dX3_isPlace_61 rfl ?_
  refine zm_get 8 (v := .int (nI a)) dX3_isPlace_62 q1750 rfl rfl ?_
  refine z_iload_n dX3_isPlace_65 rfl ?_
  refine z_join 74 (.int (if ¬ ((nI ln) ≤ (nI a)) ∧ (zf_in (no a) 48 55) then (1 : Int32) else 0)) 1 ?_ (fun hJ => ?_)
  rotate_left
  ·
    refine z_ifB_eq (tgt := 73) dX3_isPlace_66 (by decide) (fun c_6 => ?_) (fun c_6 => ?_)
    ·
      refine z_iconst dX3_isPlace_73 (v := 0) rfl ?_
      exact z_jv (if_neg c_6) hJ
    ·
      refine z_iconst dX3_isPlace_69 (v := 1) rfl ?_
      refine z_goto (tgt := 74) dX3_isPlace_70 (by decide) ?_
      exact z_jv (if_pos c_6) hJ
  refine z_iadd dX3_isPlace_74 ?_
  refine zm_putR 8 dX3_isPlace_75 q1750 rfl rfl rfl rfl rfl ((congrArg (fun z => upd _ 8 z) (show (nI a) + (if ¬ ((nI ln) ≤ (nI a)) ∧ (zf_in (no a) 48 55) then (1 : Int32) else 0) = nI (a + if ¬ ((nI ln) ≤ (nI a)) ∧ (zf_in (no a) 48 55) then 1 else 0) from zn_add rfl (zn_if2 (c := ¬ ((nI ln) ≤ (nI a)) ∧ (zf_in (no a) 48 55)) (a := 1) (b := 0) rfl rfl))).trans zrd_8) ?_
  refine z_iload_n dX3_isPlace_78 rfl ?_
  refine z_ret dX3_isPlace_79 rfl z_bool ⟨rfl, rfl⟩
def zf_isNumber (no : Nat → Int32) (ln a : Nat) (o x y l m : Int32) : Int32 × Nat × Int32 × Int32 × Int32 := if zf_isDigit no ln a then (if ((no a) - 48) = 0 then (if l ≤ 0 then ((if ¬ ((if ((no a) - 48) ≤ 0 then ((no a) - 48) else (if zf_isDigit no ln (a + 1) then (if zf_in (((10 * ((no a) - 48)) + (no (a + 1))) - 48) l m then (((10 * ((no a) - 48)) + (no (a + 1))) - 48) else ((no a) - 48)) else ((no a) - 48))) < l) then (1 : Int32) else 0), (if ((no a) - 48) ≤ 0 then (a + 1) else (if zf_isDigit no ln (a + 1) then (if zf_in (((10 * ((no a) - 48)) + (no (a + 1))) - 48) l m then (a + 1 + 1) else (a + 1)) else (a + 1))), o, x, (if ((no a) - 48) ≤ 0 then ((no a) - 48) else (if zf_isDigit no ln (a + 1) then (if zf_in (((10 * ((no a) - 48)) + (no (a + 1))) - 48) l m then (((10 * ((no a) - 48)) + (no (a + 1))) - 48) else ((no a) - 48)) else ((no a) - 48)))) else ((0 : Int32), a, o, x, y)) else (if l ≤ ((no a) - 48) then (if m < ((no a) - 48) then ((0 : Int32), a, o, x, y) else ((if ¬ ((if ((no a) - 48) ≤ 0 then ((no a) - 48) else (if zf_isDigit no ln (a + 1) then (if zf_in (((10 * ((no a) - 48)) + (no (a + 1))) - 48) l m then (((10 * ((no a) - 48)) + (no (a + 1))) - 48) else ((no a) - 48)) else ((no a) - 48))) < l) then (1 : Int32) else 0), (if ((no a) - 48) ≤ 0 then (a + 1) else (if zf_isDigit no ln (a + 1) then (if zf_in (((10 * ((no a) - 48)) + (no (a + 1))) - 48) l m then (a + 1 + 1) else (a + 1)) else (a + 1))), o, x, (if ((no a) - 48) ≤ 0 then ((no a) - 48) else (if zf_isDigit no ln (a + 1) then (if zf_in (((10 * ((no a) - 48)) + (no (a + 1))) - 48) l m then (((10 * ((no a) - 48)) + (no (a + 1))) - 48) else ((no a) - 48)) else ((no a) - 48))))) else (if ((10 * ((no a) - 48)) + 9) < l then ((0 : Int32), a, o, x, y) else (if m < ((no a) - 48) then ((0 : Int32), a, o, x, y) else (if (10 * ((no a) - 48)) ≤ m then ((if ¬ ((if ((no a) - 48) ≤ 0 then ((no a) - 48) else (if zf_isDigit no ln (a + 1) then (if zf_in (((10 * ((no a) - 48)) + (no (a + 1))) - 48) l m then (((10 * ((no a) - 48)) + (no (a + 1))) - 48) else ((no a) - 48)) else ((no a) - 48))) < l) then (1 : Int32) else 0), (if ((no a) - 48) ≤ 0 then (a + 1) else (if zf_isDigit no ln (a + 1) then (if zf_in (((10 * ((no a) - 48)) + (no (a + 1))) - 48) l m then (a + 1 + 1) else (a + 1)) else (a + 1))), o, x, (if ((no a) - 48) ≤ 0 then ((no a) - 48) else (if zf_isDigit no ln (a + 1) then (if zf_in (((10 * ((no a) - 48)) + (no (a + 1))) - 48) l m then (((10 * ((no a) - 48)) + (no (a + 1))) - 48) else ((no a) - 48)) else ((no a) - 48)))) else ((0 : Int32), a, o, x, y)))))) else ((0 : Int32), a, o, x, y)
set_option maxHeartbeats 4000000 in
theorem k_isNumber {G : zE} {A : Nat → Nat} (hA : zinj A 5) {s pa ke no f : Nat → Int32} {h0 : zH} {ln : Nat} (h6 : f 6 = nI ln) (hl : ln ≤ 60) {a : Nat} (la : a < 100) {o x y : Int32} {l m : Int32} {d : Nat} (hd : 3 ≤ d) : zCon G fX3_isNumber d 0 0 [.ref (A 0), .int l, .int m] (mdl G A s pa ke no (zrd f a o x y) h0) (zA (.int (zf_isNumber no ln a o x y l m).1) (mdl G A s pa ke no (zrd f (zf_isNumber no ln a o x y l m).2.1 (zf_isNumber no ln a o x y l m).2.2.1 (zf_isNumber no ln a o x y l m).2.2.2.1 (zf_isNumber no ln a o x y l m).2.2.2.2) h0)) nX := by
  refine zCon.of9 (L := [some (.ref (A 0)), some (.int l), some (.int m), none]) (by simp [Value.category]) (Nat.le_of_ble_eq_true rfl) pX3 rfl rfl ?_
  refine z_aload_n dX3_isNumber_0 rfl ?_
  refine z_cV zc7 mX3_isDigit (k_isDigit (d := d - 1) hA h6 hl (a := a) (by omega) (by omega)) dX3_isNumber_1 q1993 (by omega) rfl (Nat.le_of_ble_eq_true rfl) rfl mdl_0 rfl ?_
  refine z_ifB_ne (tgt := 9) dX3_isNumber_4 (by decide) (fun c_1 => ?_) (fun c_1 => ?_)
  ·
    refine z_aload_n dX3_isNumber_9 rfl ?_
    refine zm_get 5 dX3_isNumber_10 q1747 rfl rfl ?_
    refine z_aload_n dX3_isNumber_13 rfl ?_
    refine zm_get 8 (v := .int (nI a)) dX3_isNumber_14 q1750 rfl rfl ?_
    have lb_2 := zn_nle c_1.1 (by omega) (by omega)
    refine z_iald dX3_isNumber_17 (mdl_4 hA) (zn_to (rfl) rfl) (by omega) (by omega) ?_
    refine z_bipush dX3_isNumber_18 (v := 48) rfl ?_
    refine z_isub dX3_isNumber_20 ?_
    refine z_istore_n dX3_isNumber_21 (by decide) ?_
    refine z_iload_n dX3_isNumber_22 rfl ?_
    refine z_if_ne (tgt := 33) dX3_isNumber_23 (by decide) (fun c_3 => ?_) (fun c_3 => ?_)
    ·
      refine z_iload_n dX3_isNumber_33 rfl ?_
      refine z_iload_n dX3_isNumber_34 rfl ?_
      refine z_icmp_ge (tgt := 49) dX3_isNumber_35 (by decide) (fun c_4 => ?_) (fun c_4 => ?_)
      ·
        refine z_iload_n dX3_isNumber_49 rfl ?_
        refine z_iload_n dX3_isNumber_50 rfl ?_
        refine z_icmp_gt (tgt := 67) dX3_isNumber_51 (by decide) (fun c_5 => ?_) (fun c_5 => ?_)
        ·
          refine z_iconst dX3_isNumber_67 (v := 0) rfl ?_
          refine z_ret dX3_isNumber_68 rfl rfl ⟨by simp only [zf_isNumber, if_pos c_1, if_neg c_3, if_pos c_4, if_pos c_5], by simp only [zf_isNumber, if_pos c_1, if_neg c_3, if_pos c_4, if_pos c_5]⟩
        ·
          refine z_iload_n dX3_isNumber_54 rfl ?_
          refine z_iload_n dX3_isNumber_55 rfl ?_
          refine z_icmp_ge (tgt := 69) dX3_isNumber_56 (by decide) (fun c_6 => ?_) (fun c_6 => ?_)
          ·
            refine z_aload_n dX3_isNumber_69 rfl ?_
            refine z_dup dX3_isNumber_70 rfl ?_
            refine zm_get 8 (v := .int (nI a)) dX3_isNumber_71 q1750 rfl rfl ?_
            refine z_iconst dX3_isNumber_74 (v := 1) rfl ?_
            refine z_iadd dX3_isNumber_75 ?_
            refine zm_putR 8 dX3_isNumber_76 q1750 rfl rfl rfl rfl rfl ((congrArg (fun z => upd _ 8 z) (show (nI a) + 1 = nI (a + 1) from zn_add rfl (zk 1))).trans zrd_8) ?_
            refine z_iload_n dX3_isNumber_79 rfl ?_
            refine z_joinH 143 [some (.ref (A 0)), some (.int l), some (.int m), some (.int (if ((no a) - 48) ≤ 0 then ((no a) - 48) else (if zf_isDigit no ln (a + 1) then (if zf_in (((10 * ((no a) - 48)) + (no (a + 1))) - 48) l m then (((10 * ((no a) - 48)) + (no (a + 1))) - 48) else ((no a) - 48)) else ((no a) - 48))))] (mdl G A s pa ke no (zrd f (if ((no a) - 48) ≤ 0 then (a + 1) else (if zf_isDigit no ln (a + 1) then (if zf_in (((10 * ((no a) - 48)) + (no (a + 1))) - 48) l m then (a + 1 + 1) else (a + 1)) else (a + 1))) o x y) h0) 1 ?_ (fun hJ => ?_)
            rotate_left
            ·
              refine z_if_le (tgt := 143) dX3_isNumber_80 (by decide) (fun c_7 => ?_) (fun c_7 => ?_)
              ·
                exact z_jH (by first | rfl | (simp only [if_pos c_7] <;> rfl)) (by simp only [if_pos c_7]) hJ
              ·
                refine z_aload_n dX3_isNumber_83 rfl ?_
                refine z_cV zc7 mX3_isDigit (k_isDigit (d := d - 1) hA h6 hl (a := a + 1) (by omega) (by omega)) dX3_isNumber_84 q1993 (by omega) rfl (Nat.le_of_ble_eq_true rfl) rfl mdl_0 rfl ?_
                refine z_ifB_eq (tgt := 143) dX3_isNumber_87 (by decide) (fun c_8 => ?_) (fun c_8 => ?_)
                ·
                  exact z_jH (by first | rfl | (simp only [if_neg c_7, if_neg c_8] <;> rfl)) (by simp only [if_neg c_7, if_neg c_8]) hJ
                ·
                  refine z_bipush dX3_isNumber_90 (v := 10) rfl ?_
                  refine z_iload_n dX3_isNumber_92 rfl ?_
                  refine z_imul dX3_isNumber_93 ?_
                  refine z_aload_n dX3_isNumber_94 rfl ?_
                  refine zm_get 5 dX3_isNumber_95 q1747 rfl rfl ?_
                  refine z_aload_n dX3_isNumber_98 rfl ?_
                  refine zm_get 8 (v := .int (nI (a + 1))) dX3_isNumber_99 q1750 rfl rfl ?_
                  have lb_9 := zn_nle c_8.1 (by omega) (by omega)
                  refine z_iald dX3_isNumber_102 (mdl_4 hA) (zn_to (rfl) rfl) (by omega) (by omega) ?_
                  refine z_iadd dX3_isNumber_103 ?_
                  refine z_bipush dX3_isNumber_104 (v := 48) rfl ?_
                  refine z_isub dX3_isNumber_106 ?_
                  refine z_iload_n dX3_isNumber_107 rfl ?_
                  refine z_iload_n dX3_isNumber_108 rfl ?_
                  refine z_cS mX3_in (k_in (d := d - 1) (by omega)) dX3_isNumber_109 q1793 (by omega) rfl (Nat.le_of_ble_eq_true rfl) rfl ?_
                  refine z_ifB_eq (tgt := 143) dX3_isNumber_112 (by decide) (fun c_10 => ?_) (fun c_10 => ?_)
                  ·
                    exact z_jH (by first | rfl | (simp only [if_neg c_7, if_pos c_8, if_neg c_10] <;> rfl)) (by simp only [if_neg c_7, if_pos c_8, if_neg c_10]) hJ
                  ·
                    refine z_bipush dX3_isNumber_115 (v := 10) rfl ?_
                    refine z_iload_n dX3_isNumber_117 rfl ?_
                    refine z_imul dX3_isNumber_118 ?_
                    refine z_aload_n dX3_isNumber_119 rfl ?_
                    refine zm_get 5 dX3_isNumber_120 q1747 rfl rfl ?_
                    refine z_aload_n dX3_isNumber_123 rfl ?_
                    refine zm_get 8 (v := .int (nI (a + 1))) dX3_isNumber_124 q1750 rfl rfl ?_
                    have lb_11 := zn_nle c_8.1 (by omega) (by omega)
                    refine z_iald dX3_isNumber_127 (mdl_4 hA) (zn_to (rfl) rfl) (by omega) (by omega) ?_
                    refine z_iadd dX3_isNumber_128 ?_
                    refine z_bipush dX3_isNumber_129 (v := 48) rfl ?_
                    refine z_isub dX3_isNumber_131 ?_
                    refine z_istore_n dX3_isNumber_132 (by decide) ?_
                    refine z_aload_n dX3_isNumber_133 rfl ?_
                    refine z_dup dX3_isNumber_134 rfl ?_
                    refine zm_get 8 (v := .int (nI (a + 1))) dX3_isNumber_135 q1750 rfl rfl ?_
                    refine z_iconst dX3_isNumber_138 (v := 1) rfl ?_
                    refine z_iadd dX3_isNumber_139 ?_
                    refine zm_putR 8 dX3_isNumber_140 q1750 rfl rfl rfl rfl rfl ((congrArg (fun z => upd _ 8 z) (show (nI (a + 1)) + 1 = nI (a + 1 + 1) from zn_add rfl (zk 1))).trans zrd_8) ?_
                    exact z_jH (by first | rfl | (simp only [if_neg c_7, if_pos c_8, if_pos c_10] <;> rfl)) (by simp only [if_neg c_7, if_pos c_8, if_pos c_10]) hJ
            refine z_aload_n dX3_isNumber_143 rfl ?_
            refine z_iload_n dX3_isNumber_144 rfl ?_
            refine zm_putR 11 dX3_isNumber_145 q1753 rfl rfl rfl rfl rfl zrd_11 ?_
            refine z_iload_n dX3_isNumber_148 rfl ?_
            refine z_iload_n dX3_isNumber_149 rfl ?_
            refine z_join 158 (.int (if ¬ ((if ((no a) - 48) ≤ 0 then ((no a) - 48) else (if zf_isDigit no ln (a + 1) then (if zf_in (((10 * ((no a) - 48)) + (no (a + 1))) - 48) l m then (((10 * ((no a) - 48)) + (no (a + 1))) - 48) else ((no a) - 48)) else ((no a) - 48))) < l) then (1 : Int32) else 0)) 2 ?_ (fun hJ => ?_)
            rotate_left
            ·
              refine z_icmp_lt (tgt := 157) dX3_isNumber_150 (by decide) (fun c_12 => ?_) (fun c_12 => ?_)
              ·
                refine z_iconst dX3_isNumber_157 (v := 0) rfl ?_
                exact z_jv (if_neg (fun z => z c_12)) hJ
              ·
                refine z_iconst dX3_isNumber_153 (v := 1) rfl ?_
                refine z_goto (tgt := 158) dX3_isNumber_154 (by decide) ?_
                exact z_jv (if_pos c_12) hJ
            refine z_ret dX3_isNumber_158 rfl z_bool ⟨by simp only [zf_isNumber, if_pos c_1, if_neg c_3, if_pos c_4, if_neg c_5, if_pos c_6], by simp only [zf_isNumber, if_pos c_1, if_neg c_3, if_pos c_4, if_neg c_5, if_pos c_6]⟩
          · exact absurd c_4 c_6
      ·
        refine z_bipush dX3_isNumber_38 (v := 10) rfl ?_
        refine z_iload_n dX3_isNumber_40 rfl ?_
        refine z_imul dX3_isNumber_41 ?_
        refine z_bipush dX3_isNumber_42 (v := 9) rfl ?_
        refine z_iadd dX3_isNumber_44 ?_
        refine z_iload_n dX3_isNumber_45 rfl ?_
        refine z_icmp_lt (tgt := 67) dX3_isNumber_46 (by decide) (fun c_13 => ?_) (fun c_13 => ?_)
        ·
          refine z_iconst dX3_isNumber_67 (v := 0) rfl ?_
          refine z_ret dX3_isNumber_68 rfl rfl ⟨by simp only [zf_isNumber, if_pos c_1, if_neg c_3, if_neg c_4, if_pos c_13], by simp only [zf_isNumber, if_pos c_1, if_neg c_3, if_neg c_4, if_pos c_13]⟩
        ·
          refine z_iload_n dX3_isNumber_49 rfl ?_
          refine z_iload_n dX3_isNumber_50 rfl ?_
          refine z_icmp_gt (tgt := 67) dX3_isNumber_51 (by decide) (fun c_14 => ?_) (fun c_14 => ?_)
          ·
            refine z_iconst dX3_isNumber_67 (v := 0) rfl ?_
            refine z_ret dX3_isNumber_68 rfl rfl ⟨by simp only [zf_isNumber, if_pos c_1, if_neg c_3, if_neg c_4, if_neg c_13, if_pos c_14], by simp only [zf_isNumber, if_pos c_1, if_neg c_3, if_neg c_4, if_neg c_13, if_pos c_14]⟩
          ·
            refine z_iload_n dX3_isNumber_54 rfl ?_
            refine z_iload_n dX3_isNumber_55 rfl ?_
            refine z_icmp_ge (tgt := 69) dX3_isNumber_56 (by decide) (fun c_15 => ?_) (fun c_15 => ?_)
            · exact absurd c_15 c_4
            ·
              refine z_bipush dX3_isNumber_59 (v := 10) rfl ?_
              refine z_iload_n dX3_isNumber_61 rfl ?_
              refine z_imul dX3_isNumber_62 ?_
              refine z_iload_n dX3_isNumber_63 rfl ?_
              refine z_icmp_le (tgt := 69) dX3_isNumber_64 (by decide) (fun c_16 => ?_) (fun c_16 => ?_)
              ·
                refine z_aload_n dX3_isNumber_69 rfl ?_
                refine z_dup dX3_isNumber_70 rfl ?_
                refine zm_get 8 (v := .int (nI a)) dX3_isNumber_71 q1750 rfl rfl ?_
                refine z_iconst dX3_isNumber_74 (v := 1) rfl ?_
                refine z_iadd dX3_isNumber_75 ?_
                refine zm_putR 8 dX3_isNumber_76 q1750 rfl rfl rfl rfl rfl ((congrArg (fun z => upd _ 8 z) (show (nI a) + 1 = nI (a + 1) from zn_add rfl (zk 1))).trans zrd_8) ?_
                refine z_iload_n dX3_isNumber_79 rfl ?_
                refine z_joinH 143 [some (.ref (A 0)), some (.int l), some (.int m), some (.int (if ((no a) - 48) ≤ 0 then ((no a) - 48) else (if zf_isDigit no ln (a + 1) then (if zf_in (((10 * ((no a) - 48)) + (no (a + 1))) - 48) l m then (((10 * ((no a) - 48)) + (no (a + 1))) - 48) else ((no a) - 48)) else ((no a) - 48))))] (mdl G A s pa ke no (zrd f (if ((no a) - 48) ≤ 0 then (a + 1) else (if zf_isDigit no ln (a + 1) then (if zf_in (((10 * ((no a) - 48)) + (no (a + 1))) - 48) l m then (a + 1 + 1) else (a + 1)) else (a + 1))) o x y) h0) 1 ?_ (fun hJ => ?_)
                rotate_left
                ·
                  refine z_if_le (tgt := 143) dX3_isNumber_80 (by decide) (fun c_17 => ?_) (fun c_17 => ?_)
                  ·
                    exact z_jH (by first | rfl | (simp only [if_pos c_17] <;> rfl)) (by simp only [if_pos c_17]) hJ
                  ·
                    refine z_aload_n dX3_isNumber_83 rfl ?_
                    refine z_cV zc7 mX3_isDigit (k_isDigit (d := d - 1) hA h6 hl (a := a + 1) (by omega) (by omega)) dX3_isNumber_84 q1993 (by omega) rfl (Nat.le_of_ble_eq_true rfl) rfl mdl_0 rfl ?_
                    refine z_ifB_eq (tgt := 143) dX3_isNumber_87 (by decide) (fun c_18 => ?_) (fun c_18 => ?_)
                    ·
                      exact z_jH (by first | rfl | (simp only [if_neg c_17, if_neg c_18] <;> rfl)) (by simp only [if_neg c_17, if_neg c_18]) hJ
                    ·
                      refine z_bipush dX3_isNumber_90 (v := 10) rfl ?_
                      refine z_iload_n dX3_isNumber_92 rfl ?_
                      refine z_imul dX3_isNumber_93 ?_
                      refine z_aload_n dX3_isNumber_94 rfl ?_
                      refine zm_get 5 dX3_isNumber_95 q1747 rfl rfl ?_
                      refine z_aload_n dX3_isNumber_98 rfl ?_
                      refine zm_get 8 (v := .int (nI (a + 1))) dX3_isNumber_99 q1750 rfl rfl ?_
                      have lb_19 := zn_nle c_18.1 (by omega) (by omega)
                      refine z_iald dX3_isNumber_102 (mdl_4 hA) (zn_to (rfl) rfl) (by omega) (by omega) ?_
                      refine z_iadd dX3_isNumber_103 ?_
                      refine z_bipush dX3_isNumber_104 (v := 48) rfl ?_
                      refine z_isub dX3_isNumber_106 ?_
                      refine z_iload_n dX3_isNumber_107 rfl ?_
                      refine z_iload_n dX3_isNumber_108 rfl ?_
                      refine z_cS mX3_in (k_in (d := d - 1) (by omega)) dX3_isNumber_109 q1793 (by omega) rfl (Nat.le_of_ble_eq_true rfl) rfl ?_
                      refine z_ifB_eq (tgt := 143) dX3_isNumber_112 (by decide) (fun c_20 => ?_) (fun c_20 => ?_)
                      ·
                        exact z_jH (by first | rfl | (simp only [if_neg c_17, if_pos c_18, if_neg c_20] <;> rfl)) (by simp only [if_neg c_17, if_pos c_18, if_neg c_20]) hJ
                      ·
                        refine z_bipush dX3_isNumber_115 (v := 10) rfl ?_
                        refine z_iload_n dX3_isNumber_117 rfl ?_
                        refine z_imul dX3_isNumber_118 ?_
                        refine z_aload_n dX3_isNumber_119 rfl ?_
                        refine zm_get 5 dX3_isNumber_120 q1747 rfl rfl ?_
                        refine z_aload_n dX3_isNumber_123 rfl ?_
                        refine zm_get 8 (v := .int (nI (a + 1))) dX3_isNumber_124 q1750 rfl rfl ?_
                        have lb_21 := zn_nle c_18.1 (by omega) (by omega)
                        refine z_iald dX3_isNumber_127 (mdl_4 hA) (zn_to (rfl) rfl) (by omega) (by omega) ?_
                        refine z_iadd dX3_isNumber_128 ?_
                        refine z_bipush dX3_isNumber_129 (v := 48) rfl ?_
                        refine z_isub dX3_isNumber_131 ?_
                        refine z_istore_n dX3_isNumber_132 (by decide) ?_
                        refine z_aload_n dX3_isNumber_133 rfl ?_
                        refine z_dup dX3_isNumber_134 rfl ?_
                        refine zm_get 8 (v := .int (nI (a + 1))) dX3_isNumber_135 q1750 rfl rfl ?_
                        refine z_iconst dX3_isNumber_138 (v := 1) rfl ?_
                        refine z_iadd dX3_isNumber_139 ?_
                        refine zm_putR 8 dX3_isNumber_140 q1750 rfl rfl rfl rfl rfl ((congrArg (fun z => upd _ 8 z) (show (nI (a + 1)) + 1 = nI (a + 1 + 1) from zn_add rfl (zk 1))).trans zrd_8) ?_
                        exact z_jH (by first | rfl | (simp only [if_neg c_17, if_pos c_18, if_pos c_20] <;> rfl)) (by simp only [if_neg c_17, if_pos c_18, if_pos c_20]) hJ
                refine z_aload_n dX3_isNumber_143 rfl ?_
                refine z_iload_n dX3_isNumber_144 rfl ?_
                refine zm_putR 11 dX3_isNumber_145 q1753 rfl rfl rfl rfl rfl zrd_11 ?_
                refine z_iload_n dX3_isNumber_148 rfl ?_
                refine z_iload_n dX3_isNumber_149 rfl ?_
                refine z_join 158 (.int (if ¬ ((if ((no a) - 48) ≤ 0 then ((no a) - 48) else (if zf_isDigit no ln (a + 1) then (if zf_in (((10 * ((no a) - 48)) + (no (a + 1))) - 48) l m then (((10 * ((no a) - 48)) + (no (a + 1))) - 48) else ((no a) - 48)) else ((no a) - 48))) < l) then (1 : Int32) else 0)) 2 ?_ (fun hJ => ?_)
                rotate_left
                ·
                  refine z_icmp_lt (tgt := 157) dX3_isNumber_150 (by decide) (fun c_22 => ?_) (fun c_22 => ?_)
                  ·
                    refine z_iconst dX3_isNumber_157 (v := 0) rfl ?_
                    exact z_jv (if_neg (fun z => z c_22)) hJ
                  ·
                    refine z_iconst dX3_isNumber_153 (v := 1) rfl ?_
                    refine z_goto (tgt := 158) dX3_isNumber_154 (by decide) ?_
                    exact z_jv (if_pos c_22) hJ
                refine z_ret dX3_isNumber_158 rfl z_bool ⟨by simp only [zf_isNumber, if_pos c_1, if_neg c_3, if_neg c_4, if_neg c_13, if_neg c_14, if_neg c_15, if_pos c_16], by simp only [zf_isNumber, if_pos c_1, if_neg c_3, if_neg c_4, if_neg c_13, if_neg c_14, if_neg c_15, if_pos c_16]⟩
              ·
                refine z_iconst dX3_isNumber_67 (v := 0) rfl ?_
                refine z_ret dX3_isNumber_68 rfl rfl ⟨by simp only [zf_isNumber, if_pos c_1, if_neg c_3, if_neg c_4, if_neg c_13, if_neg c_14, if_neg c_15, if_neg c_16], by simp only [zf_isNumber, if_pos c_1, if_neg c_3, if_neg c_4, if_neg c_13, if_neg c_14, if_neg c_15, if_neg c_16]⟩
    ·
      refine z_iload_n dX3_isNumber_26 rfl ?_
      refine z_if_le (tgt := 69) dX3_isNumber_27 (by decide) (fun c_23 => ?_) (fun c_23 => ?_)
      ·
        refine z_aload_n dX3_isNumber_69 rfl ?_
        refine z_dup dX3_isNumber_70 rfl ?_
        refine zm_get 8 (v := .int (nI a)) dX3_isNumber_71 q1750 rfl rfl ?_
        refine z_iconst dX3_isNumber_74 (v := 1) rfl ?_
        refine z_iadd dX3_isNumber_75 ?_
        refine zm_putR 8 dX3_isNumber_76 q1750 rfl rfl rfl rfl rfl ((congrArg (fun z => upd _ 8 z) (show (nI a) + 1 = nI (a + 1) from zn_add rfl (zk 1))).trans zrd_8) ?_
        refine z_iload_n dX3_isNumber_79 rfl ?_
        refine z_joinH 143 [some (.ref (A 0)), some (.int l), some (.int m), some (.int (if ((no a) - 48) ≤ 0 then ((no a) - 48) else (if zf_isDigit no ln (a + 1) then (if zf_in (((10 * ((no a) - 48)) + (no (a + 1))) - 48) l m then (((10 * ((no a) - 48)) + (no (a + 1))) - 48) else ((no a) - 48)) else ((no a) - 48))))] (mdl G A s pa ke no (zrd f (if ((no a) - 48) ≤ 0 then (a + 1) else (if zf_isDigit no ln (a + 1) then (if zf_in (((10 * ((no a) - 48)) + (no (a + 1))) - 48) l m then (a + 1 + 1) else (a + 1)) else (a + 1))) o x y) h0) 1 ?_ (fun hJ => ?_)
        rotate_left
        ·
          refine z_if_le (tgt := 143) dX3_isNumber_80 (by decide) (fun c_24 => ?_) (fun c_24 => ?_)
          ·
            exact z_jH (by first | rfl | (simp only [if_pos c_24] <;> rfl)) (by simp only [if_pos c_24]) hJ
          ·
            refine z_aload_n dX3_isNumber_83 rfl ?_
            refine z_cV zc7 mX3_isDigit (k_isDigit (d := d - 1) hA h6 hl (a := a + 1) (by omega) (by omega)) dX3_isNumber_84 q1993 (by omega) rfl (Nat.le_of_ble_eq_true rfl) rfl mdl_0 rfl ?_
            refine z_ifB_eq (tgt := 143) dX3_isNumber_87 (by decide) (fun c_25 => ?_) (fun c_25 => ?_)
            ·
              exact z_jH (by first | rfl | (simp only [if_neg c_24, if_neg c_25] <;> rfl)) (by simp only [if_neg c_24, if_neg c_25]) hJ
            ·
              refine z_bipush dX3_isNumber_90 (v := 10) rfl ?_
              refine z_iload_n dX3_isNumber_92 rfl ?_
              refine z_imul dX3_isNumber_93 ?_
              refine z_aload_n dX3_isNumber_94 rfl ?_
              refine zm_get 5 dX3_isNumber_95 q1747 rfl rfl ?_
              refine z_aload_n dX3_isNumber_98 rfl ?_
              refine zm_get 8 (v := .int (nI (a + 1))) dX3_isNumber_99 q1750 rfl rfl ?_
              have lb_26 := zn_nle c_25.1 (by omega) (by omega)
              refine z_iald dX3_isNumber_102 (mdl_4 hA) (zn_to (rfl) rfl) (by omega) (by omega) ?_
              refine z_iadd dX3_isNumber_103 ?_
              refine z_bipush dX3_isNumber_104 (v := 48) rfl ?_
              refine z_isub dX3_isNumber_106 ?_
              refine z_iload_n dX3_isNumber_107 rfl ?_
              refine z_iload_n dX3_isNumber_108 rfl ?_
              refine z_cS mX3_in (k_in (d := d - 1) (by omega)) dX3_isNumber_109 q1793 (by omega) rfl (Nat.le_of_ble_eq_true rfl) rfl ?_
              refine z_ifB_eq (tgt := 143) dX3_isNumber_112 (by decide) (fun c_27 => ?_) (fun c_27 => ?_)
              ·
                exact z_jH (by first | rfl | (simp only [if_neg c_24, if_pos c_25, if_neg c_27] <;> rfl)) (by simp only [if_neg c_24, if_pos c_25, if_neg c_27]) hJ
              ·
                refine z_bipush dX3_isNumber_115 (v := 10) rfl ?_
                refine z_iload_n dX3_isNumber_117 rfl ?_
                refine z_imul dX3_isNumber_118 ?_
                refine z_aload_n dX3_isNumber_119 rfl ?_
                refine zm_get 5 dX3_isNumber_120 q1747 rfl rfl ?_
                refine z_aload_n dX3_isNumber_123 rfl ?_
                refine zm_get 8 (v := .int (nI (a + 1))) dX3_isNumber_124 q1750 rfl rfl ?_
                have lb_28 := zn_nle c_25.1 (by omega) (by omega)
                refine z_iald dX3_isNumber_127 (mdl_4 hA) (zn_to (rfl) rfl) (by omega) (by omega) ?_
                refine z_iadd dX3_isNumber_128 ?_
                refine z_bipush dX3_isNumber_129 (v := 48) rfl ?_
                refine z_isub dX3_isNumber_131 ?_
                refine z_istore_n dX3_isNumber_132 (by decide) ?_
                refine z_aload_n dX3_isNumber_133 rfl ?_
                refine z_dup dX3_isNumber_134 rfl ?_
                refine zm_get 8 (v := .int (nI (a + 1))) dX3_isNumber_135 q1750 rfl rfl ?_
                refine z_iconst dX3_isNumber_138 (v := 1) rfl ?_
                refine z_iadd dX3_isNumber_139 ?_
                refine zm_putR 8 dX3_isNumber_140 q1750 rfl rfl rfl rfl rfl ((congrArg (fun z => upd _ 8 z) (show (nI (a + 1)) + 1 = nI (a + 1 + 1) from zn_add rfl (zk 1))).trans zrd_8) ?_
                exact z_jH (by first | rfl | (simp only [if_neg c_24, if_pos c_25, if_pos c_27] <;> rfl)) (by simp only [if_neg c_24, if_pos c_25, if_pos c_27]) hJ
        refine z_aload_n dX3_isNumber_143 rfl ?_
        refine z_iload_n dX3_isNumber_144 rfl ?_
        refine zm_putR 11 dX3_isNumber_145 q1753 rfl rfl rfl rfl rfl zrd_11 ?_
        refine z_iload_n dX3_isNumber_148 rfl ?_
        refine z_iload_n dX3_isNumber_149 rfl ?_
        refine z_join 158 (.int (if ¬ ((if ((no a) - 48) ≤ 0 then ((no a) - 48) else (if zf_isDigit no ln (a + 1) then (if zf_in (((10 * ((no a) - 48)) + (no (a + 1))) - 48) l m then (((10 * ((no a) - 48)) + (no (a + 1))) - 48) else ((no a) - 48)) else ((no a) - 48))) < l) then (1 : Int32) else 0)) 2 ?_ (fun hJ => ?_)
        rotate_left
        ·
          refine z_icmp_lt (tgt := 157) dX3_isNumber_150 (by decide) (fun c_29 => ?_) (fun c_29 => ?_)
          ·
            refine z_iconst dX3_isNumber_157 (v := 0) rfl ?_
            exact z_jv (if_neg (fun z => z c_29)) hJ
          ·
            refine z_iconst dX3_isNumber_153 (v := 1) rfl ?_
            refine z_goto (tgt := 158) dX3_isNumber_154 (by decide) ?_
            exact z_jv (if_pos c_29) hJ
        refine z_ret dX3_isNumber_158 rfl z_bool ⟨by simp only [zf_isNumber, if_pos c_1, if_pos c_3, if_pos c_23], by simp only [zf_isNumber, if_pos c_1, if_pos c_3, if_pos c_23]⟩
      ·
        refine z_goto (tgt := 67) dX3_isNumber_30 (by decide) ?_
        refine z_iconst dX3_isNumber_67 (v := 0) rfl ?_
        refine z_ret dX3_isNumber_68 rfl rfl ⟨by simp only [zf_isNumber, if_pos c_1, if_pos c_3, if_neg c_23], by simp only [zf_isNumber, if_pos c_1, if_pos c_3, if_neg c_23]⟩
  ·
    refine z_iconst dX3_isNumber_7 (v := 0) rfl ?_
    refine z_ret dX3_isNumber_8 rfl rfl ⟨by simp only [zf_isNumber, if_neg c_1], by simp only [zf_isNumber, if_neg c_1]⟩
