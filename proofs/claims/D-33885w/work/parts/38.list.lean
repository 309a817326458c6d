/-! THE LISTS: size, get -/
set_option maxRecDepth 100000
section
variable {G : zE} {h : zH} {d : Nat}
theorem k_check14 {i n : Int32} {v : Value} (hv : v.category = 1) (h0 : ¬ i < 0) (h1 : i < n) (hd : 1 ≤ d) : zCon G fJ14_checkIndex d 0 0 [.int i, .int n, v] h (zA (.int i) h) nX := by
  refine zCon.of9 (L := [some (.int i), some (.int n), some v]) (by simp [hv]; exact ⟨rfl, rfl⟩) (Nat.le_of_ble_eq_true rfl) pJ14 rfl rfl ?_
  refine z_iload_n dJ14_checkIndex_0 rfl ?_
  refine z_if_lt (tgt := 9) dJ14_checkIndex_1 (by decide) (fun c => absurd c h0) (fun _ => ?_)
  refine z_iload_n dJ14_checkIndex_4 rfl ?_
  refine z_iload_n dJ14_checkIndex_5 rfl ?_
  refine z_icmp_lt (tgt := 16) dJ14_checkIndex_6 (by decide) (fun _ => ?_) (fun c => absurd h1 c)
  refine z_iload_n dJ14_checkIndex_16 rfl ?_
  exact z_ret dJ14_checkIndex_17 rfl rfl ⟨rfl, rfl⟩
theorem k_check13 {i n : Int32} (h0 : ¬ i < 0) (h1 : i < n) (hd : 2 ≤ d) : zCon G fJ13_checkIndex d 0 0 [.int i, .int n] h (zA (.int i) h) nX := by
  refine zCon.of9 (L := [some (.int i), some (.int n)]) (by simp [Value.category]) (Nat.le_of_ble_eq_true rfl) pJ13 rfl rfl ?_
  refine z_iload_n dJ13_checkIndex_0 rfl ?_
  refine z_iload_n dJ13_checkIndex_1 rfl ?_
  refine z_null dJ13_checkIndex_2 ?_
  refine z_cS mJ14_checkIndex (k_check14 (d := d - 1) rfl h0 h1 (by omega)) dJ13_checkIndex_3 q847 (by omega) rfl (Nat.le_of_ble_eq_true rfl) rfl ?_
  exact z_ret dJ13_checkIndex_6 rfl rfl ⟨rfl, rfl⟩
theorem k_size {a : Nat} {m r : Value} {x : Int32} (ha : h a = some (zO 8 [m, r, .int x])) (hd : 1 ≤ d) : zCon G fJ2_size d 0 0 [.ref a] h (zA (.int x) h) nX := by
  refine zCon.of9 (L := [some (.ref a)]) (by simp [Value.category]) (Nat.le_of_ble_eq_true rfl) pJ2 rfl rfl ?_
  refine z_aload_n dJ2_size_0 rfl ?_
  refine z_getf zc8 2 dJ2_size_1 q164 (by decide) ha rfl ?_
  exact z_ret dJ2_size_4 rfl rfl ⟨rfl, rfl⟩
theorem k_elementData {a r : Nat} {m : Value} {n i : Int32} {C j x : Nat} {f : Nat → Option Nat} (ha : h a = some (zO 8 [m, .ref r, .int n])) (hr : h r = some (zR G C f)) (hi : i = nI j) (hj : j < C) (hC : C < 2 ^ 31) (hf : f j = some x) (hd : 1 ≤ d) : zCon G fJ2_elementData d 0 0 [.ref a, .int i] h (zA (.ref x) h) nX := by
  refine zCon.of9 (L := [some (.ref a), some (.int i)]) (by simp [Value.category]) (Nat.le_of_ble_eq_true rfl) pJ2 rfl rfl ?_
  refine z_aload_n dJ2_elementData_0 rfl ?_
  refine z_getf zc8 1 dJ2_elementData_1 q163 (by decide) ha rfl ?_
  refine z_iload_n dJ2_elementData_4 rfl ?_
  refine z_aldq dJ2_elementData_5 hr hi hj hC ?_
  rw [hf]
  exact z_aret dJ2_elementData_6 rfl (Or.inl ⟨_, rfl⟩) (Or.inr ⟨_, rfl⟩) ⟨rfl, rfl⟩
theorem k_get {a r : Nat} {m : Value} {i : Int32} {N C j x : Nat} {f : Nat → Option Nat} (ha : h a = some (zO 8 [m, .ref r, .int (nI N)])) (hr : h r = some (zR G C f)) (hi : i = nI j) (hj : j < N) (hN : N ≤ C) (hC : C < 2 ^ 31) (hf : f j = some x) (hd : 3 ≤ d) : zCon G fJ2_get d 0 0 [.ref a, .int i] h (zA (.ref x) h) nX := by
  subst hi
  refine zCon.of9 (L := [some (.ref a), some (.int (nI j))]) (by simp [Value.category]) (Nat.le_of_ble_eq_true rfl) pJ2 rfl rfl ?_
  refine z_iload_n dJ2_get_0 rfl ?_
  refine z_aload_n dJ2_get_1 rfl ?_
  refine z_getf zc8 2 dJ2_get_2 q164 (by decide) ha rfl ?_
  refine z_cS mJ13_checkIndex (k_check13 (d := d - 1) (show ¬ nI j < nI 0 from nI_nlt (by omega) (by omega)) (nI_lt hj (by omega)) (by omega)) dJ2_get_5 q844 (by omega) rfl (Nat.le_of_ble_eq_true rfl) rfl ?_
  refine z_pop dJ2_get_8 rfl ?_
  refine z_aload_n dJ2_get_9 rfl ?_
  refine z_iload_n dJ2_get_10 rfl ?_
  refine z_cV zc8 mJ2_elementData (k_elementData (d := d - 1) ha hr rfl (by omega) hC hf (by omega)) dJ2_get_11 q848 (by omega) rfl (Nat.le_of_ble_eq_true rfl) rfl ha rfl ?_
  exact z_aret dJ2_get_14 rfl (Or.inl ⟨_, rfl⟩) (Or.inr ⟨_, rfl⟩) ⟨rfl, rfl⟩
end
section
variable {G : zE} {A B I : Nat → Nat} {e nt : Nat} {sn rc : Value} {t w o : Nat → Int32} {σ : Nat → Int32} {lo : Int32} {NL NS NC : Nat} {h0 : zH} {d k : Nat}
theorem cap_le {n : Nat} (h : n ≤ 33) : n ≤ cap n ∧ cap n ≤ 33 := by
  unfold cap
  by_cases h1 : n ≤ 10
  · rw [if_pos h1]; omega
  rw [if_neg h1]
  by_cases h2 : n ≤ 15
  · rw [if_pos h2]; omega
  rw [if_neg h2]
  by_cases h3 : n ≤ 22
  · rw [if_pos h3]; omega
  rw [if_neg h3]; omega
theorem clst_p {n m : Nat} (h : 0 < n) : clst B e n m = [.int (nI n), .ref (B m), .int (nI n)] := by
  unfold clst
  rw [if_neg (by omega)]
theorem k_sizeL (h : zcb A B I NL NS NC) (hd : 1 ≤ d) : zCon G fJ2_size d 0 0 [.ref (B 1)] (cpt G A B I e nt sn rc t w o σ lo NL NS NC h0) (zA (.int (nI NL)) (cpt G A B I e nt sn rc t w o σ lo NL NS NC h0)) nX := k_size (cpt_ll h) hd
theorem k_sizeS (h : zcb A B I NL NS NC) (hd : 1 ≤ d) : zCon G fJ2_size d 0 0 [.ref (B 2)] (cpt G A B I e nt sn rc t w o σ lo NL NS NC h0) (zA (.int (nI NS)) (cpt G A B I e nt sn rc t w o σ lo NL NS NC h0)) nX := k_size (cpt_ls h) hd
theorem k_sizeC (h : zcb A B I NL NS NC) (hd : 1 ≤ d) : zCon G fJ2_size d 0 0 [.ref (B 3)] (cpt G A B I e nt sn rc t w o σ lo NL NS NC h0) (zA (.int (nI NC)) (cpt G A B I e nt sn rc t w o σ lo NL NS NC h0)) nX := k_size (cpt_lc h) hd
theorem k_getL (h : zcb A B I NL NS NC) {i : Int32} (hi : i = nI k) (hk : k < NL) (hd : 3 ≤ d) : zCon G fJ2_get d 0 0 [.ref (B 1), .int i] (cpt G A B I e nt sn rc t w o σ lo NL NS NC h0) (zA (.ref (B (10 + k))) (cpt G A B I e nt sn rc t w o σ lo NL NS NC h0)) nX := by
  have hb := h.b
  have hc := cap_le (n := NL) (by omega)
  exact k_get ((cpt_ll h).trans (by rw [clst_p (by omega)])) (cpt_al h (by omega)) hi hk hc.1 (by omega) (if_pos hk) hd
theorem k_getS (h : zcb A B I NL NS NC) {i : Int32} (hi : i = nI k) (hk : k < NS) (hd : 3 ≤ d) : zCon G fJ2_get d 0 0 [.ref (B 2), .int i] (cpt G A B I e nt sn rc t w o σ lo NL NS NC h0) (zA (.ref (B (30 + k))) (cpt G A B I e nt sn rc t w o σ lo NL NS NC h0)) nX := by
  have hb := h.b
  have hc := cap_le (n := NS) (by omega)
  exact k_get ((cpt_ls h).trans (by rw [clst_p (by omega)])) (cpt_as h (by omega)) hi hk hc.1 (by omega) (if_pos hk) hd
theorem k_getC (h : zcb A B I NL NS NC) {i : Int32} (hi : i = nI k) (hk : k < NC) (hd : 3 ≤ d) : zCon G fJ2_get d 0 0 [.ref (B 3), .int i] (cpt G A B I e nt sn rc t w o σ lo NL NS NC h0) (zA (.ref (B (56 + k))) (cpt G A B I e nt sn rc t w o σ lo NL NS NC h0)) nX := by
  have hb := h.b
  have hc := cap_le (n := NC) (by omega)
  exact k_get ((cpt_lc h).trans (by rw [clst_p (by omega)])) (cpt_ac h (by omega)) hi hk hc.1 (by omega) (if_pos hk) hd
end
