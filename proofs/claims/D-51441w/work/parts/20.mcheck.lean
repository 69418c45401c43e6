/-! the reference: checks -/
set_option maxRecDepth 100000
theorem kx_bn_t {b : Bool} (h : (!b) = true) : b = false := by cases b; rfl; exact absurd h (by decide)
theorem kx_bn_f {b : Bool} (h : (!b) = false) : b = true := by cases b; exact absurd h (by decide); rfl
def mx_ix (x : Int32) (n : Nat) : Bool := decide (0 ≤ x.toInt ∧ x.toInt < n)
def mx_n (x : Int32) : Nat := x.toInt.toNat
theorem mx_ix_t {x : Int32} {n : Nat} (h : mx_ix x n = true) : ∃ k, k < n ∧ x = nI k := by
  unfold mx_ix at h
  rw [decide_eq_true_eq] at h
  refine ⟨x.toInt.toNat, by omega, ?_⟩
  apply Int32.toInt_inj.mp
  have := x.toInt_lt
  rw [nI_toInt (by omega)]
  omega
theorem mx_n_nI {k : Nat} (h : k < 2147483648) : mx_n (nI k) = k := by unfold mx_n; rw [nI_toInt h]; rfl
theorem mx_ix_nI {k n : Nat} (h : k < 2147483648) : mx_ix (nI k) n = decide (k < n) := by
  unfold mx_ix; rw [nI_toInt h]; exact decide_eq_decide.mpr (by omega)
theorem mx_ix_0 {x : Int32} {h : Nat} (hh : h < 100000) : decide (nI 0 ≤ x ∧ x ≤ nI h) = mx_ix x (h + 1) := by
  unfold mx_ix
  refine decide_eq_decide.mpr ?_
  rw [Int32.le_iff_toInt_le, Int32.le_iff_toInt_le, nI_toInt (by omega), nI_toInt (by omega)]
  omega
theorem nI_sub1 {n : Nat} (h : n < 100000) : (nI n - nI 1).toInt = (n : Int) - 1 := by
  by_cases q : n = 0
  · subst q; decide
  · have e : nI n - nI 1 = nI (n - 1) := by
      apply Int32.toInt_inj.mp
      rw [Int32.toInt_sub, nI_toInt (by omega), nI_toInt (by omega), nI_toInt (by omega), Int.bmod_eq_of_le] <;> omega
    rw [e, nI_toInt (by omega)]; omega
theorem mx_ix_m {x : Int32} {n : Nat} (h : n < 100000) : decide (nI 0 ≤ x ∧ x ≤ nI n - nI 1) = mx_ix x n := by
  unfold mx_ix
  refine decide_eq_decide.mpr ?_
  rw [Int32.le_iff_toInt_le, Int32.le_iff_toInt_le, nI_toInt (by omega), nI_sub1 h]
  omega
set_option maxHeartbeats 1000000 in
theorem mt_X4_noProverb {l : Launch} {G : kx_G} (htr : l.stackTraces = false) {σ : kx_H} {mo : Nat} {ad : Nat → Nat} {z : Nat → Int32} {u : Nat → Nat} {x : Int32} (h0 : σ (1, 0) = some (mo, .inr (3, mo_L ad z))) (hw : σ (1, 1) = some (ad 0, kx_ai G 1417 (mx_w u))) (hn : u 0 ≤ 24) : kx_SP l G yX4_noProverb (ws_ yX4_noProverb cX4_noProverb 2 (some .boolean)) 2 0 0 [.ref mo, .int x] σ (fun v τ => v = some (.int (kx_b (!mx_ix x (u 0)))) ∧ τ = (bif mx_ix x (u 0) then σ else kx_up σ (1, 0) (mo, .inr (3, mo_L ad (mo_z z 9 (nI 1)))))) kx_nx := by
  refine kx_body htr (by decide +kernel) (own := "RoseProverbsModel") (nm := "noProverb") rfl rfl (Nat.le_of_ble_eq_true rfl) ?_
  intro p e s m args below meth c Q C hQ
  first | refine ri_aload_n C dX4_noProverb_0 rfl ?_ | refine ri_aload_nQ C dX4_noProverb_0 rfl ?_ | refine ri_aload_nN C dX4_noProverb_0 rfl ?_
  refine ri_iload_n C dX4_noProverb_1 rfl ?_
  refine ri_iconst C dX4_noProverb_2 kc_i0 ?_
  first | refine ri_aload_n C dX4_noProverb_3 rfl ?_ | refine ri_aload_nQ C dX4_noProverb_3 rfl ?_ | refine ri_aload_nN C dX4_noProverb_3 rfl ?_
  refine ri_getf C dX4_noProverb_4 fr_q2970_3 (by first | assumption | (repeat (first | assumption | exact kx_rs (by assumption) | exact kx_ne2 (by omega) | exact kx_ne1 (by omega) | refine kx_ro (by assumption) ?_ ?_ | exact kx_rs rfl | refine kx_ro rfl ?_ ?_))) (by rfl) ?_
  refine ri_iconst C dX4_noProverb_7 kc_i0 ?_
  first | refine ri_ialoadN C dX4_noProverb_8 (by first | assumption | (repeat (first | assumption | exact kx_rs (by assumption) | exact kx_ne2 (by omega) | exact kx_ne1 (by omega) | refine kx_ro (by assumption) ?_ ?_ | exact kx_rs rfl | refine kx_ro rfl ?_ ?_))) rfl (by omega) ?_ | refine ri_iaload C dX4_noProverb_8 (by first | assumption | (repeat (first | assumption | exact kx_rs (by assumption) | exact kx_ne2 (by omega) | exact kx_ne1 (by omega) | refine kx_ro (by assumption) ?_ ?_ | exact kx_rs rfl | refine kx_ro rfl ?_ ?_))) rfl (by omega) ?_
  refine ri_iconst C dX4_noProverb_9 kc_i1 ?_
  refine ri_isub C dX4_noProverb_10 ?_
  cases c1 : mx_ix x (u 0)
  · refine ri_callS C km_X4_inRange q3071 dX4_noProverb_11 (mt_X4_inRange htr) rfl rfl ⟨⟨(Nat.le_of_ble_eq_true rfl), (Nat.le_of_ble_eq_true rfl)⟩, (Nat.le_of_ble_eq_true rfl), (Nat.le_of_ble_eq_true rfl), (Nat.le_of_ble_eq_true rfl)⟩ (fun v11 s11 h11 => ?_) (fun _ _ _ h => h.elim)
    obtain ⟨rfl, rfl⟩ := h11
    rw [mx_ix_m (by omega), c1]
    first | refine ri_if_neB C 21 dX4_noProverb_14 rfl (fun h14 => ?_) (fun h14 => ?_) | refine ri_if_neN C 21 dX4_noProverb_14 rfl (by omega) (fun h14 => ?_) (fun h14 => ?_) | refine ri_if_ne C 21 dX4_noProverb_14 rfl (fun h14 => ?_) (fun h14 => ?_)
    · exact absurd h14 (by decide) --dead
    · refine ri_iconst C dX4_noProverb_17 kc_i1 ?_
      refine ri_goto C 22 dX4_noProverb_18 rfl ?_
      refine ri_iconst C dX4_noProverb_22 kc_i1 ?_
      refine ri_callV C km_X4_fails q3303 qs106 dX4_noProverb_23 (mt_X4_fails htr (b := true) (by first | assumption | (repeat (first | assumption | exact kx_rs (by assumption) | exact kx_ne2 (by omega) | exact kx_ne1 (by omega) | refine kx_ro (by assumption) ?_ ?_ | exact kx_rs rfl | refine kx_ro rfl ?_ ?_)))) rfl rfl (kx_rcN C (by first | assumption | (repeat (first | assumption | exact kx_rs (by assumption) | exact kx_ne2 (by omega) | exact kx_ne1 (by omega) | refine kx_ro (by assumption) ?_ ?_ | exact kx_rs rfl | refine kx_ro rfl ?_ ?_))) rfl) ⟨⟨(Nat.le_of_ble_eq_true rfl), (Nat.le_of_ble_eq_true rfl)⟩, (Nat.le_of_ble_eq_true rfl), (Nat.le_of_ble_eq_true rfl), (Nat.le_of_ble_eq_true rfl)⟩ (fun v23 s23 h23 => ?_) (fun _ _ _ h => h.elim)
      obtain ⟨rfl, e23⟩ := h23
      rw [cond_true] at e23
      exact ri_iret C hQ dX4_noProverb_26 (kx_b_nar _) (Nat.le_of_ble_eq_true rfl) (Nat.le_of_ble_eq_true rfl) ⟨by simp only [c1] <;> rfl, by simp only [c1, cond_true, cond_false] <;> first | rfl | assumption⟩
  · refine ri_callS C km_X4_inRange q3071 dX4_noProverb_11 (mt_X4_inRange htr) rfl rfl ⟨⟨(Nat.le_of_ble_eq_true rfl), (Nat.le_of_ble_eq_true rfl)⟩, (Nat.le_of_ble_eq_true rfl), (Nat.le_of_ble_eq_true rfl), (Nat.le_of_ble_eq_true rfl)⟩ (fun v11 s11 h11 => ?_) (fun _ _ _ h => h.elim)
    obtain ⟨rfl, rfl⟩ := h11
    rw [mx_ix_m (by omega), c1]
    first | refine ri_if_neB C 21 dX4_noProverb_14 rfl (fun h14 => ?_) (fun h14 => ?_) | refine ri_if_neN C 21 dX4_noProverb_14 rfl (by omega) (fun h14 => ?_) (fun h14 => ?_) | refine ri_if_ne C 21 dX4_noProverb_14 rfl (fun h14 => ?_) (fun h14 => ?_)
    · refine ri_iconst C dX4_noProverb_21 kc_i0 ?_
      refine ri_iconst C dX4_noProverb_22 kc_i1 ?_
      refine ri_callV C km_X4_fails q3303 qs106 dX4_noProverb_23 (mt_X4_fails htr (b := false) (by first | assumption | (repeat (first | assumption | exact kx_rs (by assumption) | exact kx_ne2 (by omega) | exact kx_ne1 (by omega) | refine kx_ro (by assumption) ?_ ?_ | exact kx_rs rfl | refine kx_ro rfl ?_ ?_)))) rfl rfl (kx_rcN C (by first | assumption | (repeat (first | assumption | exact kx_rs (by assumption) | exact kx_ne2 (by omega) | exact kx_ne1 (by omega) | refine kx_ro (by assumption) ?_ ?_ | exact kx_rs rfl | refine kx_ro rfl ?_ ?_))) rfl) ⟨⟨(Nat.le_of_ble_eq_true rfl), (Nat.le_of_ble_eq_true rfl)⟩, (Nat.le_of_ble_eq_true rfl), (Nat.le_of_ble_eq_true rfl), (Nat.le_of_ble_eq_true rfl)⟩ (fun v23 s23 h23 => ?_) (fun _ _ _ h => h.elim)
      obtain ⟨rfl, e23⟩ := h23
      rw [cond_false] at e23
      subst e23
      exact ri_iret C hQ dX4_noProverb_26 (kx_b_nar _) (Nat.le_of_ble_eq_true rfl) (Nat.le_of_ble_eq_true rfl) ⟨by simp only [c1] <;> rfl, by simp only [c1, cond_true, cond_false] <;> first | rfl | assumption⟩
    · exact absurd h14 (by decide) --dead
set_option maxHeartbeats 1000000 in
theorem mt_X4_noPoint {l : Launch} {G : kx_G} (htr : l.stackTraces = false) {σ : kx_H} {mo : Nat} {ad : Nat → Nat} {z : Nat → Int32} {x : Int32} (h0 : σ (1, 0) = some (mo, .inr (3, mo_L ad z))) : kx_SP l G yX4_noPoint (ws_ yX4_noPoint cX4_noPoint 2 (some .boolean)) 2 0 0 [.ref mo, .int x] σ (fun v τ => v = some (.int (kx_b (!mx_ix x 16))) ∧ τ = (bif mx_ix x 16 then σ else kx_up σ (1, 0) (mo, .inr (3, mo_L ad (mo_z z 9 (nI 1)))))) kx_nx := by
  refine kx_body htr (by decide +kernel) (own := "RoseProverbsModel") (nm := "noPoint") rfl rfl (Nat.le_of_ble_eq_true rfl) ?_
  intro p e s m args below meth c Q C hQ
  first | refine ri_aload_n C dX4_noPoint_0 rfl ?_ | refine ri_aload_nQ C dX4_noPoint_0 rfl ?_ | refine ri_aload_nN C dX4_noPoint_0 rfl ?_
  refine ri_iload_n C dX4_noPoint_1 rfl ?_
  refine ri_iconst C dX4_noPoint_2 kc_i0 ?_
  refine ri_bipush C dX4_noPoint_3 kc_b15 ?_
  cases c1 : mx_ix x 16
  · refine ri_callS C km_X4_inRange q3071 dX4_noPoint_5 (mt_X4_inRange htr) rfl rfl ⟨⟨(Nat.le_of_ble_eq_true rfl), (Nat.le_of_ble_eq_true rfl)⟩, (Nat.le_of_ble_eq_true rfl), (Nat.le_of_ble_eq_true rfl), (Nat.le_of_ble_eq_true rfl)⟩ (fun v5 s5 h5 => ?_) (fun _ _ _ h => h.elim)
    obtain ⟨rfl, rfl⟩ := h5
    rw [mx_ix_0 (by decide), c1]
    first | refine ri_if_neB C 15 dX4_noPoint_8 rfl (fun h8 => ?_) (fun h8 => ?_) | refine ri_if_neN C 15 dX4_noPoint_8 rfl (by omega) (fun h8 => ?_) (fun h8 => ?_) | refine ri_if_ne C 15 dX4_noPoint_8 rfl (fun h8 => ?_) (fun h8 => ?_)
    · exact absurd h8 (by decide) --dead
    · refine ri_iconst C dX4_noPoint_11 kc_i1 ?_
      refine ri_goto C 16 dX4_noPoint_12 rfl ?_
      refine ri_iconst C dX4_noPoint_16 kc_i1 ?_
      refine ri_callV C km_X4_fails q3303 qs106 dX4_noPoint_17 (mt_X4_fails htr (b := true) (by first | assumption | (repeat (first | assumption | exact kx_rs (by assumption) | exact kx_ne2 (by omega) | exact kx_ne1 (by omega) | refine kx_ro (by assumption) ?_ ?_ | exact kx_rs rfl | refine kx_ro rfl ?_ ?_)))) rfl rfl (kx_rcN C (by first | assumption | (repeat (first | assumption | exact kx_rs (by assumption) | exact kx_ne2 (by omega) | exact kx_ne1 (by omega) | refine kx_ro (by assumption) ?_ ?_ | exact kx_rs rfl | refine kx_ro rfl ?_ ?_))) rfl) ⟨⟨(Nat.le_of_ble_eq_true rfl), (Nat.le_of_ble_eq_true rfl)⟩, (Nat.le_of_ble_eq_true rfl), (Nat.le_of_ble_eq_true rfl), (Nat.le_of_ble_eq_true rfl)⟩ (fun v17 s17 h17 => ?_) (fun _ _ _ h => h.elim)
      obtain ⟨rfl, e17⟩ := h17
      rw [cond_true] at e17
      exact ri_iret C hQ dX4_noPoint_20 (kx_b_nar _) (Nat.le_of_ble_eq_true rfl) (Nat.le_of_ble_eq_true rfl) ⟨by simp only [c1] <;> rfl, by simp only [c1, cond_true, cond_false] <;> first | rfl | assumption⟩
  · refine ri_callS C km_X4_inRange q3071 dX4_noPoint_5 (mt_X4_inRange htr) rfl rfl ⟨⟨(Nat.le_of_ble_eq_true rfl), (Nat.le_of_ble_eq_true rfl)⟩, (Nat.le_of_ble_eq_true rfl), (Nat.le_of_ble_eq_true rfl), (Nat.le_of_ble_eq_true rfl)⟩ (fun v5 s5 h5 => ?_) (fun _ _ _ h => h.elim)
    obtain ⟨rfl, rfl⟩ := h5
    rw [mx_ix_0 (by decide), c1]
    first | refine ri_if_neB C 15 dX4_noPoint_8 rfl (fun h8 => ?_) (fun h8 => ?_) | refine ri_if_neN C 15 dX4_noPoint_8 rfl (by omega) (fun h8 => ?_) (fun h8 => ?_) | refine ri_if_ne C 15 dX4_noPoint_8 rfl (fun h8 => ?_) (fun h8 => ?_)
    · refine ri_iconst C dX4_noPoint_15 kc_i0 ?_
      refine ri_iconst C dX4_noPoint_16 kc_i1 ?_
      refine ri_callV C km_X4_fails q3303 qs106 dX4_noPoint_17 (mt_X4_fails htr (b := false) (by first | assumption | (repeat (first | assumption | exact kx_rs (by assumption) | exact kx_ne2 (by omega) | exact kx_ne1 (by omega) | refine kx_ro (by assumption) ?_ ?_ | exact kx_rs rfl | refine kx_ro rfl ?_ ?_)))) rfl rfl (kx_rcN C (by first | assumption | (repeat (first | assumption | exact kx_rs (by assumption) | exact kx_ne2 (by omega) | exact kx_ne1 (by omega) | refine kx_ro (by assumption) ?_ ?_ | exact kx_rs rfl | refine kx_ro rfl ?_ ?_))) rfl) ⟨⟨(Nat.le_of_ble_eq_true rfl), (Nat.le_of_ble_eq_true rfl)⟩, (Nat.le_of_ble_eq_true rfl), (Nat.le_of_ble_eq_true rfl), (Nat.le_of_ble_eq_true rfl)⟩ (fun v17 s17 h17 => ?_) (fun _ _ _ h => h.elim)
      obtain ⟨rfl, e17⟩ := h17
      rw [cond_false] at e17
      subst e17
      exact ri_iret C hQ dX4_noPoint_20 (kx_b_nar _) (Nat.le_of_ble_eq_true rfl) (Nat.le_of_ble_eq_true rfl) ⟨by simp only [c1] <;> rfl, by simp only [c1, cond_true, cond_false] <;> first | rfl | assumption⟩
    · exact absurd h8 (by decide) --dead
set_option maxHeartbeats 1000000 in
theorem mt_X4_noWeather {l : Launch} {G : kx_G} (htr : l.stackTraces = false) {σ : kx_H} {mo : Nat} {ad : Nat → Nat} {z : Nat → Int32} {x : Int32} (h0 : σ (1, 0) = some (mo, .inr (3, mo_L ad z))) : kx_SP l G yX4_noWeather (ws_ yX4_noWeather cX4_noWeather 2 (some .boolean)) 2 0 0 [.ref mo, .int x] σ (fun v τ => v = some (.int (kx_b (!mx_ix x 5))) ∧ τ = (bif mx_ix x 5 then σ else kx_up σ (1, 0) (mo, .inr (3, mo_L ad (mo_z z 9 (nI 2)))))) kx_nx := by
  refine kx_body htr (by decide +kernel) (own := "RoseProverbsModel") (nm := "noWeather") rfl rfl (Nat.le_of_ble_eq_true rfl) ?_
  intro p e s m args below meth c Q C hQ
  first | refine ri_aload_n C dX4_noWeather_0 rfl ?_ | refine ri_aload_nQ C dX4_noWeather_0 rfl ?_ | refine ri_aload_nN C dX4_noWeather_0 rfl ?_
  refine ri_iload_n C dX4_noWeather_1 rfl ?_
  refine ri_iconst C dX4_noWeather_2 kc_i0 ?_
  refine ri_iconst C dX4_noWeather_3 kc_i4 ?_
  cases c1 : mx_ix x 5
  · refine ri_callS C km_X4_inRange q3071 dX4_noWeather_4 (mt_X4_inRange htr) rfl rfl ⟨⟨(Nat.le_of_ble_eq_true rfl), (Nat.le_of_ble_eq_true rfl)⟩, (Nat.le_of_ble_eq_true rfl), (Nat.le_of_ble_eq_true rfl), (Nat.le_of_ble_eq_true rfl)⟩ (fun v4 s4 h4 => ?_) (fun _ _ _ h => h.elim)
    obtain ⟨rfl, rfl⟩ := h4
    rw [mx_ix_0 (by decide), c1]
    first | refine ri_if_neB C 14 dX4_noWeather_7 rfl (fun h7 => ?_) (fun h7 => ?_) | refine ri_if_neN C 14 dX4_noWeather_7 rfl (by omega) (fun h7 => ?_) (fun h7 => ?_) | refine ri_if_ne C 14 dX4_noWeather_7 rfl (fun h7 => ?_) (fun h7 => ?_)
    · exact absurd h7 (by decide) --dead
    · refine ri_iconst C dX4_noWeather_10 kc_i1 ?_
      refine ri_goto C 15 dX4_noWeather_11 rfl ?_
      refine ri_iconst C dX4_noWeather_15 kc_i2 ?_
      refine ri_callV C km_X4_fails q3303 qs106 dX4_noWeather_16 (mt_X4_fails htr (b := true) (by first | assumption | (repeat (first | assumption | exact kx_rs (by assumption) | exact kx_ne2 (by omega) | exact kx_ne1 (by omega) | refine kx_ro (by assumption) ?_ ?_ | exact kx_rs rfl | refine kx_ro rfl ?_ ?_)))) rfl rfl (kx_rcN C (by first | assumption | (repeat (first | assumption | exact kx_rs (by assumption) | exact kx_ne2 (by omega) | exact kx_ne1 (by omega) | refine kx_ro (by assumption) ?_ ?_ | exact kx_rs rfl | refine kx_ro rfl ?_ ?_))) rfl) ⟨⟨(Nat.le_of_ble_eq_true rfl), (Nat.le_of_ble_eq_true rfl)⟩, (Nat.le_of_ble_eq_true rfl), (Nat.le_of_ble_eq_true rfl), (Nat.le_of_ble_eq_true rfl)⟩ (fun v16 s16 h16 => ?_) (fun _ _ _ h => h.elim)
      obtain ⟨rfl, e16⟩ := h16
      rw [cond_true] at e16
      exact ri_iret C hQ dX4_noWeather_19 (kx_b_nar _) (Nat.le_of_ble_eq_true rfl) (Nat.le_of_ble_eq_true rfl) ⟨by simp only [c1] <;> rfl, by simp only [c1, cond_true, cond_false] <;> first | rfl | assumption⟩
  · refine ri_callS C km_X4_inRange q3071 dX4_noWeather_4 (mt_X4_inRange htr) rfl rfl ⟨⟨(Nat.le_of_ble_eq_true rfl), (Nat.le_of_ble_eq_true rfl)⟩, (Nat.le_of_ble_eq_true rfl), (Nat.le_of_ble_eq_true rfl), (Nat.le_of_ble_eq_true rfl)⟩ (fun v4 s4 h4 => ?_) (fun _ _ _ h => h.elim)
    obtain ⟨rfl, rfl⟩ := h4
    rw [mx_ix_0 (by decide), c1]
    first | refine ri_if_neB C 14 dX4_noWeather_7 rfl (fun h7 => ?_) (fun h7 => ?_) | refine ri_if_neN C 14 dX4_noWeather_7 rfl (by omega) (fun h7 => ?_) (fun h7 => ?_) | refine ri_if_ne C 14 dX4_noWeather_7 rfl (fun h7 => ?_) (fun h7 => ?_)
    · refine ri_iconst C dX4_noWeather_14 kc_i0 ?_
      refine ri_iconst C dX4_noWeather_15 kc_i2 ?_
      refine ri_callV C km_X4_fails q3303 qs106 dX4_noWeather_16 (mt_X4_fails htr (b := false) (by first | assumption | (repeat (first | assumption | exact kx_rs (by assumption) | exact kx_ne2 (by omega) | exact kx_ne1 (by omega) | refine kx_ro (by assumption) ?_ ?_ | exact kx_rs rfl | refine kx_ro rfl ?_ ?_)))) rfl rfl (kx_rcN C (by first | assumption | (repeat (first | assumption | exact kx_rs (by assumption) | exact kx_ne2 (by omega) | exact kx_ne1 (by omega) | refine kx_ro (by assumption) ?_ ?_ | exact kx_rs rfl | refine kx_ro rfl ?_ ?_))) rfl) ⟨⟨(Nat.le_of_ble_eq_true rfl), (Nat.le_of_ble_eq_true rfl)⟩, (Nat.le_of_ble_eq_true rfl), (Nat.le_of_ble_eq_true rfl), (Nat.le_of_ble_eq_true rfl)⟩ (fun v16 s16 h16 => ?_) (fun _ _ _ h => h.elim)
      obtain ⟨rfl, e16⟩ := h16
      rw [cond_false] at e16
      subst e16
      exact ri_iret C hQ dX4_noWeather_19 (kx_b_nar _) (Nat.le_of_ble_eq_true rfl) (Nat.le_of_ble_eq_true rfl) ⟨by simp only [c1] <;> rfl, by simp only [c1, cond_true, cond_false] <;> first | rfl | assumption⟩
    · exact absurd h7 (by decide) --dead
set_option maxHeartbeats 1000000 in
theorem mt_X4_noPlace {l : Launch} {G : kx_G} (htr : l.stackTraces = false) {σ : kx_H} {mo : Nat} {ad : Nat → Nat} {z : Nat → Int32} {x y : Int32} (h0 : σ (1, 0) = some (mo, .inr (3, mo_L ad z))) : kx_SP l G yX4_noPlace (ws_ yX4_noPlace cX4_noPlace 3 (some .boolean)) 3 0 0 [.ref mo, .int x, .int y] σ (fun v τ => v = some (.int (kx_b (!(mx_ix x 16 && mx_ix y 12)))) ∧ τ = (bif (mx_ix x 16 && mx_ix y 12) then σ else kx_up σ (1, 0) (mo, .inr (3, mo_L ad (mo_z z 9 (nI 1)))))) kx_nx := by
  refine kx_body htr (by decide +kernel) (own := "RoseProverbsModel") (nm := "noPlace") rfl rfl (Nat.le_of_ble_eq_true rfl) ?_
  intro p e s m args below meth c Q C hQ
  first | refine ri_aload_n C dX4_noPlace_0 rfl ?_ | refine ri_aload_nQ C dX4_noPlace_0 rfl ?_ | refine ri_aload_nN C dX4_noPlace_0 rfl ?_
  refine ri_iload_n C dX4_noPlace_1 rfl ?_
  refine ri_callV C km_X4_noPoint q3354 qs115 dX4_noPlace_2 (mt_X4_noPoint htr (by first | assumption | (repeat (first | assumption | exact kx_rs (by assumption) | exact kx_ne2 (by omega) | exact kx_ne1 (by omega) | refine kx_ro (by assumption) ?_ ?_ | exact kx_rs rfl | refine kx_ro rfl ?_ ?_)))) rfl rfl (kx_rcN C (by first | assumption | (repeat (first | assumption | exact kx_rs (by assumption) | exact kx_ne2 (by omega) | exact kx_ne1 (by omega) | refine kx_ro (by assumption) ?_ ?_ | exact kx_rs rfl | refine kx_ro rfl ?_ ?_))) rfl) ⟨⟨(Nat.le_of_ble_eq_true rfl), (Nat.le_of_ble_eq_true rfl)⟩, (Nat.le_of_ble_eq_true rfl), (Nat.le_of_ble_eq_true rfl), (Nat.le_of_ble_eq_true rfl)⟩ (fun v2 s2 h2 => ?_) (fun _ _ _ h => h.elim)
  obtain ⟨rfl, e2⟩ := h2
  first | refine ri_if_neB C 31 dX4_noPlace_5 rfl (fun h5 => ?_) (fun h5 => ?_) | refine ri_if_neN C 31 dX4_noPlace_5 rfl (by omega) (fun h5 => ?_) (fun h5 => ?_) | refine ri_if_ne C 31 dX4_noPlace_5 rfl (fun h5 => ?_) (fun h5 => ?_)
  · have c1 : mx_ix x 16 = false := kx_bn_t h5
    rw [c1, cond_false] at e2
    refine ri_iconst C dX4_noPlace_31 kc_i1 ?_
    refine ri_goto C 36 dX4_noPlace_32 rfl ?_
    exact ri_iret C hQ dX4_noPlace_36 rfl (Nat.le_of_ble_eq_true rfl) (Nat.le_of_ble_eq_true rfl) ⟨by simp only [c1] <;> rfl, by simp only [c1, Bool.and_true, Bool.and_false, Bool.true_and, Bool.false_and, cond_true, cond_false] <;> first | rfl | assumption⟩
  · have c1 : mx_ix x 16 = true := kx_bn_f h5
    rw [c1, cond_true] at e2
    subst e2
    first | refine ri_aload_n C dX4_noPlace_8 rfl ?_ | refine ri_aload_nQ C dX4_noPlace_8 rfl ?_ | refine ri_aload_nN C dX4_noPlace_8 rfl ?_
    refine ri_iload_n C dX4_noPlace_9 rfl ?_
    refine ri_iconst C dX4_noPlace_10 kc_i0 ?_
    refine ri_bipush C dX4_noPlace_11 kc_b11 ?_
    cases c2 : mx_ix y 12
    · refine ri_callS C km_X4_inRange q3071 dX4_noPlace_13 (mt_X4_inRange htr) rfl rfl ⟨⟨(Nat.le_of_ble_eq_true rfl), (Nat.le_of_ble_eq_true rfl)⟩, (Nat.le_of_ble_eq_true rfl), (Nat.le_of_ble_eq_true rfl), (Nat.le_of_ble_eq_true rfl)⟩ (fun v13 s13 h13 => ?_) (fun _ _ _ h => h.elim)
      obtain ⟨rfl, rfl⟩ := h13
      rw [mx_ix_0 (by decide), c2]
      first | refine ri_if_neB C 23 dX4_noPlace_16 rfl (fun h16 => ?_) (fun h16 => ?_) | refine ri_if_neN C 23 dX4_noPlace_16 rfl (by omega) (fun h16 => ?_) (fun h16 => ?_) | refine ri_if_ne C 23 dX4_noPlace_16 rfl (fun h16 => ?_) (fun h16 => ?_)
      · exact absurd h16 (by decide) --dead
      · refine ri_iconst C dX4_noPlace_19 kc_i1 ?_
        refine ri_goto C 24 dX4_noPlace_20 rfl ?_
        refine ri_iconst C dX4_noPlace_24 kc_i1 ?_
        refine ri_callV C km_X4_fails q3303 qs106 dX4_noPlace_25 (mt_X4_fails htr (b := true) (by first | assumption | (repeat (first | assumption | exact kx_rs (by assumption) | exact kx_ne2 (by omega) | exact kx_ne1 (by omega) | refine kx_ro (by assumption) ?_ ?_ | exact kx_rs rfl | refine kx_ro rfl ?_ ?_)))) rfl rfl (kx_rcN C (by first | assumption | (repeat (first | assumption | exact kx_rs (by assumption) | exact kx_ne2 (by omega) | exact kx_ne1 (by omega) | refine kx_ro (by assumption) ?_ ?_ | exact kx_rs rfl | refine kx_ro rfl ?_ ?_))) rfl) ⟨⟨(Nat.le_of_ble_eq_true rfl), (Nat.le_of_ble_eq_true rfl)⟩, (Nat.le_of_ble_eq_true rfl), (Nat.le_of_ble_eq_true rfl), (Nat.le_of_ble_eq_true rfl)⟩ (fun v25 s25 h25 => ?_) (fun _ _ _ h => h.elim)
        obtain ⟨rfl, e25⟩ := h25
        rw [cond_true] at e25
        first | refine ri_if_eqB C 35 dX4_noPlace_28 rfl (fun h28 => ?_) (fun h28 => ?_) | refine ri_if_eqN C 35 dX4_noPlace_28 rfl (by omega) (fun h28 => ?_) (fun h28 => ?_) | refine ri_if_eq C 35 dX4_noPlace_28 rfl (fun h28 => ?_) (fun h28 => ?_)
        · exact absurd h28 (by decide) --dead
        · refine ri_iconst C dX4_noPlace_31 kc_i1 ?_
          refine ri_goto C 36 dX4_noPlace_32 rfl ?_
          exact ri_iret C hQ dX4_noPlace_36 rfl (Nat.le_of_ble_eq_true rfl) (Nat.le_of_ble_eq_true rfl) ⟨by simp only [c1, c2] <;> rfl, by simp only [c1, c2, Bool.and_true, Bool.and_false, Bool.true_and, Bool.false_and, cond_true, cond_false] <;> first | rfl | assumption⟩
    · refine ri_callS C km_X4_inRange q3071 dX4_noPlace_13 (mt_X4_inRange htr) rfl rfl ⟨⟨(Nat.le_of_ble_eq_true rfl), (Nat.le_of_ble_eq_true rfl)⟩, (Nat.le_of_ble_eq_true rfl), (Nat.le_of_ble_eq_true rfl), (Nat.le_of_ble_eq_true rfl)⟩ (fun v13 s13 h13 => ?_) (fun _ _ _ h => h.elim)
      obtain ⟨rfl, rfl⟩ := h13
      rw [mx_ix_0 (by decide), c2]
      first | refine ri_if_neB C 23 dX4_noPlace_16 rfl (fun h16 => ?_) (fun h16 => ?_) | refine ri_if_neN C 23 dX4_noPlace_16 rfl (by omega) (fun h16 => ?_) (fun h16 => ?_) | refine ri_if_ne C 23 dX4_noPlace_16 rfl (fun h16 => ?_) (fun h16 => ?_)
      · refine ri_iconst C dX4_noPlace_23 kc_i0 ?_
        refine ri_iconst C dX4_noPlace_24 kc_i1 ?_
        refine ri_callV C km_X4_fails q3303 qs106 dX4_noPlace_25 (mt_X4_fails htr (b := false) (by first | assumption | (repeat (first | assumption | exact kx_rs (by assumption) | exact kx_ne2 (by omega) | exact kx_ne1 (by omega) | refine kx_ro (by assumption) ?_ ?_ | exact kx_rs rfl | refine kx_ro rfl ?_ ?_)))) rfl rfl (kx_rcN C (by first | assumption | (repeat (first | assumption | exact kx_rs (by assumption) | exact kx_ne2 (by omega) | exact kx_ne1 (by omega) | refine kx_ro (by assumption) ?_ ?_ | exact kx_rs rfl | refine kx_ro rfl ?_ ?_))) rfl) ⟨⟨(Nat.le_of_ble_eq_true rfl), (Nat.le_of_ble_eq_true rfl)⟩, (Nat.le_of_ble_eq_true rfl), (Nat.le_of_ble_eq_true rfl), (Nat.le_of_ble_eq_true rfl)⟩ (fun v25 s25 h25 => ?_) (fun _ _ _ h => h.elim)
        obtain ⟨rfl, e25⟩ := h25
        rw [cond_false] at e25
        subst e25
        first | refine ri_if_eqB C 35 dX4_noPlace_28 rfl (fun h28 => ?_) (fun h28 => ?_) | refine ri_if_eqN C 35 dX4_noPlace_28 rfl (by omega) (fun h28 => ?_) (fun h28 => ?_) | refine ri_if_eq C 35 dX4_noPlace_28 rfl (fun h28 => ?_) (fun h28 => ?_)
        · refine ri_iconst C dX4_noPlace_35 kc_i0 ?_
          exact ri_iret C hQ dX4_noPlace_36 rfl (Nat.le_of_ble_eq_true rfl) (Nat.le_of_ble_eq_true rfl) ⟨by simp only [c1, c2] <;> rfl, by simp only [c1, c2, Bool.and_true, Bool.and_false, Bool.true_and, Bool.false_and, cond_true, cond_false] <;> first | rfl | assumption⟩
        · exact absurd h28 (by decide) --dead
      · exact absurd h16 (by decide) --dead
