/-! the reference: loadRose -/
set_option maxRecDepth 100000
def mo_st (z : Nat → Int32) (inp : Nat → Nat) (N : Nat) : Nat → Int32 := mo_adv (mo_z (mo_z (mo_z (mo_z z 14 (nI 0)) 15 (-1)) 24 (nI 0)) 16 (nI 0)) inp N 0
theorem mo_st_at {z : Nat → Int32} {inp : Nat → Nat} {N : Nat} (h : z 11 = nI N) : mo_at (mo_st z inp N) inp N (pt_s inp N 0) := mo_at_a h rfl rfl (Nat.zero_le _)
theorem mo_st_k {z : Nat → Int32} {inp : Nat → Nat} {N j : Nat} (h : j < 14 ∨ 24 < j) : mo_st z inp N j = z j := by
  unfold mo_st
  rw [mo_kp_a j (by omega), mo_z_o (by omega), mo_z_o (by omega), mo_z_o (by omega), mo_z_o (by omega)]
def mo_en (z : Nat → Int32) : Nat → Int32 := mo_z (mo_z (mo_z z 11 (nI 0)) 12 (z 14)) 13 (z 15)
theorem mo_en_k {z : Nat → Int32} {j : Nat} (h : j ≠ 11 ∧ j ≠ 12 ∧ j ≠ 13) : mo_en z j = z j := by
  unfold mo_en; rw [mo_z_o h.2.2, mo_z_o h.2.1, mo_z_o h.1]
set_option maxHeartbeats 1000000 in
theorem mt_X4_startsText {l : Launch} {G : kx_G} (htr : l.stackTraces = false) {σ : kx_H} {mo : Nat} {ad : Nat → Nat} {z : Nat → Int32} (h0 : σ (1, 0) = some (mo, .inr (3, mo_L ad z))) {inp : Nat → Nat} {N : Nat} (hin : σ (1, 11) = some (ad 10, kx_ai G 700 (mx_w inp))) (hN : z 11 = nI N) (hN7 : N ≤ 700) (hby : ∀ k, k < N → inp k < 256) : kx_SP l G yX4_startsText (ws_ yX4_startsText cX4_startsText 1 none) 4 0 0 [.ref mo] σ (fun v τ => v = none ∧ τ = kx_up σ (1, 0) (mo, .inr (3, mo_L ad (mo_st z inp N)))) kx_nx := by
  refine kx_body htr (by decide +kernel) (own := "RoseProverbsModel") (nm := "startsText") rfl rfl (Nat.le_of_ble_eq_true rfl) ?_
  intro p e s m args below meth c Q C hQ
  first | refine ri_aload_n C dX4_startsText_0 rfl ?_ | refine ri_aload_nQ C dX4_startsText_0 rfl ?_ | refine ri_aload_nN C dX4_startsText_0 rfl ?_
  refine ri_iconst C dX4_startsText_1 kc_i0 ?_
  refine ri_putf C dX4_startsText_2 fd_q2984_3 (fun h => nomatch h) (by first | assumption | (repeat (first | assumption | exact kx_rs (by assumption) | exact kx_ne2 (by omega) | exact kx_ne1 (by omega) | refine kx_ro (by assumption) ?_ ?_ | exact kx_rs rfl | refine kx_ro rfl ?_ ?_))) (Nat.le_of_ble_eq_true rfl) (by rfl) (by rfl) mo_set14 (fun s2 e2 => ?_)
  first | refine ri_aload_n C dX4_startsText_5 rfl ?_ | refine ri_aload_nQ C dX4_startsText_5 rfl ?_ | refine ri_aload_nN C dX4_startsText_5 rfl ?_
  refine ri_iconst C dX4_startsText_6 kc_im1 ?_
  refine ri_putf C dX4_startsText_7 fd_q2985_3 (fun h => nomatch h) (by first | assumption | (repeat (first | assumption | exact kx_rs (by assumption) | exact kx_ne2 (by omega) | exact kx_ne1 (by omega) | refine kx_ro (by assumption) ?_ ?_ | exact kx_rs rfl | refine kx_ro rfl ?_ ?_))) (Nat.le_of_ble_eq_true rfl) (by rfl) (by rfl) mo_set15 (fun s7 e7 => ?_)
  first | refine ri_aload_n C dX4_startsText_10 rfl ?_ | refine ri_aload_nQ C dX4_startsText_10 rfl ?_ | refine ri_aload_nN C dX4_startsText_10 rfl ?_
  refine ri_iconst C dX4_startsText_11 kc_i0 ?_
  refine ri_putf C dX4_startsText_12 fd_q2994_3 (fun h => nomatch h) (by first | assumption | (repeat (first | assumption | exact kx_rs (by assumption) | exact kx_ne2 (by omega) | exact kx_ne1 (by omega) | refine kx_ro (by assumption) ?_ ?_ | exact kx_rs rfl | refine kx_ro rfl ?_ ?_))) (Nat.le_of_ble_eq_true rfl) (by rfl) (by rfl) mo_set24 (fun s12 e12 => ?_)
  first | refine ri_aload_n C dX4_startsText_15 rfl ?_ | refine ri_aload_nQ C dX4_startsText_15 rfl ?_ | refine ri_aload_nN C dX4_startsText_15 rfl ?_
  refine ri_iconst C dX4_startsText_16 kc_i0 ?_
  refine ri_putf C dX4_startsText_17 fd_q2986_3 (fun h => nomatch h) (by first | assumption | (repeat (first | assumption | exact kx_rs (by assumption) | exact kx_ne2 (by omega) | exact kx_ne1 (by omega) | refine kx_ro (by assumption) ?_ ?_ | exact kx_rs rfl | refine kx_ro rfl ?_ ?_))) (Nat.le_of_ble_eq_true rfl) (by rfl) (by rfl) mo_set16 (fun s17 e17 => ?_)
  first | refine ri_aload_n C dX4_startsText_20 rfl ?_ | refine ri_aload_nQ C dX4_startsText_20 rfl ?_ | refine ri_aload_nN C dX4_startsText_20 rfl ?_
  refine ri_callV C km_X4_advanceToken q3085 qs62 dX4_startsText_21 (mt_X4_advanceToken htr (q := 0) (z := mo_z (mo_z (mo_z (mo_z z 14 (nI 0)) 15 (-1)) 24 (nI 0)) 16 (nI 0)) (by first | assumption | (repeat (first | assumption | exact kx_rs (by assumption) | exact kx_ne2 (by omega) | exact kx_ne1 (by omega) | refine kx_ro (by assumption) ?_ ?_ | exact kx_rs rfl | refine kx_ro rfl ?_ ?_))) (by first | assumption | (repeat (first | assumption | exact kx_rs (by assumption) | exact kx_ne2 (by omega) | exact kx_ne1 (by omega) | refine kx_ro (by assumption) ?_ ?_ | exact kx_rs rfl | refine kx_ro rfl ?_ ?_))) hN hN7 hby rfl (Nat.zero_le _)) rfl rfl (kx_rcN C (by first | assumption | (repeat (first | assumption | exact kx_rs (by assumption) | exact kx_ne2 (by omega) | exact kx_ne1 (by omega) | refine kx_ro (by assumption) ?_ ?_ | exact kx_rs rfl | refine kx_ro rfl ?_ ?_))) rfl) ⟨⟨(Nat.le_of_ble_eq_true rfl), (Nat.le_of_ble_eq_true rfl)⟩, (Nat.le_of_ble_eq_true rfl), (Nat.le_of_ble_eq_true rfl), (Nat.le_of_ble_eq_true rfl)⟩ (fun v21 s21 h21 => ?_) (fun _ _ _ h => h.elim)
  obtain ⟨rfl, e21⟩ := h21
  exact ri_vret C hQ dX4_startsText_24 (Nat.le_of_ble_eq_true rfl) (Nat.le_of_ble_eq_true rfl) ⟨rfl, by rw [e21, e17, e12, e7, e2]; simp only [kx_up_u]; rfl⟩
set_option maxHeartbeats 1000000 in
theorem mt_X4_endsText {l : Launch} {G : kx_G} (htr : l.stackTraces = false) {σ : kx_H} {mo : Nat} {ad : Nat → Nat} {z : Nat → Int32} (h0 : σ (1, 0) = some (mo, .inr (3, mo_L ad z))) : kx_SP l G yX4_endsText (ws_ yX4_endsText cX4_endsText 1 none) 1 0 0 [.ref mo] σ (fun v τ => v = none ∧ τ = kx_up σ (1, 0) (mo, .inr (3, mo_L ad (mo_en z)))) kx_nx := by
  refine kx_body htr (by decide +kernel) (own := "RoseProverbsModel") (nm := "endsText") rfl rfl (Nat.le_of_ble_eq_true rfl) ?_
  intro p e s m args below meth c Q C hQ
  first | refine ri_aload_n C dX4_endsText_0 rfl ?_ | refine ri_aload_nQ C dX4_endsText_0 rfl ?_ | refine ri_aload_nN C dX4_endsText_0 rfl ?_
  refine ri_iconst C dX4_endsText_1 kc_i0 ?_
  refine ri_putf C dX4_endsText_2 fd_q2981_3 (fun h => nomatch h) (by first | assumption | (repeat (first | assumption | exact kx_rs (by assumption) | exact kx_ne2 (by omega) | exact kx_ne1 (by omega) | refine kx_ro (by assumption) ?_ ?_ | exact kx_rs rfl | refine kx_ro rfl ?_ ?_))) (Nat.le_of_ble_eq_true rfl) (by rfl) (by rfl) mo_set11 (fun s2 e2 => ?_)
  first | refine ri_aload_n C dX4_endsText_5 rfl ?_ | refine ri_aload_nQ C dX4_endsText_5 rfl ?_ | refine ri_aload_nN C dX4_endsText_5 rfl ?_
  first | refine ri_aload_n C dX4_endsText_6 rfl ?_ | refine ri_aload_nQ C dX4_endsText_6 rfl ?_ | refine ri_aload_nN C dX4_endsText_6 rfl ?_
  refine ri_getf C dX4_endsText_7 fr_q2984_3 (by first | assumption | (repeat (first | assumption | exact kx_rs (by assumption) | exact kx_ne2 (by omega) | exact kx_ne1 (by omega) | refine kx_ro (by assumption) ?_ ?_ | exact kx_rs rfl | refine kx_ro rfl ?_ ?_))) (by rfl) ?_
  refine ri_putf C dX4_endsText_10 fd_q2982_3 (fun h => nomatch h) (by first | assumption | (repeat (first | assumption | exact kx_rs (by assumption) | exact kx_ne2 (by omega) | exact kx_ne1 (by omega) | refine kx_ro (by assumption) ?_ ?_ | exact kx_rs rfl | refine kx_ro rfl ?_ ?_))) (Nat.le_of_ble_eq_true rfl) (by rfl) (by rfl) mo_set12 (fun s10 e10 => ?_)
  first | refine ri_aload_n C dX4_endsText_13 rfl ?_ | refine ri_aload_nQ C dX4_endsText_13 rfl ?_ | refine ri_aload_nN C dX4_endsText_13 rfl ?_
  first | refine ri_aload_n C dX4_endsText_14 rfl ?_ | refine ri_aload_nQ C dX4_endsText_14 rfl ?_ | refine ri_aload_nN C dX4_endsText_14 rfl ?_
  refine ri_getf C dX4_endsText_15 fr_q2985_3 (by first | assumption | (repeat (first | assumption | exact kx_rs (by assumption) | exact kx_ne2 (by omega) | exact kx_ne1 (by omega) | refine kx_ro (by assumption) ?_ ?_ | exact kx_rs rfl | refine kx_ro rfl ?_ ?_))) (by rfl) ?_
  refine ri_putf C dX4_endsText_18 fd_q2983_3 (fun h => nomatch h) (by first | assumption | (repeat (first | assumption | exact kx_rs (by assumption) | exact kx_ne2 (by omega) | exact kx_ne1 (by omega) | refine kx_ro (by assumption) ?_ ?_ | exact kx_rs rfl | refine kx_ro rfl ?_ ?_))) (Nat.le_of_ble_eq_true rfl) (by rfl) (by rfl) mo_set13 (fun s18 e18 => ?_)
  exact ri_vret C hQ dX4_endsText_21 (Nat.le_of_ble_eq_true rfl) (Nat.le_of_ble_eq_true rfl) ⟨rfl, by rw [e18, e10, e2]; simp only [kx_up_u]; rfl⟩
/-- what reading a setup leaves -/
def mo_L4 (G : kx_G) (σ τ : kx_H) (mo : Nat) (ad : Nat → Nat) (z' : Nat → Int32) (u' : Nat → Nat) (K' M' : Nat → Int32) : Prop :=
  τ (1, 0) = some (mo, .inr (3, mo_L ad z')) ∧ τ (1, 1) = some (ad 0, kx_ai G 1417 (mx_w u')) ∧ τ (1, 2) = some (ad 1, kx_ai G 1417 K') ∧ τ (1, 22) = some (ad 21, kx_ai G 6 M') ∧ (∀ k, k ≠ 0 → k ≠ 1 → k ≠ 2 → k ≠ 22 → τ (1, k) = σ (1, k)) ∧ kx_of 1 σ τ
set_option maxHeartbeats 1000000 in
theorem mt_X4_loadRose {l : Launch} {G : kx_G} (htr : l.stackTraces = false) {σ : kx_H} {mo : Nat} {ad : Nat → Nat} {z : Nat → Int32} (h0 : σ (1, 0) = some (mo, .inr (3, mo_L ad z))) {inp : Nat → Nat} {N : Nat} (hin : σ (1, 11) = some (ad 10, kx_ai G 700 (mx_w inp))) {M : Nat → Int32} (hn : σ (1, 22) = some (ad 21, kx_ai G 6 M)) {u : Nat → Nat} (hw : σ (1, 1) = some (ad 0, kx_ai G 1417 (mx_w u))) {K : Nat → Int32} (hk : σ (1, 2) = some (ad 1, kx_ai G 1417 K)) (hN : z 11 = nI N) (hN7 : N ≤ 700) (hby : ∀ k, k < N → inp k < 256) : kx_SP l G yX4_loadRose (ws_ yX4_loadRose cX4_loadRose 2 (some .int)) 10 0 0 [.ref mo] σ (fun v τ => ∃ z' u' K' M', mo_L4 G σ τ mo ad z' u' K' M' ∧ z' 9 = nI 0 ∧ z' 11 = nI 0 ∧ z' 27 = z 27 ∧ (∀ e, pn_su inp N 1000 (mx_b0 u) (pt_s inp N 0) = .inl e → v = some (.int (-1)) ∧ u' = u ∧ z' 7 = z 7 ∧ z' 8 = z 8 ∧ z' 12 = nI e.1 ∧ z' 13 = nI e.2) ∧ (∀ x, pn_su inp N 1000 (mx_b0 u) (pt_s inp N 0) = .inr x → v = some (.int (nI (x 0))) ∧ u' = x ∧ mx_ok x ∧ z' 7 = nI 0 ∧ z' 8 = nI 0 ∧ z' 12 = nI 0 ∧ z' 13 = -1)) kx_nx := by
  refine kx_body htr (by decide +kernel) (own := "RoseProverbsModel") (nm := "loadRose") rfl rfl (Nat.le_of_ble_eq_true rfl) ?_
  intro p e s m args below meth c Q C hQ
  first | refine ri_aload_n C dX4_loadRose_0 rfl ?_ | refine ri_aload_nQ C dX4_loadRose_0 rfl ?_ | refine ri_aload_nN C dX4_loadRose_0 rfl ?_
  refine ri_iconst C dX4_loadRose_1 kc_i0 ?_
  refine ri_putf C dX4_loadRose_2 fd_q2979_3 (fun h => nomatch h) (by first | assumption | (repeat (first | assumption | exact kx_rs (by assumption) | exact kx_ne2 (by omega) | exact kx_ne1 (by omega) | refine kx_ro (by assumption) ?_ ?_ | exact kx_rs rfl | refine kx_ro rfl ?_ ?_))) (Nat.le_of_ble_eq_true rfl) (by rfl) (by rfl) mo_set9 (fun s2 e2 => ?_)
  first | refine ri_aload_n C dX4_loadRose_5 rfl ?_ | refine ri_aload_nQ C dX4_loadRose_5 rfl ?_ | refine ri_aload_nN C dX4_loadRose_5 rfl ?_
  refine ri_getf C dX4_loadRose_6 fr_q2970_3 (by first | assumption | (repeat (first | assumption | exact kx_rs (by assumption) | exact kx_ne2 (by omega) | exact kx_ne1 (by omega) | refine kx_ro (by assumption) ?_ ?_ | exact kx_rs rfl | refine kx_ro rfl ?_ ?_))) (by rfl) ?_
  refine ri_iconst C dX4_loadRose_9 kc_i0 ?_
  first | refine ri_aload_n C dX4_loadRose_10 rfl ?_ | refine ri_aload_nQ C dX4_loadRose_10 rfl ?_ | refine ri_aload_nN C dX4_loadRose_10 rfl ?_
  refine ri_getf C dX4_loadRose_11 fr_q2971_3 (by first | assumption | (repeat (first | assumption | exact kx_rs (by assumption) | exact kx_ne2 (by omega) | exact kx_ne1 (by omega) | refine kx_ro (by assumption) ?_ ?_ | exact kx_rs rfl | refine kx_ro rfl ?_ ?_))) (by rfl) ?_
  refine ri_iconst C dX4_loadRose_14 kc_i0 ?_
  refine ri_callS C km_X4_copies q3078 dX4_loadRose_15 (mt_X4_copies htr (tf := (1, 1)) (tt := (1, 2)) (by first | assumption | (repeat (first | assumption | exact kx_rs (by assumption) | exact kx_ne2 (by omega) | exact kx_ne1 (by omega) | refine kx_ro (by assumption) ?_ ?_ | exact kx_rs rfl | refine kx_ro rfl ?_ ?_))) (by first | assumption | (repeat (first | assumption | exact kx_rs (by assumption) | exact kx_ne2 (by omega) | exact kx_ne1 (by omega) | refine kx_ro (by assumption) ?_ ?_ | exact kx_rs rfl | refine kx_ro rfl ?_ ?_))) (by decide) (x := 0) (y := 0) (by omega) (by omega)) rfl rfl ⟨⟨(Nat.le_of_ble_eq_true rfl), (Nat.le_of_ble_eq_true rfl)⟩, (Nat.le_of_ble_eq_true rfl), (Nat.le_of_ble_eq_true rfl), (Nat.le_of_ble_eq_true rfl)⟩ (fun v15 s15 h15 => ?_) (fun _ _ _ h => h.elim)
  obtain ⟨rfl, e15⟩ := h15
  first | refine ri_aload_n C dX4_loadRose_18 rfl ?_ | refine ri_aload_nQ C dX4_loadRose_18 rfl ?_ | refine ri_aload_nN C dX4_loadRose_18 rfl ?_
  refine ri_callV C km_X4_startsText q3081 qs61 dX4_loadRose_19 (mt_X4_startsText htr (z := mo_z z 9 (nI 0)) (by first | assumption | (repeat (first | assumption | exact kx_rs (by assumption) | exact kx_ne2 (by omega) | exact kx_ne1 (by omega) | refine kx_ro (by assumption) ?_ ?_ | exact kx_rs rfl | refine kx_ro rfl ?_ ?_))) (by first | assumption | (repeat (first | assumption | exact kx_rs (by assumption) | exact kx_ne2 (by omega) | exact kx_ne1 (by omega) | refine kx_ro (by assumption) ?_ ?_ | exact kx_rs rfl | refine kx_ro rfl ?_ ?_))) hN hN7 hby) rfl rfl (kx_rcN C (by first | assumption | (repeat (first | assumption | exact kx_rs (by assumption) | exact kx_ne2 (by omega) | exact kx_ne1 (by omega) | refine kx_ro (by assumption) ?_ ?_ | exact kx_rs rfl | refine kx_ro rfl ?_ ?_))) rfl) ⟨⟨(Nat.le_of_ble_eq_true rfl), (Nat.le_of_ble_eq_true rfl)⟩, (Nat.le_of_ble_eq_true rfl), (Nat.le_of_ble_eq_true rfl), (Nat.le_of_ble_eq_true rfl)⟩ (fun v19 s19 h19 => ?_) (fun _ _ _ h => h.elim)
  obtain ⟨rfl, e19⟩ := h19
  have hat := mo_st_at (inp := inp) (show mo_z z 9 (nI 0) 11 = nI N from hN)
  first | refine ri_aload_n C dX4_loadRose_22 rfl ?_ | refine ri_aload_nQ C dX4_loadRose_22 rfl ?_ | refine ri_aload_nN C dX4_loadRose_22 rfl ?_
  refine ri_callV C km_X4_readText q3097 qs65 dX4_loadRose_23 (mt_X4_readText htr (by first | assumption | (repeat (first | assumption | exact kx_rs (by assumption) | exact kx_ne2 (by omega) | exact kx_ne1 (by omega) | refine kx_ro (by assumption) ?_ ?_ | exact kx_rs rfl | refine kx_ro rfl ?_ ?_))) (by first | assumption | (repeat (first | assumption | exact kx_rs (by assumption) | exact kx_ne2 (by omega) | exact kx_ne1 (by omega) | refine kx_ro (by assumption) ?_ ?_ | exact kx_rs rfl | refine kx_ro rfl ?_ ?_))) (by first | assumption | (repeat (first | assumption | exact kx_rs (by assumption) | exact kx_ne2 (by omega) | exact kx_ne1 (by omega) | refine kx_ro (by assumption) ?_ ?_ | exact kx_rs rfl | refine kx_ro rfl ?_ ?_))) (by first | assumption | (repeat (first | assumption | exact kx_rs (by assumption) | exact kx_ne2 (by omega) | exact kx_ne1 (by omega) | refine kx_ro (by assumption) ?_ ?_ | exact kx_rs rfl | refine kx_ro rfl ?_ ?_))) hat hN7 hby) rfl rfl (kx_rcN C (by first | assumption | (repeat (first | assumption | exact kx_rs (by assumption) | exact kx_ne2 (by omega) | exact kx_ne1 (by omega) | refine kx_ro (by assumption) ?_ ?_ | exact kx_rs rfl | refine kx_ro rfl ?_ ?_))) rfl) ⟨⟨(Nat.le_of_ble_eq_true rfl), (Nat.le_of_ble_eq_true rfl)⟩, (Nat.le_of_ble_eq_true rfl), (Nat.le_of_ble_eq_true rfl), (Nat.le_of_ble_eq_true rfl)⟩ (fun v23 s23 h23 => ?_) (fun _ _ _ h => h.elim)
  obtain ⟨z3, M3, u3, P, K3, w3, m3, g3⟩ := h23
  have b3 := mo_PS_0 P
  unfold mo_PS at P
  have ek : ∀ j, j < 14 ∨ 24 < j → z3 j = mo_z z 9 (nI 0) j := fun j hj => (K3 j (by omega)).trans (mo_st_k hj)
  rcases hr : pn_su inp N 1000 (mx_b0 u) (pt_s inp N 0) with e | x
  · obtain ⟨rfl, mm⟩ := m3 e hr
    refine ri_istore_n C dX4_loadRose_26 rfl (by decide) ?_
    first | refine ri_aload_n C dX4_loadRose_27 rfl ?_ | refine ri_aload_nQ C dX4_loadRose_27 rfl ?_ | refine ri_aload_nN C dX4_loadRose_27 rfl ?_
    refine ri_callV C km_X4_endsText q3166 qs80 dX4_loadRose_28 (mt_X4_endsText htr b3) rfl rfl (kx_rcN C (by first | assumption | (repeat (first | assumption | exact kx_rs (by assumption) | exact kx_ne2 (by omega) | exact kx_ne1 (by omega) | refine kx_ro (by assumption) ?_ ?_ | exact kx_rs rfl | refine kx_ro rfl ?_ ?_))) rfl) ⟨⟨(Nat.le_of_ble_eq_true rfl), (Nat.le_of_ble_eq_true rfl)⟩, (Nat.le_of_ble_eq_true rfl), (Nat.le_of_ble_eq_true rfl), (Nat.le_of_ble_eq_true rfl)⟩ (fun v28 s28 h28 => ?_) (fun _ _ _ h => h.elim)
    obtain ⟨rfl, e28⟩ := h28
    refine ri_iload_n C dX4_loadRose_31 rfl ?_
    first | refine ri_if_neB C 50 dX4_loadRose_32 rfl (fun h32 => ?_) (fun h32 => ?_) | refine ri_if_neN C 50 dX4_loadRose_32 rfl (by omega) (fun h32 => ?_) (fun h32 => ?_) | refine ri_if_ne C 50 dX4_loadRose_32 rfl (fun h32 => ?_) (fun h32 => ?_)
    · exact absurd rfl h32 --dead
    · first | refine ri_aload_n C dX4_loadRose_35 rfl ?_ | refine ri_aload_nQ C dX4_loadRose_35 rfl ?_ | refine ri_aload_nN C dX4_loadRose_35 rfl ?_
      refine ri_getf C dX4_loadRose_36 fr_q2971_3 (by first | assumption | (repeat (first | assumption | exact kx_rs (by assumption) | exact kx_ne2 (by omega) | exact kx_ne1 (by omega) | refine kx_ro (by assumption) ?_ ?_ | exact kx_rs rfl | refine kx_ro rfl ?_ ?_))) (by rfl) ?_
      refine ri_iconst C dX4_loadRose_39 kc_i0 ?_
      first | refine ri_aload_n C dX4_loadRose_40 rfl ?_ | refine ri_aload_nQ C dX4_loadRose_40 rfl ?_ | refine ri_aload_nN C dX4_loadRose_40 rfl ?_
      refine ri_getf C dX4_loadRose_41 fr_q2970_3 (by first | assumption | (repeat (first | assumption | exact kx_rs (by assumption) | exact kx_ne2 (by omega) | exact kx_ne1 (by omega) | refine kx_ro (by assumption) ?_ ?_ | exact kx_rs rfl | refine kx_ro rfl ?_ ?_))) (by rfl) ?_
      refine ri_iconst C dX4_loadRose_44 kc_i0 ?_
      refine ri_callS C km_X4_copies q3078 dX4_loadRose_45 (mt_X4_copies htr (tf := (1, 2)) (tt := (1, 1)) (by first | assumption | (repeat (first | assumption | exact kx_rs (by assumption) | exact kx_ne2 (by omega) | exact kx_ne1 (by omega) | refine kx_ro (by assumption) ?_ ?_ | exact kx_rs rfl | refine kx_ro rfl ?_ ?_))) (by first | assumption | (repeat (first | assumption | exact kx_rs (by assumption) | exact kx_ne2 (by omega) | exact kx_ne1 (by omega) | refine kx_ro (by assumption) ?_ ?_ | exact kx_rs rfl | refine kx_ro rfl ?_ ?_))) (by decide) (x := 0) (y := 0) (by omega) (by omega)) rfl rfl ⟨⟨(Nat.le_of_ble_eq_true rfl), (Nat.le_of_ble_eq_true rfl)⟩, (Nat.le_of_ble_eq_true rfl), (Nat.le_of_ble_eq_true rfl), (Nat.le_of_ble_eq_true rfl)⟩ (fun v45 s45 h45 => ?_) (fun _ _ _ h => h.elim)
      obtain ⟨rfl, e45⟩ := h45
      rw [mx_cut_w (u := u) (by intro j hj; exact mx_cut_r j hj), mx_cut_i (fun j hj => w3 j hj)] at e45
      refine ri_iconst C dX4_loadRose_48 kc_im1 ?_
      refine ri_iret C hQ dX4_loadRose_49 rfl (Nat.le_of_ble_eq_true rfl) (Nat.le_of_ble_eq_true rfl) ⟨mo_en z3, u, va_cpy (mx_w u) K 0 0 1417, M3, ⟨(by first | assumption | (repeat (first | assumption | exact kx_rs (by assumption) | exact kx_ne2 (by omega) | exact kx_ne1 (by omega) | refine kx_ro (by assumption) ?_ ?_ | exact kx_rs rfl | refine kx_ro rfl ?_ ?_))), (by first | assumption | (repeat (first | assumption | exact kx_rs (by assumption) | exact kx_ne2 (by omega) | exact kx_ne1 (by omega) | refine kx_ro (by assumption) ?_ ?_ | exact kx_rs rfl | refine kx_ro rfl ?_ ?_))), (by first | assumption | (repeat (first | assumption | exact kx_rs (by assumption) | exact kx_ne2 (by omega) | exact kx_ne1 (by omega) | refine kx_ro (by assumption) ?_ ?_ | exact kx_rs rfl | refine kx_ro rfl ?_ ?_))), (by first | assumption | (repeat (first | assumption | exact kx_rs (by assumption) | exact kx_ne2 (by omega) | exact kx_ne1 (by omega) | refine kx_ro (by assumption) ?_ ?_ | exact kx_rs rfl | refine kx_ro rfl ?_ ?_))), ?_, ?_⟩, ?_, ?_, ?_, fun e' he => ?_, fun x' hx => ?_⟩
      · exact (fun k k0 k1 k2 k3 => by rw [e45, e28, P, e19, e15, e2]; simp only [kx_up, Prod.mk.injEq, true_and, k0, k1, k2, k3, if_false])
      · exact (fun t ht => by rw [e45, e28, P, e19, e15, e2]; have g : ∀ k, t ≠ (1, k) := fun k h => ht (by rw [h]); simp only [kx_up, g, if_false])
      · rw [mo_en_k (by decide), ek 9 (by omega)]; exact mo_z_s
      · rfl
      · rw [mo_en_k (by decide), ek 27 (by omega)]; rfl
      · rw [hr] at he; injection he with he; subst he
        exact ⟨rfl, rfl, (mo_en_k (by decide)).trans (ek 7 (by omega)), (mo_en_k (by decide)).trans (ek 8 (by omega)), mm.1, mm.2⟩
      · rw [hr] at hx; cases hx
  · obtain ⟨rfl, q14, q15, rfl, hok⟩ := g3 x hr
    refine ri_istore_n C dX4_loadRose_26 rfl (by decide) ?_
    first | refine ri_aload_n C dX4_loadRose_27 rfl ?_ | refine ri_aload_nQ C dX4_loadRose_27 rfl ?_ | refine ri_aload_nN C dX4_loadRose_27 rfl ?_
    refine ri_callV C km_X4_endsText q3166 qs80 dX4_loadRose_28 (mt_X4_endsText htr b3) rfl rfl (kx_rcN C (by first | assumption | (repeat (first | assumption | exact kx_rs (by assumption) | exact kx_ne2 (by omega) | exact kx_ne1 (by omega) | refine kx_ro (by assumption) ?_ ?_ | exact kx_rs rfl | refine kx_ro rfl ?_ ?_))) rfl) ⟨⟨(Nat.le_of_ble_eq_true rfl), (Nat.le_of_ble_eq_true rfl)⟩, (Nat.le_of_ble_eq_true rfl), (Nat.le_of_ble_eq_true rfl), (Nat.le_of_ble_eq_true rfl)⟩ (fun v28 s28 h28 => ?_) (fun _ _ _ h => h.elim)
    obtain ⟨rfl, e28⟩ := h28
    refine ri_iload_n C dX4_loadRose_31 rfl ?_
    first | refine ri_if_neB C 50 dX4_loadRose_32 rfl (fun h32 => ?_) (fun h32 => ?_) | refine ri_if_neN C 50 dX4_loadRose_32 rfl (by omega) (fun h32 => ?_) (fun h32 => ?_) | refine ri_if_ne C 50 dX4_loadRose_32 rfl (fun h32 => ?_) (fun h32 => ?_)
    · first | refine ri_aload_n C dX4_loadRose_50 rfl ?_ | refine ri_aload_nQ C dX4_loadRose_50 rfl ?_ | refine ri_aload_nN C dX4_loadRose_50 rfl ?_
      refine ri_iconst C dX4_loadRose_51 kc_i0 ?_
      refine ri_putf C dX4_loadRose_52 fd_q2977_3 (fun h => nomatch h) (by first | assumption | (repeat (first | assumption | exact kx_rs (by assumption) | exact kx_ne2 (by omega) | exact kx_ne1 (by omega) | refine kx_ro (by assumption) ?_ ?_ | exact kx_rs rfl | refine kx_ro rfl ?_ ?_))) (Nat.le_of_ble_eq_true rfl) (by rfl) (by rfl) mo_set7 (fun s52 e52 => ?_)
      first | refine ri_aload_n C dX4_loadRose_55 rfl ?_ | refine ri_aload_nQ C dX4_loadRose_55 rfl ?_ | refine ri_aload_nN C dX4_loadRose_55 rfl ?_
      refine ri_iconst C dX4_loadRose_56 kc_i0 ?_
      refine ri_putf C dX4_loadRose_57 fd_q2978_3 (fun h => nomatch h) (by first | assumption | (repeat (first | assumption | exact kx_rs (by assumption) | exact kx_ne2 (by omega) | exact kx_ne1 (by omega) | refine kx_ro (by assumption) ?_ ?_ | exact kx_rs rfl | refine kx_ro rfl ?_ ?_))) (Nat.le_of_ble_eq_true rfl) rfl (by rfl) mo_set8 (fun s57 e57 => ?_)
      first | refine ri_aload_n C dX4_loadRose_60 rfl ?_ | refine ri_aload_nQ C dX4_loadRose_60 rfl ?_ | refine ri_aload_nN C dX4_loadRose_60 rfl ?_
      refine ri_getf C dX4_loadRose_61 fr_q2970_3 (by first | assumption | (repeat (first | assumption | exact kx_rs (by assumption) | exact kx_ne2 (by omega) | exact kx_ne1 (by omega) | refine kx_ro (by assumption) ?_ ?_ | exact kx_rs rfl | refine kx_ro rfl ?_ ?_))) (by rfl) ?_
      refine ri_iconst C dX4_loadRose_64 kc_i0 ?_
      first | refine ri_ialoadN C dX4_loadRose_65 (by first | assumption | (repeat (first | assumption | exact kx_rs (by assumption) | exact kx_ne2 (by omega) | exact kx_ne1 (by omega) | refine kx_ro (by assumption) ?_ ?_ | exact kx_rs rfl | refine kx_ro rfl ?_ ?_))) rfl (by omega) ?_ | refine ri_iaload C dX4_loadRose_65 (by first | assumption | (repeat (first | assumption | exact kx_rs (by assumption) | exact kx_ne2 (by omega) | exact kx_ne1 (by omega) | refine kx_ro (by assumption) ?_ ?_ | exact kx_rs rfl | refine kx_ro rfl ?_ ?_))) rfl (by omega) ?_
      refine ri_iret C hQ dX4_loadRose_66 rfl (Nat.le_of_ble_eq_true rfl) (Nat.le_of_ble_eq_true rfl) ⟨mo_z (mo_z (mo_en z3) 7 (nI 0)) 8 (nI 0), _, va_cpy (mx_w u) K 0 0 1417, M3, ⟨(by first | assumption | (repeat (first | assumption | exact kx_rs (by assumption) | exact kx_ne2 (by omega) | exact kx_ne1 (by omega) | refine kx_ro (by assumption) ?_ ?_ | exact kx_rs rfl | refine kx_ro rfl ?_ ?_))), (by first | assumption | (repeat (first | assumption | exact kx_rs (by assumption) | exact kx_ne2 (by omega) | exact kx_ne1 (by omega) | refine kx_ro (by assumption) ?_ ?_ | exact kx_rs rfl | refine kx_ro rfl ?_ ?_))), (by first | assumption | (repeat (first | assumption | exact kx_rs (by assumption) | exact kx_ne2 (by omega) | exact kx_ne1 (by omega) | refine kx_ro (by assumption) ?_ ?_ | exact kx_rs rfl | refine kx_ro rfl ?_ ?_))), (by first | assumption | (repeat (first | assumption | exact kx_rs (by assumption) | exact kx_ne2 (by omega) | exact kx_ne1 (by omega) | refine kx_ro (by assumption) ?_ ?_ | exact kx_rs rfl | refine kx_ro rfl ?_ ?_))), ?_, ?_⟩, ?_, ?_, ?_, fun e' he => ?_, fun x' hx => ?_⟩
      · exact (fun k k0 k1 k2 k3 => by rw [e57, e52, e28, P, e19, e15, e2]; simp only [kx_up, Prod.mk.injEq, true_and, k0, k1, k2, k3, if_false])
      · exact (fun t ht => by rw [e57, e52, e28, P, e19, e15, e2]; have g : ∀ k, t ≠ (1, k) := fun k h => ht (by rw [h]); simp only [kx_up, g, if_false])
      · exact ((mo_z_o (by decide)).trans ((mo_z_o (by decide)).trans (mo_en_k (by decide)))).trans ((ek 9 (by omega)).trans mo_z_s)
      · rfl
      · exact ((mo_z_o (by decide)).trans ((mo_z_o (by decide)).trans (mo_en_k (by decide)))).trans (ek 27 (by omega))
      · rw [hr] at he; cases he
      · rw [hr] at hx; injection hx with hx; subst hx
        exact ⟨rfl, rfl, hok, rfl, rfl, q14, q15⟩
    · exact absurd h32 (by decide) --dead
