/-! the reference: what writes its row -/
set_option maxRecDepth 100000
set_option maxHeartbeats 1000000 in
theorem mt_X4_fails {l : Launch} {G : kx_G} (htr : l.stackTraces = false) {σ : kx_H} {mo : Nat} {ad : Nat → Nat} {z : Nat → Int32} {b : Bool} {n : Nat} (h0 : σ (1, 0) = some (mo, .inr (3, mo_L ad z))) : kx_SP l G yX4_fails (ws_ yX4_fails cX4_fails 3 (some .boolean)) 1 0 0 [.ref mo, .int (kx_b b), .int (nI n)] σ (fun v τ => v = some (.int (kx_b b)) ∧ τ = (bif b then kx_up σ (1, 0) (mo, .inr (3, mo_L ad (mo_z z 9 (nI n)))) else σ)) kx_nx := by
  refine kx_body htr (by decide +kernel) (own := "RoseProverbsModel") (nm := "fails") rfl rfl (Nat.le_of_ble_eq_true rfl) ?_
  intro p e s m args below meth c Q C hQ
  refine ri_iload_n C dX4_fails_0 rfl ?_
  first | refine ri_if_eqB C 9 dX4_fails_1 rfl (fun h1 => ?_) (fun h1 => ?_) | refine ri_if_eqN C 9 dX4_fails_1 rfl (by omega) (fun h1 => ?_) (fun h1 => ?_) | refine ri_if_eq C 9 dX4_fails_1 rfl (fun h1 => ?_) (fun h1 => ?_)
  · refine ri_iload_n C dX4_fails_9 rfl ?_
    exact ri_iret C hQ dX4_fails_10 (kx_b_nar _) (Nat.le_of_ble_eq_true rfl) (Nat.le_of_ble_eq_true rfl) ⟨rfl, by rw [h1]; first | rfl | (rw [e6]; rfl)⟩
  · first | refine ri_aload_n C dX4_fails_4 rfl ?_ | refine ri_aload_nQ C dX4_fails_4 rfl ?_ | refine ri_aload_nN C dX4_fails_4 rfl ?_
    refine ri_iload_n C dX4_fails_5 rfl ?_
    refine ri_putf C dX4_fails_6 fd_q2979_3 (fun h => nomatch h) (by first | assumption | (repeat (first | assumption | exact kx_rs (by assumption) | exact kx_ne2 (by omega) | exact kx_ne1 (by omega) | refine kx_ro (by assumption) ?_ ?_ | exact kx_rs rfl | refine kx_ro rfl ?_ ?_))) (Nat.le_of_ble_eq_true rfl) (by rfl) (by rfl) mo_set9 (fun s6 e6 => ?_)
    refine ri_iload_n C dX4_fails_9 rfl ?_
    exact ri_iret C hQ dX4_fails_10 (kx_b_nar _) (Nat.le_of_ble_eq_true rfl) (Nat.le_of_ble_eq_true rfl) ⟨rfl, by rw [h1]; first | rfl | (rw [e6]; rfl)⟩
set_option maxHeartbeats 1000000 in
theorem mt_X4_counts {l : Launch} {G : kx_G} (htr : l.stackTraces = false) {σ : kx_H} {mo : Nat} {ad : Nat → Nat} {z : Nat → Int32} {u : Nat → Nat} {a n : Nat} (h0 : σ (1, 0) = some (mo, .inr (3, mo_L ad z))) (hw : σ (1, 1) = some (ad 0, kx_ai G 1417 (mx_w u))) (ha : a < 9) : kx_SP l G yX4_counts (ws_ yX4_counts cX4_counts 3 none) 1 0 0 [.ref mo, .int (nI a), .int (nI n)] σ (fun v τ => v = none ∧ τ = kx_up σ (1, 1) (ad 0, kx_ai G 1417 (mx_w (mx_cn u a n)))) kx_nx := by
  refine kx_body htr (by decide +kernel) (own := "RoseProverbsModel") (nm := "counts") rfl rfl (Nat.le_of_ble_eq_true rfl) ?_
  intro p e s m args below meth c Q C hQ
  first | refine ri_aload_n C dX4_counts_0 rfl ?_ | refine ri_aload_nQ C dX4_counts_0 rfl ?_ | refine ri_aload_nN C dX4_counts_0 rfl ?_
  refine ri_getf C dX4_counts_1 fr_q2970_3 (by first | assumption | (repeat (first | assumption | exact kx_rs (by assumption) | exact kx_ne2 (by omega) | exact kx_ne1 (by omega) | refine kx_ro (by assumption) ?_ ?_ | exact kx_rs rfl | refine kx_ro rfl ?_ ?_))) (by rfl) ?_
  refine ri_bipush C dX4_counts_4 kc_b8 ?_
  refine ri_iload_n C dX4_counts_6 rfl ?_
  first | refine ri_iaddN C dX4_counts_7 ?_ | refine ri_iadd C dX4_counts_7 ?_
  refine ri_dup2 C dX4_counts_8 rfl rfl ?_
  first | refine ri_ialoadN C dX4_counts_9 (by first | assumption | (repeat (first | assumption | exact kx_rs (by assumption) | exact kx_ne2 (by omega) | exact kx_ne1 (by omega) | refine kx_ro (by assumption) ?_ ?_ | exact kx_rs rfl | refine kx_ro rfl ?_ ?_))) rfl (by omega) ?_ | refine ri_iaload C dX4_counts_9 (by first | assumption | (repeat (first | assumption | exact kx_rs (by assumption) | exact kx_ne2 (by omega) | exact kx_ne1 (by omega) | refine kx_ro (by assumption) ?_ ?_ | exact kx_rs rfl | refine kx_ro rfl ?_ ?_))) rfl (by omega) ?_
  refine ri_iload_n C dX4_counts_10 rfl ?_
  first | refine ri_iaddN C dX4_counts_11 ?_ | refine ri_iadd C dX4_counts_11 ?_
  refine ri_iastore C dX4_counts_12 (by first | assumption | (repeat (first | assumption | exact kx_rs (by assumption) | exact kx_ne2 (by omega) | exact kx_ne1 (by omega) | refine kx_ro (by assumption) ?_ ?_ | exact kx_rs rfl | refine kx_ro rfl ?_ ?_))) rfl (by omega) (fun s12 e12 => ?_)
  rw [mx_upd] at e12
  exact ri_vret C hQ dX4_counts_13 (Nat.le_of_ble_eq_true rfl) (Nat.le_of_ble_eq_true rfl) ⟨rfl, e12⟩
set_option maxHeartbeats 1000000 in
theorem mt_X4_puts {l : Launch} {G : kx_G} (htr : l.stackTraces = false) {σ : kx_H} {mo : Nat} {ad : Nat → Nat} {z : Nat → Int32} {u : Nat → Nat} {k j n : Nat} (h0 : σ (1, 0) = some (mo, .inr (3, mo_L ad z))) (hw : σ (1, 1) = some (ad 0, kx_ai G 1417 (mx_w u))) (hk : k < 24 ∧ j < 10) : kx_SP l G yX4_puts (ws_ yX4_puts cX4_puts 4 none) 1 0 0 [.ref mo, .int (nI k), .int (nI j), .int (nI n)] σ (fun v τ => v = none ∧ τ = kx_up σ (1, 1) (ad 0, kx_ai G 1417 (mx_w (mx_pp u k j n)))) kx_nx := by
  refine kx_body htr (by decide +kernel) (own := "RoseProverbsModel") (nm := "puts") rfl rfl (Nat.le_of_ble_eq_true rfl) ?_
  intro p e s m args below meth c Q C hQ
  first | refine ri_aload_n C dX4_puts_0 rfl ?_ | refine ri_aload_nQ C dX4_puts_0 rfl ?_ | refine ri_aload_nN C dX4_puts_0 rfl ?_
  refine ri_getf C dX4_puts_1 fr_q2970_3 (by first | assumption | (repeat (first | assumption | exact kx_rs (by assumption) | exact kx_ne2 (by omega) | exact kx_ne1 (by omega) | refine kx_ro (by assumption) ?_ ?_ | exact kx_rs rfl | refine kx_ro rfl ?_ ?_))) (by rfl) ?_
  refine ri_bipush C dX4_puts_4 kc_b25 ?_
  refine ri_bipush C dX4_puts_6 kc_b10 ?_
  refine ri_iload_n C dX4_puts_8 rfl ?_
  first | refine ri_imulN C dX4_puts_9 ?_ | refine ri_imul C dX4_puts_9 ?_
  first | refine ri_iaddN C dX4_puts_10 ?_ | refine ri_iadd C dX4_puts_10 ?_
  refine ri_iload_n C dX4_puts_11 rfl ?_
  first | refine ri_iaddN C dX4_puts_12 ?_ | refine ri_iadd C dX4_puts_12 ?_
  refine ri_iload_n C dX4_puts_13 rfl ?_
  refine ri_iastore C dX4_puts_14 (by first | assumption | (repeat (first | assumption | exact kx_rs (by assumption) | exact kx_ne2 (by omega) | exact kx_ne1 (by omega) | refine kx_ro (by assumption) ?_ ?_ | exact kx_rs rfl | refine kx_ro rfl ?_ ?_))) rfl (by omega) (fun s14 e14 => ?_)
  rw [mx_upd] at e14
  exact ri_vret C hQ dX4_puts_15 (Nat.le_of_ble_eq_true rfl) (Nat.le_of_ble_eq_true rfl) ⟨rfl, e14⟩
set_option maxHeartbeats 1000000 in
theorem mt_X4_adds {l : Launch} {G : kx_G} (htr : l.stackTraces = false) {σ : kx_H} {mo : Nat} {ad : Nat → Nat} {z : Nat → Int32} {u : Nat → Nat} {a0 a1 a2 a3 a4 a5 : Nat} (h0 : σ (1, 0) = some (mo, .inr (3, mo_L ad z))) (hw : σ (1, 1) = some (ad 0, kx_ai G 1417 (mx_w u))) (hn : u 0 < 24) : kx_SP l G yX4_adds (ws_ yX4_adds cX4_adds 9 (some .int)) 2 0 0 [.ref mo, .int (nI a0), .int (nI a1), .int (nI a2), .int (nI a3), .int (nI a4), .int (nI a5)] σ (fun v τ => v = some (.int (nI (u 0))) ∧ τ = kx_up σ (1, 1) (ad 0, kx_ai G 1417 (mx_w (mx_adds u a0 a1 a2 a3 a4 a5)))) kx_nx := by
  refine kx_body htr (by decide +kernel) (own := "RoseProverbsModel") (nm := "adds") rfl rfl (Nat.le_of_ble_eq_true rfl) ?_
  intro p e s m args below meth c Q C hQ
  have LP : ∀ (wk i : Nat) (τ : kx_H), i ≤ 10 → 10 < i + wk → τ = kx_up σ (1, 1) (ad 0, kx_ai G 1417 (mx_w (mx_ad0 u i))) → kx_V G l p e (kx_rm 2 0 0) s m args below meth c 9 Q 11 [(0, .ref mo), (1, .int (nI a0)), (2, .int (nI a1)), (3, .int (nI a2)), (4, .int (nI a3)), (5, .int (nI a4)), (6, .int (nI a5)), (7, .int (nI (u 0))), (8, .int (nI i))] [] τ 0 0 := by
    intro wk
    induction wk with
    | zero => intro i τ h1 h2; exact absurd h2 (by omega)
    | succ wk ih =>
      intro i τ hi hwk hI
      refine ri_iload C dX4_adds_11 rfl ?_
      refine ri_bipush C dX4_adds_13 kc_b10 ?_
      first | refine ri_icmp_geN C 33 dX4_adds_15 rfl (by omega) (by omega) (fun h15 => ?_) (fun h15 => ?_) | refine ri_icmp_ge C 33 dX4_adds_15 rfl (fun h15 => ?_) (fun h15 => ?_)
      · obtain rfl : i = 10 := by omega
        first | refine ri_aload_n C dX4_adds_33 rfl ?_ | refine ri_aload_nQ C dX4_adds_33 rfl ?_ | refine ri_aload_nN C dX4_adds_33 rfl ?_
        refine ri_iload C dX4_adds_34 rfl ?_
        refine ri_iconst C dX4_adds_36 kc_i0 ?_
        refine ri_iload_n C dX4_adds_37 rfl ?_
        refine ri_callV C km_X4_puts q2966 qs59 dX4_adds_38 (mt_X4_puts htr (by first | assumption | (repeat (first | assumption | exact kx_rs (by assumption) | exact kx_ne2 (by omega) | exact kx_ne1 (by omega) | refine kx_ro (by assumption) ?_ ?_ | exact kx_rs rfl | refine kx_ro rfl ?_ ?_))) (by first | assumption | (repeat (first | assumption | exact kx_rs (by assumption) | exact kx_ne2 (by omega) | exact kx_ne1 (by omega) | refine kx_ro (by assumption) ?_ ?_ | exact kx_rs rfl | refine kx_ro rfl ?_ ?_))) (by omega)) rfl rfl (kx_rcN C (by first | assumption | (repeat (first | assumption | exact kx_rs (by assumption) | exact kx_ne2 (by omega) | exact kx_ne1 (by omega) | refine kx_ro (by assumption) ?_ ?_ | exact kx_rs rfl | refine kx_ro rfl ?_ ?_))) rfl) ⟨⟨(Nat.le_of_ble_eq_true rfl), (Nat.le_of_ble_eq_true rfl)⟩, (Nat.le_of_ble_eq_true rfl), (Nat.le_of_ble_eq_true rfl), (Nat.le_of_ble_eq_true rfl)⟩ (fun v38 s38 h38 => ?_) (fun _ _ _ h => h.elim)
        obtain ⟨rfl, e38⟩ := h38
        first | refine ri_aload_n C dX4_adds_41 rfl ?_ | refine ri_aload_nQ C dX4_adds_41 rfl ?_ | refine ri_aload_nN C dX4_adds_41 rfl ?_
        refine ri_iload C dX4_adds_42 rfl ?_
        refine ri_iconst C dX4_adds_44 kc_i1 ?_
        refine ri_iload_n C dX4_adds_45 rfl ?_
        refine ri_callV C km_X4_puts q2966 qs59 dX4_adds_46 (mt_X4_puts htr (by first | assumption | (repeat (first | assumption | exact kx_rs (by assumption) | exact kx_ne2 (by omega) | exact kx_ne1 (by omega) | refine kx_ro (by assumption) ?_ ?_ | exact kx_rs rfl | refine kx_ro rfl ?_ ?_))) (by first | assumption | (repeat (first | assumption | exact kx_rs (by assumption) | exact kx_ne2 (by omega) | exact kx_ne1 (by omega) | refine kx_ro (by assumption) ?_ ?_ | exact kx_rs rfl | refine kx_ro rfl ?_ ?_))) (by omega)) rfl rfl (kx_rcN C (by first | assumption | (repeat (first | assumption | exact kx_rs (by assumption) | exact kx_ne2 (by omega) | exact kx_ne1 (by omega) | refine kx_ro (by assumption) ?_ ?_ | exact kx_rs rfl | refine kx_ro rfl ?_ ?_))) rfl) ⟨⟨(Nat.le_of_ble_eq_true rfl), (Nat.le_of_ble_eq_true rfl)⟩, (Nat.le_of_ble_eq_true rfl), (Nat.le_of_ble_eq_true rfl), (Nat.le_of_ble_eq_true rfl)⟩ (fun v46 s46 h46 => ?_) (fun _ _ _ h => h.elim)
        obtain ⟨rfl, e46⟩ := h46
        first | refine ri_aload_n C dX4_adds_49 rfl ?_ | refine ri_aload_nQ C dX4_adds_49 rfl ?_ | refine ri_aload_nN C dX4_adds_49 rfl ?_
        refine ri_iload C dX4_adds_50 rfl ?_
        refine ri_iconst C dX4_adds_52 kc_i2 ?_
        refine ri_iload_n C dX4_adds_53 rfl ?_
        refine ri_callV C km_X4_puts q2966 qs59 dX4_adds_54 (mt_X4_puts htr (by first | assumption | (repeat (first | assumption | exact kx_rs (by assumption) | exact kx_ne2 (by omega) | exact kx_ne1 (by omega) | refine kx_ro (by assumption) ?_ ?_ | exact kx_rs rfl | refine kx_ro rfl ?_ ?_))) (by first | assumption | (repeat (first | assumption | exact kx_rs (by assumption) | exact kx_ne2 (by omega) | exact kx_ne1 (by omega) | refine kx_ro (by assumption) ?_ ?_ | exact kx_rs rfl | refine kx_ro rfl ?_ ?_))) (by omega)) rfl rfl (kx_rcN C (by first | assumption | (repeat (first | assumption | exact kx_rs (by assumption) | exact kx_ne2 (by omega) | exact kx_ne1 (by omega) | refine kx_ro (by assumption) ?_ ?_ | exact kx_rs rfl | refine kx_ro rfl ?_ ?_))) rfl) ⟨⟨(Nat.le_of_ble_eq_true rfl), (Nat.le_of_ble_eq_true rfl)⟩, (Nat.le_of_ble_eq_true rfl), (Nat.le_of_ble_eq_true rfl), (Nat.le_of_ble_eq_true rfl)⟩ (fun v54 s54 h54 => ?_) (fun _ _ _ h => h.elim)
        obtain ⟨rfl, e54⟩ := h54
        first | refine ri_aload_n C dX4_adds_57 rfl ?_ | refine ri_aload_nQ C dX4_adds_57 rfl ?_ | refine ri_aload_nN C dX4_adds_57 rfl ?_
        refine ri_iload C dX4_adds_58 rfl ?_
        refine ri_iconst C dX4_adds_60 kc_i3 ?_
        refine ri_iload C dX4_adds_61 rfl ?_
        refine ri_callV C km_X4_puts q2966 qs59 dX4_adds_63 (mt_X4_puts htr (by first | assumption | (repeat (first | assumption | exact kx_rs (by assumption) | exact kx_ne2 (by omega) | exact kx_ne1 (by omega) | refine kx_ro (by assumption) ?_ ?_ | exact kx_rs rfl | refine kx_ro rfl ?_ ?_))) (by first | assumption | (repeat (first | assumption | exact kx_rs (by assumption) | exact kx_ne2 (by omega) | exact kx_ne1 (by omega) | refine kx_ro (by assumption) ?_ ?_ | exact kx_rs rfl | refine kx_ro rfl ?_ ?_))) (by omega)) rfl rfl (kx_rcN C (by first | assumption | (repeat (first | assumption | exact kx_rs (by assumption) | exact kx_ne2 (by omega) | exact kx_ne1 (by omega) | refine kx_ro (by assumption) ?_ ?_ | exact kx_rs rfl | refine kx_ro rfl ?_ ?_))) rfl) ⟨⟨(Nat.le_of_ble_eq_true rfl), (Nat.le_of_ble_eq_true rfl)⟩, (Nat.le_of_ble_eq_true rfl), (Nat.le_of_ble_eq_true rfl), (Nat.le_of_ble_eq_true rfl)⟩ (fun v63 s63 h63 => ?_) (fun _ _ _ h => h.elim)
        obtain ⟨rfl, e63⟩ := h63
        first | refine ri_aload_n C dX4_adds_66 rfl ?_ | refine ri_aload_nQ C dX4_adds_66 rfl ?_ | refine ri_aload_nN C dX4_adds_66 rfl ?_
        refine ri_iload C dX4_adds_67 rfl ?_
        refine ri_iconst C dX4_adds_69 kc_i4 ?_
        refine ri_iload C dX4_adds_70 rfl ?_
        refine ri_callV C km_X4_puts q2966 qs59 dX4_adds_72 (mt_X4_puts htr (by first | assumption | (repeat (first | assumption | exact kx_rs (by assumption) | exact kx_ne2 (by omega) | exact kx_ne1 (by omega) | refine kx_ro (by assumption) ?_ ?_ | exact kx_rs rfl | refine kx_ro rfl ?_ ?_))) (by first | assumption | (repeat (first | assumption | exact kx_rs (by assumption) | exact kx_ne2 (by omega) | exact kx_ne1 (by omega) | refine kx_ro (by assumption) ?_ ?_ | exact kx_rs rfl | refine kx_ro rfl ?_ ?_))) (by omega)) rfl rfl (kx_rcN C (by first | assumption | (repeat (first | assumption | exact kx_rs (by assumption) | exact kx_ne2 (by omega) | exact kx_ne1 (by omega) | refine kx_ro (by assumption) ?_ ?_ | exact kx_rs rfl | refine kx_ro rfl ?_ ?_))) rfl) ⟨⟨(Nat.le_of_ble_eq_true rfl), (Nat.le_of_ble_eq_true rfl)⟩, (Nat.le_of_ble_eq_true rfl), (Nat.le_of_ble_eq_true rfl), (Nat.le_of_ble_eq_true rfl)⟩ (fun v72 s72 h72 => ?_) (fun _ _ _ h => h.elim)
        obtain ⟨rfl, e72⟩ := h72
        first | refine ri_aload_n C dX4_adds_75 rfl ?_ | refine ri_aload_nQ C dX4_adds_75 rfl ?_ | refine ri_aload_nN C dX4_adds_75 rfl ?_
        refine ri_iload C dX4_adds_76 rfl ?_
        refine ri_iconst C dX4_adds_78 kc_i5 ?_
        refine ri_iload C dX4_adds_79 rfl ?_
        refine ri_callV C km_X4_puts q2966 qs59 dX4_adds_81 (mt_X4_puts htr (by first | assumption | (repeat (first | assumption | exact kx_rs (by assumption) | exact kx_ne2 (by omega) | exact kx_ne1 (by omega) | refine kx_ro (by assumption) ?_ ?_ | exact kx_rs rfl | refine kx_ro rfl ?_ ?_))) (by first | assumption | (repeat (first | assumption | exact kx_rs (by assumption) | exact kx_ne2 (by omega) | exact kx_ne1 (by omega) | refine kx_ro (by assumption) ?_ ?_ | exact kx_rs rfl | refine kx_ro rfl ?_ ?_))) (by omega)) rfl rfl (kx_rcN C (by first | assumption | (repeat (first | assumption | exact kx_rs (by assumption) | exact kx_ne2 (by omega) | exact kx_ne1 (by omega) | refine kx_ro (by assumption) ?_ ?_ | exact kx_rs rfl | refine kx_ro rfl ?_ ?_))) rfl) ⟨⟨(Nat.le_of_ble_eq_true rfl), (Nat.le_of_ble_eq_true rfl)⟩, (Nat.le_of_ble_eq_true rfl), (Nat.le_of_ble_eq_true rfl), (Nat.le_of_ble_eq_true rfl)⟩ (fun v81 s81 h81 => ?_) (fun _ _ _ h => h.elim)
        obtain ⟨rfl, e81⟩ := h81
        first | refine ri_aload_n C dX4_adds_84 rfl ?_ | refine ri_aload_nQ C dX4_adds_84 rfl ?_ | refine ri_aload_nN C dX4_adds_84 rfl ?_
        refine ri_iload C dX4_adds_85 rfl ?_
        refine ri_bipush C dX4_adds_87 kc_b6 ?_
        refine ri_iload C dX4_adds_89 rfl ?_
        refine ri_callV C km_X4_puts q2966 qs59 dX4_adds_91 (mt_X4_puts htr (by first | assumption | (repeat (first | assumption | exact kx_rs (by assumption) | exact kx_ne2 (by omega) | exact kx_ne1 (by omega) | refine kx_ro (by assumption) ?_ ?_ | exact kx_rs rfl | refine kx_ro rfl ?_ ?_))) (by first | assumption | (repeat (first | assumption | exact kx_rs (by assumption) | exact kx_ne2 (by omega) | exact kx_ne1 (by omega) | refine kx_ro (by assumption) ?_ ?_ | exact kx_rs rfl | refine kx_ro rfl ?_ ?_))) (by omega)) rfl rfl (kx_rcN C (by first | assumption | (repeat (first | assumption | exact kx_rs (by assumption) | exact kx_ne2 (by omega) | exact kx_ne1 (by omega) | refine kx_ro (by assumption) ?_ ?_ | exact kx_rs rfl | refine kx_ro rfl ?_ ?_))) rfl) ⟨⟨(Nat.le_of_ble_eq_true rfl), (Nat.le_of_ble_eq_true rfl)⟩, (Nat.le_of_ble_eq_true rfl), (Nat.le_of_ble_eq_true rfl), (Nat.le_of_ble_eq_true rfl)⟩ (fun v91 s91 h91 => ?_) (fun _ _ _ h => h.elim)
        obtain ⟨rfl, e91⟩ := h91
        first | refine ri_aload_n C dX4_adds_94 rfl ?_ | refine ri_aload_nQ C dX4_adds_94 rfl ?_ | refine ri_aload_nN C dX4_adds_94 rfl ?_
        refine ri_getf C dX4_adds_95 fr_q2970_3 (by first | assumption | (repeat (first | assumption | exact kx_rs (by assumption) | exact kx_ne2 (by omega) | exact kx_ne1 (by omega) | refine kx_ro (by assumption) ?_ ?_ | exact kx_rs rfl | refine kx_ro rfl ?_ ?_))) (by rfl) ?_
        refine ri_iconst C dX4_adds_98 kc_i0 ?_
        refine ri_dup2 C dX4_adds_99 rfl rfl ?_
        first | refine ri_ialoadN C dX4_adds_100 (by first | assumption | (repeat (first | assumption | exact kx_rs (by assumption) | exact kx_ne2 (by omega) | exact kx_ne1 (by omega) | refine kx_ro (by assumption) ?_ ?_ | exact kx_rs rfl | refine kx_ro rfl ?_ ?_))) rfl (by omega) ?_ | refine ri_iaload C dX4_adds_100 (by first | assumption | (repeat (first | assumption | exact kx_rs (by assumption) | exact kx_ne2 (by omega) | exact kx_ne1 (by omega) | refine kx_ro (by assumption) ?_ ?_ | exact kx_rs rfl | refine kx_ro rfl ?_ ?_))) rfl (by omega) ?_
        refine ri_iconst C dX4_adds_101 kc_i1 ?_
        first | refine ri_iaddN C dX4_adds_102 ?_ | refine ri_iadd C dX4_adds_102 ?_
        refine ri_iastore C dX4_adds_103 (by first | assumption | (repeat (first | assumption | exact kx_rs (by assumption) | exact kx_ne2 (by omega) | exact kx_ne1 (by omega) | refine kx_ro (by assumption) ?_ ?_ | exact kx_rs rfl | refine kx_ro rfl ?_ ?_))) rfl (by omega) (fun s103 e103 => ?_)
        rw [mx_upd] at e103
        refine ri_iload C dX4_adds_104 rfl ?_
        exact ri_iret C hQ dX4_adds_106 rfl (Nat.le_of_ble_eq_true rfl) (Nat.le_of_ble_eq_true rfl) ⟨rfl, by rw [e103, e91, e81, e72, e63, e54, e46, e38, hI]; simp only [kx_up_u]; unfold mx_adds; simp only [mx_pp_i (show 0 < 25 by decide), mx_ad0_i (show 0 < 25 by decide)]⟩
      · first | refine ri_aload_n C dX4_adds_18 rfl ?_ | refine ri_aload_nQ C dX4_adds_18 rfl ?_ | refine ri_aload_nN C dX4_adds_18 rfl ?_
        refine ri_iload C dX4_adds_19 rfl ?_
        refine ri_iload C dX4_adds_21 rfl ?_
        refine ri_iconst C dX4_adds_23 kc_i0 ?_
        refine ri_callV C km_X4_puts q2966 qs59 dX4_adds_24 (mt_X4_puts htr (by first | assumption | (repeat (first | assumption | exact kx_rs (by assumption) | exact kx_ne2 (by omega) | exact kx_ne1 (by omega) | refine kx_ro (by assumption) ?_ ?_ | exact kx_rs rfl | refine kx_ro rfl ?_ ?_))) (by first | assumption | (repeat (first | assumption | exact kx_rs (by assumption) | exact kx_ne2 (by omega) | exact kx_ne1 (by omega) | refine kx_ro (by assumption) ?_ ?_ | exact kx_rs rfl | refine kx_ro rfl ?_ ?_))) (by omega)) rfl rfl (kx_rcN C (by first | assumption | (repeat (first | assumption | exact kx_rs (by assumption) | exact kx_ne2 (by omega) | exact kx_ne1 (by omega) | refine kx_ro (by assumption) ?_ ?_ | exact kx_rs rfl | refine kx_ro rfl ?_ ?_))) rfl) ⟨⟨(Nat.le_of_ble_eq_true rfl), (Nat.le_of_ble_eq_true rfl)⟩, (Nat.le_of_ble_eq_true rfl), (Nat.le_of_ble_eq_true rfl), (Nat.le_of_ble_eq_true rfl)⟩ (fun v24 s24 h24 => ?_) (fun _ _ _ h => h.elim)
        obtain ⟨rfl, e24⟩ := h24
        first | refine ri_iincN C dX4_adds_27 rfl rfl (by decide) ?_ | refine ri_iinc C dX4_adds_27 rfl rfl rfl (by decide) ?_
        refine ri_goto C 11 dX4_adds_30 rfl ?_
        refine ri_lv2 (ih (i + 1) _ (by omega) (by omega) ?_) ⟨rfl, rfl, rfl, rfl, rfl, rfl, rfl, rfl, rfl, trivial⟩
        rw [e24, hI, kx_up_u]; rfl
  first | refine ri_aload_n C dX4_adds_0 rfl ?_ | refine ri_aload_nQ C dX4_adds_0 rfl ?_ | refine ri_aload_nN C dX4_adds_0 rfl ?_
  refine ri_getf C dX4_adds_1 fr_q2970_3 (by first | assumption | (repeat (first | assumption | exact kx_rs (by assumption) | exact kx_ne2 (by omega) | exact kx_ne1 (by omega) | refine kx_ro (by assumption) ?_ ?_ | exact kx_rs rfl | refine kx_ro rfl ?_ ?_))) (by rfl) ?_
  refine ri_iconst C dX4_adds_4 kc_i0 ?_
  first | refine ri_ialoadN C dX4_adds_5 (by first | assumption | (repeat (first | assumption | exact kx_rs (by assumption) | exact kx_ne2 (by omega) | exact kx_ne1 (by omega) | refine kx_ro (by assumption) ?_ ?_ | exact kx_rs rfl | refine kx_ro rfl ?_ ?_))) rfl (by omega) ?_ | refine ri_iaload C dX4_adds_5 (by first | assumption | (repeat (first | assumption | exact kx_rs (by assumption) | exact kx_ne2 (by omega) | exact kx_ne1 (by omega) | refine kx_ro (by assumption) ?_ ?_ | exact kx_rs rfl | refine kx_ro rfl ?_ ?_))) rfl (by omega) ?_
  refine ri_istore C dX4_adds_6 rfl (by decide) ?_
  refine ri_iconst C dX4_adds_8 kc_i0 ?_
  refine ri_istore C dX4_adds_9 rfl (by decide) ?_
  exact ri_lv2 (LP 11 0 σ (by omega) (by omega) (kx_up_i hw).symm) ⟨rfl, rfl, rfl, rfl, rfl, rfl, rfl, rfl, rfl, trivial⟩
set_option maxHeartbeats 1000000 in
theorem mt_X4_begins {l : Launch} {G : kx_G} (htr : l.stackTraces = false) {σ : kx_H} {mo : Nat} {ad : Nat → Nat} {z : Nat → Int32} {u : Nat → Nat} (h0 : σ (1, 0) = some (mo, .inr (3, mo_L ad z))) (hw : σ (1, 1) = some (ad 0, kx_ai G 1417 (mx_w u))) : kx_SP l G yX4_begins (ws_ yX4_begins cX4_begins 2 none) 1 0 0 [.ref mo] σ (fun v τ => v = none ∧ τ = kx_up σ (1, 1) (ad 0, kx_ai G 1417 (mx_w (mx_b0 u)))) kx_nx := by
  refine kx_body htr (by decide +kernel) (own := "RoseProverbsModel") (nm := "begins") rfl rfl (Nat.le_of_ble_eq_true rfl) ?_
  intro p e s m args below meth c Q C hQ
  have LP : ∀ (wk i : Nat) (τ : kx_H), i ≤ 1417 → 1417 < i + wk → τ = kx_up σ (1, 1) (ad 0, kx_ai G 1417 (mx_w (fun j => if j < i then 0 else u j))) → kx_V G l p e (kx_rm 1 0 0) s m args below meth c 2 Q 2 [(0, .ref mo), (1, .int (nI i))] [] τ 0 0 := by
    intro wk
    induction wk with
    | zero => intro i τ h1 h2; exact absurd h2 (by omega)
    | succ wk ih =>
      intro i τ hi hwk hI
      refine ri_iload_n C dX4_begins_2 rfl ?_
      refine ri_sipush C dX4_begins_3 kc_s1417 ?_
      first | refine ri_icmp_geN C 22 dX4_begins_6 rfl (by omega) (by omega) (fun h6 => ?_) (fun h6 => ?_) | refine ri_icmp_ge C 22 dX4_begins_6 rfl (fun h6 => ?_) (fun h6 => ?_)
      · obtain rfl : i = 1417 := by omega
        first | refine ri_aload_n C dX4_begins_22 rfl ?_ | refine ri_aload_nQ C dX4_begins_22 rfl ?_ | refine ri_aload_nN C dX4_begins_22 rfl ?_
        refine ri_getf C dX4_begins_23 fr_q2970_3 (by first | assumption | (repeat (first | assumption | exact kx_rs (by assumption) | exact kx_ne2 (by omega) | exact kx_ne1 (by omega) | refine kx_ro (by assumption) ?_ ?_ | exact kx_rs rfl | refine kx_ro rfl ?_ ?_))) (by rfl) ?_
        refine ri_bipush C dX4_begins_26 kc_b6 ?_
        refine ri_bipush C dX4_begins_28 kc_b10 ?_
        refine ri_iastore C dX4_begins_30 (by first | assumption | (repeat (first | assumption | exact kx_rs (by assumption) | exact kx_ne2 (by omega) | exact kx_ne1 (by omega) | refine kx_ro (by assumption) ?_ ?_ | exact kx_rs rfl | refine kx_ro rfl ?_ ?_))) rfl (by omega) (fun s30 e30 => ?_)
        rw [mx_upd] at e30
        first | refine ri_aload_n C dX4_begins_31 rfl ?_ | refine ri_aload_nQ C dX4_begins_31 rfl ?_ | refine ri_aload_nN C dX4_begins_31 rfl ?_
        refine ri_getf C dX4_begins_32 fr_q2970_3 (by first | assumption | (repeat (first | assumption | exact kx_rs (by assumption) | exact kx_ne2 (by omega) | exact kx_ne1 (by omega) | refine kx_ro (by assumption) ?_ ?_ | exact kx_rs rfl | refine kx_ro rfl ?_ ?_))) (by rfl) ?_
        refine ri_bipush C dX4_begins_35 kc_b7 ?_
        refine ri_bipush C dX4_begins_37 kc_b20 ?_
        refine ri_iastore C dX4_begins_39 (by first | assumption | (repeat (first | assumption | exact kx_rs (by assumption) | exact kx_ne2 (by omega) | exact kx_ne1 (by omega) | refine kx_ro (by assumption) ?_ ?_ | exact kx_rs rfl | refine kx_ro rfl ?_ ?_))) rfl (by omega) (fun s39 e39 => ?_)
        rw [mx_upd] at e39
        exact ri_vret C hQ dX4_begins_40 (Nat.le_of_ble_eq_true rfl) (Nat.le_of_ble_eq_true rfl) ⟨rfl, by rw [e39, e30, hI]; simp only [kx_up_u]; exact kx_upw (fun j => rfl)⟩
      · first | refine ri_aload_n C dX4_begins_9 rfl ?_ | refine ri_aload_nQ C dX4_begins_9 rfl ?_ | refine ri_aload_nN C dX4_begins_9 rfl ?_
        refine ri_getf C dX4_begins_10 fr_q2970_3 (by first | assumption | (repeat (first | assumption | exact kx_rs (by assumption) | exact kx_ne2 (by omega) | exact kx_ne1 (by omega) | refine kx_ro (by assumption) ?_ ?_ | exact kx_rs rfl | refine kx_ro rfl ?_ ?_))) (by rfl) ?_
        refine ri_iload_n C dX4_begins_13 rfl ?_
        refine ri_iconst C dX4_begins_14 kc_i0 ?_
        refine ri_iastore C dX4_begins_15 (by first | assumption | (repeat (first | assumption | exact kx_rs (by assumption) | exact kx_ne2 (by omega) | exact kx_ne1 (by omega) | refine kx_ro (by assumption) ?_ ?_ | exact kx_rs rfl | refine kx_ro rfl ?_ ?_))) rfl (by omega) (fun s15 e15 => ?_)
        rw [mx_upd] at e15
        first | refine ri_iincN C dX4_begins_16 rfl rfl (by decide) ?_ | refine ri_iinc C dX4_begins_16 rfl rfl rfl (by decide) ?_
        refine ri_goto C 2 dX4_begins_19 rfl ?_
        refine ri_lv2 (ih (i + 1) _ (by omega) (by omega) ?_) ⟨rfl, rfl, trivial⟩
        rw [e15, hI, kx_up_u]
        refine congrArg (fun f => kx_up σ (1, 1) (ad 0, kx_ai G 1417 (mx_w f))) ?_
        funext j; simp only [mx_s]; split <;> split <;> (try split) <;> first | rfl | omega
  refine ri_iconst C dX4_begins_0 kc_i0 ?_
  refine ri_istore_n C dX4_begins_1 rfl (by decide) ?_
  exact ri_lv2 (LP 1418 0 σ (by omega) (by omega) (by simp only [Nat.not_lt_zero, if_false]; exact (kx_up_i hw).symm)) ⟨rfl, rfl, trivial⟩
set_option maxHeartbeats 1000000 in
theorem mt_X4_copies {l : Launch} {G : kx_G} (htr : l.stackTraces = false) {σ : kx_H} {af at2 nf nt x y : Nat} {tf tt : kx_T} {f g : Nat → Int32} (hf : σ tf = some (af, kx_ai G nf f)) (ht : σ tt = some (at2, kx_ai G nt g)) (hne : tf ≠ tt) (hx : x + 1417 ≤ nf ∧ nf < 100000) (hy : y + 1417 ≤ nt ∧ nt < 100000) : kx_SP l G yX4_copies (ws_ yX4_copies cX4_copies 5 none) 1 0 0 [.ref af, .int (nI x), .ref at2, .int (nI y)] σ (fun v τ => v = none ∧ τ = kx_up σ tt (at2, kx_ai G nt (va_cpy f g x y 1417))) kx_nx := by
  refine kx_body htr (by decide +kernel) (own := "RoseProverbsModel") (nm := "copies") rfl rfl (Nat.le_of_ble_eq_true rfl) ?_
  intro p e s m args below meth c Q C hQ
  have LP : ∀ (wk i : Nat) (τ : kx_H), i ≤ 1417 → 1417 < i + wk → τ = kx_up σ tt (at2, kx_ai G nt (va_cpy f g x y i)) → kx_V G l p e (kx_rm 1 0 0) s m args below meth c 5 Q 3 [(0, .ref af), (1, .int (nI x)), (2, .ref at2), (3, .int (nI y)), (4, .int (nI i))] [] τ 0 0 := by
    intro wk
    induction wk with
    | zero => intro i τ h1 h2; exact absurd h2 (by omega)
    | succ wk ih =>
      intro i τ hi hwk hI
      refine ri_iload C dX4_copies_3 rfl ?_
      refine ri_sipush C dX4_copies_5 kc_s1417 ?_
      first | refine ri_icmp_geN C 29 dX4_copies_8 rfl (by omega) (by omega) (fun h8 => ?_) (fun h8 => ?_) | refine ri_icmp_ge C 29 dX4_copies_8 rfl (fun h8 => ?_) (fun h8 => ?_)
      · obtain rfl : i = 1417 := by omega
        exact ri_vret C hQ dX4_copies_29 (Nat.le_of_ble_eq_true rfl) (Nat.le_of_ble_eq_true rfl) ⟨rfl, hI⟩
      · first | refine ri_aload_n C dX4_copies_11 rfl ?_ | refine ri_aload_nQ C dX4_copies_11 rfl ?_ | refine ri_aload_nN C dX4_copies_11 rfl ?_
        refine ri_iload_n C dX4_copies_12 rfl ?_
        refine ri_iload C dX4_copies_13 rfl ?_
        first | refine ri_iaddN C dX4_copies_15 ?_ | refine ri_iadd C dX4_copies_15 ?_
        first | refine ri_aload_n C dX4_copies_16 rfl ?_ | refine ri_aload_nQ C dX4_copies_16 rfl ?_ | refine ri_aload_nN C dX4_copies_16 rfl ?_
        refine ri_iload_n C dX4_copies_17 rfl ?_
        refine ri_iload C dX4_copies_18 rfl ?_
        first | refine ri_iaddN C dX4_copies_20 ?_ | refine ri_iadd C dX4_copies_20 ?_
        first | refine ri_ialoadN C dX4_copies_21 (kx_ro hI hf hne) rfl (by omega) ?_ | refine ri_iaload C dX4_copies_21 (kx_ro hI hf hne) rfl (by omega) ?_
        refine ri_iastore C dX4_copies_22 (kx_rs hI) rfl (by omega) (fun s22 e22 => ?_)
        first | refine ri_iincN C dX4_copies_23 rfl rfl (by decide) ?_ | refine ri_iinc C dX4_copies_23 rfl rfl rfl (by decide) ?_
        refine ri_goto C 3 dX4_copies_26 rfl ?_
        refine ri_lv2 (ih (i + 1) _ (by omega) (by omega) ?_) ⟨rfl, rfl, rfl, rfl, rfl, trivial⟩
        rw [e22, hI, kx_up_u, kx_cpy_s]
  refine ri_iconst C dX4_copies_0 kc_i0 ?_
  refine ri_istore C dX4_copies_1 rfl (by decide) ?_
  exact ri_lv2 (LP 1418 0 σ (by omega) (by omega) (by rw [kx_cpy_0]; exact (kx_up_i ht).symm)) ⟨rfl, rfl, rfl, rfl, rfl, trivial⟩
set_option maxHeartbeats 1000000 in
theorem mt_X4_comes {l : Launch} {G : kx_G} (htr : l.stackTraces = false) {σ : kx_H} {mo : Nat} {ad : Nat → Nat} {z : Nat → Int32} {u : Nat → Nat} {a0 a1 a2 a3 a4 a5 : Nat} (h0 : σ (1, 0) = some (mo, .inr (3, mo_L ad z))) (hw : σ (1, 1) = some (ad 0, kx_ai G 1417 (mx_w u))) (hn : u 0 < 24) : kx_SP l G yX4_comes (ws_ yX4_comes cX4_comes 7 (some .int)) 3 0 0 [.ref mo, .int (nI a0), .int (nI a1), .int (nI a2), .int (nI a3), .int (nI a4), .int (nI a5)] σ (fun v τ => v = some (.int (nI (u 0))) ∧ τ = kx_up σ (1, 1) (ad 0, kx_ai G 1417 (mx_w (mx_adds (mx_cn u 6 1) a0 a1 a2 a3 a4 a5)))) kx_nx := by
  refine kx_body htr (by decide +kernel) (own := "RoseProverbsModel") (nm := "comes") rfl rfl (Nat.le_of_ble_eq_true rfl) ?_
  intro p e s m args below meth c Q C hQ
  first | refine ri_aload_n C dX4_comes_0 rfl ?_ | refine ri_aload_nQ C dX4_comes_0 rfl ?_ | refine ri_aload_nN C dX4_comes_0 rfl ?_
  refine ri_bipush C dX4_comes_1 kc_b6 ?_
  refine ri_iconst C dX4_comes_3 kc_i1 ?_
  refine ri_callV C km_X4_counts q3255 qs97 dX4_comes_4 (mt_X4_counts htr (by first | assumption | (repeat (first | assumption | exact kx_rs (by assumption) | exact kx_ne2 (by omega) | exact kx_ne1 (by omega) | refine kx_ro (by assumption) ?_ ?_ | exact kx_rs rfl | refine kx_ro rfl ?_ ?_))) (by first | assumption | (repeat (first | assumption | exact kx_rs (by assumption) | exact kx_ne2 (by omega) | exact kx_ne1 (by omega) | refine kx_ro (by assumption) ?_ ?_ | exact kx_rs rfl | refine kx_ro rfl ?_ ?_))) (by omega)) rfl rfl (kx_rcN C (by first | assumption | (repeat (first | assumption | exact kx_rs (by assumption) | exact kx_ne2 (by omega) | exact kx_ne1 (by omega) | refine kx_ro (by assumption) ?_ ?_ | exact kx_rs rfl | refine kx_ro rfl ?_ ?_))) rfl) ⟨⟨(Nat.le_of_ble_eq_true rfl), (Nat.le_of_ble_eq_true rfl)⟩, (Nat.le_of_ble_eq_true rfl), (Nat.le_of_ble_eq_true rfl), (Nat.le_of_ble_eq_true rfl)⟩ (fun v4 s4 h4 => ?_) (fun _ _ _ h => h.elim)
  obtain ⟨rfl, e4⟩ := h4
  have g : mx_cn u 6 1 0 = u 0 := mx_s_o (by decide)
  first | refine ri_aload_n C dX4_comes_7 rfl ?_ | refine ri_aload_nQ C dX4_comes_7 rfl ?_ | refine ri_aload_nN C dX4_comes_7 rfl ?_
  refine ri_iload_n C dX4_comes_8 rfl ?_
  refine ri_iload_n C dX4_comes_9 rfl ?_
  refine ri_iload_n C dX4_comes_10 rfl ?_
  refine ri_iload C dX4_comes_11 rfl ?_
  refine ri_iload C dX4_comes_13 rfl ?_
  refine ri_iload C dX4_comes_15 rfl ?_
  refine ri_callV C km_X4_adds q2962 qs58 dX4_comes_17 (mt_X4_adds htr (kx_ro e4 h0 (kx_ne2 (by omega))) (kx_rs e4) (by omega)) rfl rfl (kx_rcN C (by first | assumption | (repeat (first | assumption | exact kx_rs (by assumption) | exact kx_ne2 (by omega) | exact kx_ne1 (by omega) | refine kx_ro (by assumption) ?_ ?_ | exact kx_rs rfl | refine kx_ro rfl ?_ ?_))) rfl) ⟨⟨(Nat.le_of_ble_eq_true rfl), (Nat.le_of_ble_eq_true rfl)⟩, (Nat.le_of_ble_eq_true rfl), (Nat.le_of_ble_eq_true rfl), (Nat.le_of_ble_eq_true rfl)⟩ (fun v17 s17 h17 => ?_) (fun _ _ _ h => h.elim)
  obtain ⟨rfl, e17⟩ := h17
  exact ri_iret C hQ dX4_comes_20 rfl (Nat.le_of_ble_eq_true rfl) (Nat.le_of_ble_eq_true rfl) ⟨by rw [g], by rw [e17, e4, kx_up_u]⟩
set_option maxHeartbeats 1000000 in
theorem mt_X4_forgets {l : Launch} {G : kx_G} (htr : l.stackTraces = false) {σ : kx_H} {mo : Nat} {ad : Nat → Nat} {z : Nat → Int32} {u : Nat → Nat} {k : Nat} (h0 : σ (1, 0) = some (mo, .inr (3, mo_L ad z))) (hw : σ (1, 1) = some (ad 0, kx_ai G 1417 (mx_w u))) (hk : k < 24) (hu : mx_ok (mx_cn (mx_pp u k 9 1) 7 1)) : kx_SP l G yX4_forgets (ws_ yX4_forgets cX4_forgets 2 (some .int)) 7 0 0 [.ref mo, .int (nI k)] σ (fun v τ => v = some (.int (nI (mx_lm (mx_cn (mx_pp u k 9 1) 7 1)))) ∧ τ = kx_up σ (1, 1) (ad 0, kx_ai G 1417 (mx_w (mx_cn (mx_pp u k 9 1) 7 1)))) kx_nx := by
  refine kx_body htr (by decide +kernel) (own := "RoseProverbsModel") (nm := "forgets") rfl rfl (Nat.le_of_ble_eq_true rfl) ?_
  intro p e s m args below meth c Q C hQ
  first | refine ri_aload_n C dX4_forgets_0 rfl ?_ | refine ri_aload_nQ C dX4_forgets_0 rfl ?_ | refine ri_aload_nN C dX4_forgets_0 rfl ?_
  refine ri_iload_n C dX4_forgets_1 rfl ?_
  refine ri_bipush C dX4_forgets_2 kc_b9 ?_
  refine ri_iconst C dX4_forgets_4 kc_i1 ?_
  refine ri_callV C km_X4_puts q2966 qs59 dX4_forgets_5 (mt_X4_puts htr (by first | assumption | (repeat (first | assumption | exact kx_rs (by assumption) | exact kx_ne2 (by omega) | exact kx_ne1 (by omega) | refine kx_ro (by assumption) ?_ ?_ | exact kx_rs rfl | refine kx_ro rfl ?_ ?_))) (by first | assumption | (repeat (first | assumption | exact kx_rs (by assumption) | exact kx_ne2 (by omega) | exact kx_ne1 (by omega) | refine kx_ro (by assumption) ?_ ?_ | exact kx_rs rfl | refine kx_ro rfl ?_ ?_))) (by omega)) rfl rfl (kx_rcN C (by first | assumption | (repeat (first | assumption | exact kx_rs (by assumption) | exact kx_ne2 (by omega) | exact kx_ne1 (by omega) | refine kx_ro (by assumption) ?_ ?_ | exact kx_rs rfl | refine kx_ro rfl ?_ ?_))) rfl) ⟨⟨(Nat.le_of_ble_eq_true rfl), (Nat.le_of_ble_eq_true rfl)⟩, (Nat.le_of_ble_eq_true rfl), (Nat.le_of_ble_eq_true rfl), (Nat.le_of_ble_eq_true rfl)⟩ (fun v5 s5 h5 => ?_) (fun _ _ _ h => h.elim)
  obtain ⟨rfl, e5⟩ := h5
  first | refine ri_aload_n C dX4_forgets_8 rfl ?_ | refine ri_aload_nQ C dX4_forgets_8 rfl ?_ | refine ri_aload_nN C dX4_forgets_8 rfl ?_
  refine ri_bipush C dX4_forgets_9 kc_b7 ?_
  refine ri_iconst C dX4_forgets_11 kc_i1 ?_
  refine ri_callV C km_X4_counts q3255 qs97 dX4_forgets_12 (mt_X4_counts htr (by first | assumption | (repeat (first | assumption | exact kx_rs (by assumption) | exact kx_ne2 (by omega) | exact kx_ne1 (by omega) | refine kx_ro (by assumption) ?_ ?_ | exact kx_rs rfl | refine kx_ro rfl ?_ ?_))) (by first | assumption | (repeat (first | assumption | exact kx_rs (by assumption) | exact kx_ne2 (by omega) | exact kx_ne1 (by omega) | refine kx_ro (by assumption) ?_ ?_ | exact kx_rs rfl | refine kx_ro rfl ?_ ?_))) (by omega)) rfl rfl (kx_rcN C (by first | assumption | (repeat (first | assumption | exact kx_rs (by assumption) | exact kx_ne2 (by omega) | exact kx_ne1 (by omega) | refine kx_ro (by assumption) ?_ ?_ | exact kx_rs rfl | refine kx_ro rfl ?_ ?_))) rfl) ⟨⟨(Nat.le_of_ble_eq_true rfl), (Nat.le_of_ble_eq_true rfl)⟩, (Nat.le_of_ble_eq_true rfl), (Nat.le_of_ble_eq_true rfl), (Nat.le_of_ble_eq_true rfl)⟩ (fun v12 s12 h12 => ?_) (fun _ _ _ h => h.elim)
  obtain ⟨rfl, e12⟩ := h12
  first | refine ri_aload_n C dX4_forgets_15 rfl ?_ | refine ri_aload_nQ C dX4_forgets_15 rfl ?_ | refine ri_aload_nN C dX4_forgets_15 rfl ?_
  refine ri_callV C km_X4_liveMany q3279 qs103 dX4_forgets_16 (mt_X4_liveMany htr (by first | assumption | (repeat (first | assumption | exact kx_rs (by assumption) | exact kx_ne2 (by omega) | exact kx_ne1 (by omega) | refine kx_ro (by assumption) ?_ ?_ | exact kx_rs rfl | refine kx_ro rfl ?_ ?_))) (by first | assumption | (repeat (first | assumption | exact kx_rs (by assumption) | exact kx_ne2 (by omega) | exact kx_ne1 (by omega) | refine kx_ro (by assumption) ?_ ?_ | exact kx_rs rfl | refine kx_ro rfl ?_ ?_))) hu) rfl rfl (kx_rcN C (by first | assumption | (repeat (first | assumption | exact kx_rs (by assumption) | exact kx_ne2 (by omega) | exact kx_ne1 (by omega) | refine kx_ro (by assumption) ?_ ?_ | exact kx_rs rfl | refine kx_ro rfl ?_ ?_))) rfl) ⟨⟨(Nat.le_of_ble_eq_true rfl), (Nat.le_of_ble_eq_true rfl)⟩, (Nat.le_of_ble_eq_true rfl), (Nat.le_of_ble_eq_true rfl), (Nat.le_of_ble_eq_true rfl)⟩ (fun v16 s16 h16 => ?_) (fun _ _ _ h => h.elim)
  obtain ⟨rfl, rfl⟩ := h16
  exact ri_iret C hQ dX4_forgets_19 rfl (Nat.le_of_ble_eq_true rfl) (Nat.le_of_ble_eq_true rfl) ⟨rfl, by rw [e12, e5, kx_up_u]⟩
set_option maxHeartbeats 1000000 in
theorem mt_X4_weighs {l : Launch} {G : kx_G} (htr : l.stackTraces = false) {σ : kx_H} {mo : Nat} {ad : Nat → Nat} {z : Nat → Int32} {u : Nat → Nat} {k x : Nat} (h0 : σ (1, 0) = some (mo, .inr (3, mo_L ad z))) (hw : σ (1, 1) = some (ad 0, kx_ai G 1417 (mx_w u))) (hk : k < 24) : kx_SP l G yX4_weighs (ws_ yX4_weighs cX4_weighs 4 (some .int)) 2 0 0 [.ref mo, .int (nI k), .int (nI x)] σ (fun v τ => v = some (.int (nI (mx_p u k 6))) ∧ τ = kx_up σ (1, 1) (ad 0, kx_ai G 1417 (mx_w (mx_pp u k 6 x)))) kx_nx := by
  refine kx_body htr (by decide +kernel) (own := "RoseProverbsModel") (nm := "weighs") rfl rfl (Nat.le_of_ble_eq_true rfl) ?_
  intro p e s m args below meth c Q C hQ
  first | refine ri_aload_n C dX4_weighs_0 rfl ?_ | refine ri_aload_nQ C dX4_weighs_0 rfl ?_ | refine ri_aload_nN C dX4_weighs_0 rfl ?_
  refine ri_iload_n C dX4_weighs_1 rfl ?_
  refine ri_bipush C dX4_weighs_2 kc_b6 ?_
  refine ri_callV C km_X4_of q3140 qs75 dX4_weighs_4 (mt_X4_of htr h0 hw (by omega)) rfl rfl (kx_rcN C (by first | assumption | (repeat (first | assumption | exact kx_rs (by assumption) | exact kx_ne2 (by omega) | exact kx_ne1 (by omega) | refine kx_ro (by assumption) ?_ ?_ | exact kx_rs rfl | refine kx_ro rfl ?_ ?_))) rfl) ⟨⟨(Nat.le_of_ble_eq_true rfl), (Nat.le_of_ble_eq_true rfl)⟩, (Nat.le_of_ble_eq_true rfl), (Nat.le_of_ble_eq_true rfl), (Nat.le_of_ble_eq_true rfl)⟩ (fun v4 s4 h4 => ?_) (fun _ _ _ h => h.elim)
  obtain ⟨rfl, rfl⟩ := h4
  refine ri_istore_n C dX4_weighs_7 rfl (by decide) ?_
  first | refine ri_aload_n C dX4_weighs_8 rfl ?_ | refine ri_aload_nQ C dX4_weighs_8 rfl ?_ | refine ri_aload_nN C dX4_weighs_8 rfl ?_
  refine ri_iload_n C dX4_weighs_9 rfl ?_
  refine ri_bipush C dX4_weighs_10 kc_b6 ?_
  refine ri_iload_n C dX4_weighs_12 rfl ?_
  refine ri_callV C km_X4_puts q2966 qs59 dX4_weighs_13 (mt_X4_puts htr (by first | assumption | (repeat (first | assumption | exact kx_rs (by assumption) | exact kx_ne2 (by omega) | exact kx_ne1 (by omega) | refine kx_ro (by assumption) ?_ ?_ | exact kx_rs rfl | refine kx_ro rfl ?_ ?_))) (by first | assumption | (repeat (first | assumption | exact kx_rs (by assumption) | exact kx_ne2 (by omega) | exact kx_ne1 (by omega) | refine kx_ro (by assumption) ?_ ?_ | exact kx_rs rfl | refine kx_ro rfl ?_ ?_))) (by omega)) rfl rfl (kx_rcN C (by first | assumption | (repeat (first | assumption | exact kx_rs (by assumption) | exact kx_ne2 (by omega) | exact kx_ne1 (by omega) | refine kx_ro (by assumption) ?_ ?_ | exact kx_rs rfl | refine kx_ro rfl ?_ ?_))) rfl) ⟨⟨(Nat.le_of_ble_eq_true rfl), (Nat.le_of_ble_eq_true rfl)⟩, (Nat.le_of_ble_eq_true rfl), (Nat.le_of_ble_eq_true rfl), (Nat.le_of_ble_eq_true rfl)⟩ (fun v13 s13 h13 => ?_) (fun _ _ _ h => h.elim)
  obtain ⟨rfl, e13⟩ := h13
  refine ri_iload_n C dX4_weighs_16 rfl ?_
  exact ri_iret C hQ dX4_weighs_17 rfl (Nat.le_of_ble_eq_true rfl) (Nat.le_of_ble_eq_true rfl) ⟨rfl, e13⟩
set_option maxHeartbeats 1000000 in
theorem mt_X4_sets {l : Launch} {G : kx_G} (htr : l.stackTraces = false) {σ : kx_H} {mo : Nat} {ad : Nat → Nat} {z : Nat → Int32} {u : Nat → Nat} {k x : Nat} (h0 : σ (1, 0) = some (mo, .inr (3, mo_L ad z))) (hw : σ (1, 1) = some (ad 0, kx_ai G 1417 (mx_w u))) (hk : k < 1417) : kx_SP l G yX4_sets (ws_ yX4_sets cX4_sets 4 (some .int)) 1 0 0 [.ref mo, .int (nI k), .int (nI x)] σ (fun v τ => v = some (.int (nI (u k))) ∧ τ = kx_up σ (1, 1) (ad 0, kx_ai G 1417 (mx_w (mx_s u k x)))) kx_nx := by
  refine kx_body htr (by decide +kernel) (own := "RoseProverbsModel") (nm := "sets") rfl rfl (Nat.le_of_ble_eq_true rfl) ?_
  intro p e s m args below meth c Q C hQ
  first | refine ri_aload_n C dX4_sets_0 rfl ?_ | refine ri_aload_nQ C dX4_sets_0 rfl ?_ | refine ri_aload_nN C dX4_sets_0 rfl ?_
  refine ri_getf C dX4_sets_1 fr_q2970_3 (by first | assumption | (repeat (first | assumption | exact kx_rs (by assumption) | exact kx_ne2 (by omega) | exact kx_ne1 (by omega) | refine kx_ro (by assumption) ?_ ?_ | exact kx_rs rfl | refine kx_ro rfl ?_ ?_))) (by rfl) ?_
  refine ri_iload_n C dX4_sets_4 rfl ?_
  first | refine ri_ialoadN C dX4_sets_5 (by first | assumption | (repeat (first | assumption | exact kx_rs (by assumption) | exact kx_ne2 (by omega) | exact kx_ne1 (by omega) | refine kx_ro (by assumption) ?_ ?_ | exact kx_rs rfl | refine kx_ro rfl ?_ ?_))) rfl (by omega) ?_ | refine ri_iaload C dX4_sets_5 (by first | assumption | (repeat (first | assumption | exact kx_rs (by assumption) | exact kx_ne2 (by omega) | exact kx_ne1 (by omega) | refine kx_ro (by assumption) ?_ ?_ | exact kx_rs rfl | refine kx_ro rfl ?_ ?_))) rfl (by omega) ?_
  refine ri_istore_n C dX4_sets_6 rfl (by decide) ?_
  first | refine ri_aload_n C dX4_sets_7 rfl ?_ | refine ri_aload_nQ C dX4_sets_7 rfl ?_ | refine ri_aload_nN C dX4_sets_7 rfl ?_
  refine ri_getf C dX4_sets_8 fr_q2970_3 (by first | assumption | (repeat (first | assumption | exact kx_rs (by assumption) | exact kx_ne2 (by omega) | exact kx_ne1 (by omega) | refine kx_ro (by assumption) ?_ ?_ | exact kx_rs rfl | refine kx_ro rfl ?_ ?_))) (by rfl) ?_
  refine ri_iload_n C dX4_sets_11 rfl ?_
  refine ri_iload_n C dX4_sets_12 rfl ?_
  refine ri_iastore C dX4_sets_13 (by first | assumption | (repeat (first | assumption | exact kx_rs (by assumption) | exact kx_ne2 (by omega) | exact kx_ne1 (by omega) | refine kx_ro (by assumption) ?_ ?_ | exact kx_rs rfl | refine kx_ro rfl ?_ ?_))) rfl (by omega) (fun s13 e13 => ?_)
  rw [mx_upd] at e13
  refine ri_iload_n C dX4_sets_14 rfl ?_
  exact ri_iret C hQ dX4_sets_15 rfl (Nat.le_of_ble_eq_true rfl) (Nat.le_of_ble_eq_true rfl) ⟨rfl, e13⟩
set_option maxHeartbeats 1000000 in
theorem mt_X4_rises {l : Launch} {G : kx_G} (htr : l.stackTraces = false) {σ : kx_H} {mo : Nat} {ad : Nat → Nat} {z : Nat → Int32} {u : Nat → Nat} {k : Nat} (h0 : σ (1, 0) = some (mo, .inr (3, mo_L ad z))) (hw : σ (1, 1) = some (ad 0, kx_ai G 1417 (mx_w u))) (hk : k < 24) (h1 : 1 ≤ mx_p u k 6 ∧ mx_p u k 6 ≤ 999) (hf : u 6 ≤ 50) (h7 : mx_p u k 7 < 2000000000) : kx_SP l G yX4_rises (ws_ yX4_rises cX4_rises 3 none) 2 0 0 [.ref mo, .int (nI k)] σ (fun v τ => v = none ∧ τ = kx_up σ (1, 1) (ad 0, kx_ai G 1417 (mx_w (mx_rise u k)))) kx_nx := by
  refine kx_body htr (by decide +kernel) (own := "RoseProverbsModel") (nm := "rises") rfl rfl (Nat.le_of_ble_eq_true rfl) ?_
  intro p e s m args below meth c Q C hQ
  have gm : mx_p u k 6 * u 6 ≤ 999 * 50 := Nat.mul_le_mul (by omega) (by omega)
  first | refine ri_aload_n C dX4_rises_0 rfl ?_ | refine ri_aload_nQ C dX4_rises_0 rfl ?_ | refine ri_aload_nN C dX4_rises_0 rfl ?_
  refine ri_iload_n C dX4_rises_1 rfl ?_
  refine ri_bipush C dX4_rises_2 kc_b6 ?_
  refine ri_callV C km_X4_of q3140 qs75 dX4_rises_4 (mt_X4_of htr h0 hw (by omega)) rfl rfl (kx_rcN C (by first | assumption | (repeat (first | assumption | exact kx_rs (by assumption) | exact kx_ne2 (by omega) | exact kx_ne1 (by omega) | refine kx_ro (by assumption) ?_ ?_ | exact kx_rs rfl | refine kx_ro rfl ?_ ?_))) rfl) ⟨⟨(Nat.le_of_ble_eq_true rfl), (Nat.le_of_ble_eq_true rfl)⟩, (Nat.le_of_ble_eq_true rfl), (Nat.le_of_ble_eq_true rfl), (Nat.le_of_ble_eq_true rfl)⟩ (fun v4 s4 h4 => ?_) (fun _ _ _ h => h.elim)
  obtain ⟨rfl, rfl⟩ := h4
  refine ri_istore_n C dX4_rises_7 rfl (by decide) ?_
  first | refine ri_aload_n C dX4_rises_8 rfl ?_ | refine ri_aload_nQ C dX4_rises_8 rfl ?_ | refine ri_aload_nN C dX4_rises_8 rfl ?_
  refine ri_iload_n C dX4_rises_9 rfl ?_
  refine ri_bipush C dX4_rises_10 kc_b7 ?_
  first | refine ri_aload_n C dX4_rises_12 rfl ?_ | refine ri_aload_nQ C dX4_rises_12 rfl ?_ | refine ri_aload_nN C dX4_rises_12 rfl ?_
  refine ri_iload_n C dX4_rises_13 rfl ?_
  refine ri_bipush C dX4_rises_14 kc_b7 ?_
  refine ri_callV C km_X4_of q3140 qs75 dX4_rises_16 (mt_X4_of htr h0 hw (by omega)) rfl rfl (kx_rcN C (by first | assumption | (repeat (first | assumption | exact kx_rs (by assumption) | exact kx_ne2 (by omega) | exact kx_ne1 (by omega) | refine kx_ro (by assumption) ?_ ?_ | exact kx_rs rfl | refine kx_ro rfl ?_ ?_))) rfl) ⟨⟨(Nat.le_of_ble_eq_true rfl), (Nat.le_of_ble_eq_true rfl)⟩, (Nat.le_of_ble_eq_true rfl), (Nat.le_of_ble_eq_true rfl), (Nat.le_of_ble_eq_true rfl)⟩ (fun v16 s16 h16 => ?_) (fun _ _ _ h => h.elim)
  obtain ⟨rfl, rfl⟩ := h16
  refine ri_iconst C dX4_rises_19 kc_i1 ?_
  first | refine ri_iaddN C dX4_rises_20 ?_ | refine ri_iadd C dX4_rises_20 ?_
  refine ri_callV C km_X4_puts q2966 qs59 dX4_rises_21 (mt_X4_puts htr (by first | assumption | (repeat (first | assumption | exact kx_rs (by assumption) | exact kx_ne2 (by omega) | exact kx_ne1 (by omega) | refine kx_ro (by assumption) ?_ ?_ | exact kx_rs rfl | refine kx_ro rfl ?_ ?_))) (by first | assumption | (repeat (first | assumption | exact kx_rs (by assumption) | exact kx_ne2 (by omega) | exact kx_ne1 (by omega) | refine kx_ro (by assumption) ?_ ?_ | exact kx_rs rfl | refine kx_ro rfl ?_ ?_))) (by omega)) rfl rfl (kx_rcN C (by first | assumption | (repeat (first | assumption | exact kx_rs (by assumption) | exact kx_ne2 (by omega) | exact kx_ne1 (by omega) | refine kx_ro (by assumption) ?_ ?_ | exact kx_rs rfl | refine kx_ro rfl ?_ ?_))) rfl) ⟨⟨(Nat.le_of_ble_eq_true rfl), (Nat.le_of_ble_eq_true rfl)⟩, (Nat.le_of_ble_eq_true rfl), (Nat.le_of_ble_eq_true rfl), (Nat.le_of_ble_eq_true rfl)⟩ (fun v21 s21 h21 => ?_) (fun _ _ _ h => h.elim)
  obtain ⟨rfl, e21⟩ := h21
  have g6 : mx_pp u k 7 (mx_p u k 7 + 1) 6 = u 6 := mx_pp_i (by decide)
  first | refine ri_aload_n C dX4_rises_24 rfl ?_ | refine ri_aload_nQ C dX4_rises_24 rfl ?_ | refine ri_aload_nN C dX4_rises_24 rfl ?_
  refine ri_iload_n C dX4_rises_25 rfl ?_
  refine ri_bipush C dX4_rises_26 kc_b6 ?_
  refine ri_sipush C dX4_rises_28 kc_s999 ?_
  refine ri_iload_n C dX4_rises_31 rfl ?_
  refine ri_iload_n C dX4_rises_32 rfl ?_
  first | refine ri_aload_n C dX4_rises_33 rfl ?_ | refine ri_aload_nQ C dX4_rises_33 rfl ?_ | refine ri_aload_nN C dX4_rises_33 rfl ?_
  refine ri_getf C dX4_rises_34 fr_q2970_3 (by first | assumption | (repeat (first | assumption | exact kx_rs (by assumption) | exact kx_ne2 (by omega) | exact kx_ne1 (by omega) | refine kx_ro (by assumption) ?_ ?_ | exact kx_rs rfl | refine kx_ro rfl ?_ ?_))) (by rfl) ?_
  refine ri_bipush C dX4_rises_37 kc_b6 ?_
  first | refine ri_ialoadN C dX4_rises_39 (by first | assumption | (repeat (first | assumption | exact kx_rs (by assumption) | exact kx_ne2 (by omega) | exact kx_ne1 (by omega) | refine kx_ro (by assumption) ?_ ?_ | exact kx_rs rfl | refine kx_ro rfl ?_ ?_))) rfl (by omega) ?_ | refine ri_iaload C dX4_rises_39 (by first | assumption | (repeat (first | assumption | exact kx_rs (by assumption) | exact kx_ne2 (by omega) | exact kx_ne1 (by omega) | refine kx_ro (by assumption) ?_ ?_ | exact kx_rs rfl | refine kx_ro rfl ?_ ?_))) rfl (by omega) ?_
  rw [g6]
  first | refine ri_imulN C dX4_rises_40 ?_ | refine ri_imul C dX4_rises_40 ?_
  refine ri_bipush C dX4_rises_41 kc_b100 ?_
  first | refine ri_idivN C dX4_rises_43 (by omega) (by omega) (by omega) ?_ | refine ri_idiv C dX4_rises_43 (by decide) ?_
  first | refine ri_iaddN C dX4_rises_44 ?_ | refine ri_iadd C dX4_rises_44 ?_
  refine ri_iconst C dX4_rises_45 kc_i1 ?_
  first | refine ri_iaddN C dX4_rises_46 ?_ | refine ri_iadd C dX4_rises_46 ?_
  refine ri_callS C km_J12_min q3254 dX4_rises_47 (mt_J12_min htr (by omega) (by omega)) rfl rfl ⟨⟨(Nat.le_of_ble_eq_true rfl), (Nat.le_of_ble_eq_true rfl)⟩, (Nat.le_of_ble_eq_true rfl), (Nat.le_of_ble_eq_true rfl), (Nat.le_of_ble_eq_true rfl)⟩ (fun v47 s47 h47 => ?_) (fun _ _ _ h => h.elim)
  obtain ⟨rfl, rfl⟩ := h47
  refine ri_callV C km_X4_puts q2966 qs59 dX4_rises_50 (mt_X4_puts htr (by first | assumption | (repeat (first | assumption | exact kx_rs (by assumption) | exact kx_ne2 (by omega) | exact kx_ne1 (by omega) | refine kx_ro (by assumption) ?_ ?_ | exact kx_rs rfl | refine kx_ro rfl ?_ ?_))) (by first | assumption | (repeat (first | assumption | exact kx_rs (by assumption) | exact kx_ne2 (by omega) | exact kx_ne1 (by omega) | refine kx_ro (by assumption) ?_ ?_ | exact kx_rs rfl | refine kx_ro rfl ?_ ?_))) (by omega)) rfl rfl (kx_rcN C (by first | assumption | (repeat (first | assumption | exact kx_rs (by assumption) | exact kx_ne2 (by omega) | exact kx_ne1 (by omega) | refine kx_ro (by assumption) ?_ ?_ | exact kx_rs rfl | refine kx_ro rfl ?_ ?_))) rfl) ⟨⟨(Nat.le_of_ble_eq_true rfl), (Nat.le_of_ble_eq_true rfl)⟩, (Nat.le_of_ble_eq_true rfl), (Nat.le_of_ble_eq_true rfl), (Nat.le_of_ble_eq_true rfl)⟩ (fun v50 s50 h50 => ?_) (fun _ _ _ h => h.elim)
  obtain ⟨rfl, e50⟩ := h50
  first | refine ri_aload_n C dX4_rises_53 rfl ?_ | refine ri_aload_nQ C dX4_rises_53 rfl ?_ | refine ri_aload_nN C dX4_rises_53 rfl ?_
  refine ri_iconst C dX4_rises_54 kc_i4 ?_
  refine ri_iconst C dX4_rises_55 kc_i1 ?_
  refine ri_callV C km_X4_counts q3255 qs97 dX4_rises_56 (mt_X4_counts htr (by first | assumption | (repeat (first | assumption | exact kx_rs (by assumption) | exact kx_ne2 (by omega) | exact kx_ne1 (by omega) | refine kx_ro (by assumption) ?_ ?_ | exact kx_rs rfl | refine kx_ro rfl ?_ ?_))) (by first | assumption | (repeat (first | assumption | exact kx_rs (by assumption) | exact kx_ne2 (by omega) | exact kx_ne1 (by omega) | refine kx_ro (by assumption) ?_ ?_ | exact kx_rs rfl | refine kx_ro rfl ?_ ?_))) (by omega)) rfl rfl (kx_rcN C (by first | assumption | (repeat (first | assumption | exact kx_rs (by assumption) | exact kx_ne2 (by omega) | exact kx_ne1 (by omega) | refine kx_ro (by assumption) ?_ ?_ | exact kx_rs rfl | refine kx_ro rfl ?_ ?_))) rfl) ⟨⟨(Nat.le_of_ble_eq_true rfl), (Nat.le_of_ble_eq_true rfl)⟩, (Nat.le_of_ble_eq_true rfl), (Nat.le_of_ble_eq_true rfl), (Nat.le_of_ble_eq_true rfl)⟩ (fun v56 s56 h56 => ?_) (fun _ _ _ h => h.elim)
  obtain ⟨rfl, e56⟩ := h56
  exact ri_vret C hQ dX4_rises_59 (Nat.le_of_ble_eq_true rfl) (Nat.le_of_ble_eq_true rfl) ⟨rfl, by rw [e56, e50, e21, kx_up_u, kx_up_u]; rfl⟩
set_option maxHeartbeats 1000000 in
theorem mt_X4_falls {l : Launch} {G : kx_G} (htr : l.stackTraces = false) {σ : kx_H} {mo : Nat} {ad : Nat → Nat} {z : Nat → Int32} {u : Nat → Nat} {k : Nat} (h0 : σ (1, 0) = some (mo, .inr (3, mo_L ad z))) (hw : σ (1, 1) = some (ad 0, kx_ai G 1417 (mx_w u))) (hk : k < 24) (h1 : 1 ≤ mx_p u k 6 ∧ mx_p u k 6 ≤ 999) (hf : u 7 ≤ 50) (h7 : mx_p u k 8 < 2000000000) : kx_SP l G yX4_falls (ws_ yX4_falls cX4_falls 3 none) 2 0 0 [.ref mo, .int (nI k)] σ (fun v τ => v = none ∧ τ = kx_up σ (1, 1) (ad 0, kx_ai G 1417 (mx_w (mx_fall u k)))) kx_nx := by
  refine kx_body htr (by decide +kernel) (own := "RoseProverbsModel") (nm := "falls") rfl rfl (Nat.le_of_ble_eq_true rfl) ?_
  intro p e s m args below meth c Q C hQ
  have gm : mx_p u k 6 * u 7 ≤ 999 * 50 := Nat.mul_le_mul (by omega) (by omega)
  have gf := mx_fl hf h1.1
  first | refine ri_aload_n C dX4_falls_0 rfl ?_ | refine ri_aload_nQ C dX4_falls_0 rfl ?_ | refine ri_aload_nN C dX4_falls_0 rfl ?_
  refine ri_iload_n C dX4_falls_1 rfl ?_
  refine ri_bipush C dX4_falls_2 kc_b6 ?_
  refine ri_callV C km_X4_of q3140 qs75 dX4_falls_4 (mt_X4_of htr h0 hw (by omega)) rfl rfl (kx_rcN C (by first | assumption | (repeat (first | assumption | exact kx_rs (by assumption) | exact kx_ne2 (by omega) | exact kx_ne1 (by omega) | refine kx_ro (by assumption) ?_ ?_ | exact kx_rs rfl | refine kx_ro rfl ?_ ?_))) rfl) ⟨⟨(Nat.le_of_ble_eq_true rfl), (Nat.le_of_ble_eq_true rfl)⟩, (Nat.le_of_ble_eq_true rfl), (Nat.le_of_ble_eq_true rfl), (Nat.le_of_ble_eq_true rfl)⟩ (fun v4 s4 h4 => ?_) (fun _ _ _ h => h.elim)
  obtain ⟨rfl, rfl⟩ := h4
  refine ri_istore_n C dX4_falls_7 rfl (by decide) ?_
  first | refine ri_aload_n C dX4_falls_8 rfl ?_ | refine ri_aload_nQ C dX4_falls_8 rfl ?_ | refine ri_aload_nN C dX4_falls_8 rfl ?_
  refine ri_iload_n C dX4_falls_9 rfl ?_
  refine ri_bipush C dX4_falls_10 kc_b8 ?_
  first | refine ri_aload_n C dX4_falls_12 rfl ?_ | refine ri_aload_nQ C dX4_falls_12 rfl ?_ | refine ri_aload_nN C dX4_falls_12 rfl ?_
  refine ri_iload_n C dX4_falls_13 rfl ?_
  refine ri_bipush C dX4_falls_14 kc_b8 ?_
  refine ri_callV C km_X4_of q3140 qs75 dX4_falls_16 (mt_X4_of htr h0 hw (by omega)) rfl rfl (kx_rcN C (by first | assumption | (repeat (first | assumption | exact kx_rs (by assumption) | exact kx_ne2 (by omega) | exact kx_ne1 (by omega) | refine kx_ro (by assumption) ?_ ?_ | exact kx_rs rfl | refine kx_ro rfl ?_ ?_))) rfl) ⟨⟨(Nat.le_of_ble_eq_true rfl), (Nat.le_of_ble_eq_true rfl)⟩, (Nat.le_of_ble_eq_true rfl), (Nat.le_of_ble_eq_true rfl), (Nat.le_of_ble_eq_true rfl)⟩ (fun v16 s16 h16 => ?_) (fun _ _ _ h => h.elim)
  obtain ⟨rfl, rfl⟩ := h16
  refine ri_iconst C dX4_falls_19 kc_i1 ?_
  first | refine ri_iaddN C dX4_falls_20 ?_ | refine ri_iadd C dX4_falls_20 ?_
  refine ri_callV C km_X4_puts q2966 qs59 dX4_falls_21 (mt_X4_puts htr (by first | assumption | (repeat (first | assumption | exact kx_rs (by assumption) | exact kx_ne2 (by omega) | exact kx_ne1 (by omega) | refine kx_ro (by assumption) ?_ ?_ | exact kx_rs rfl | refine kx_ro rfl ?_ ?_))) (by first | assumption | (repeat (first | assumption | exact kx_rs (by assumption) | exact kx_ne2 (by omega) | exact kx_ne1 (by omega) | refine kx_ro (by assumption) ?_ ?_ | exact kx_rs rfl | refine kx_ro rfl ?_ ?_))) (by omega)) rfl rfl (kx_rcN C (by first | assumption | (repeat (first | assumption | exact kx_rs (by assumption) | exact kx_ne2 (by omega) | exact kx_ne1 (by omega) | refine kx_ro (by assumption) ?_ ?_ | exact kx_rs rfl | refine kx_ro rfl ?_ ?_))) rfl) ⟨⟨(Nat.le_of_ble_eq_true rfl), (Nat.le_of_ble_eq_true rfl)⟩, (Nat.le_of_ble_eq_true rfl), (Nat.le_of_ble_eq_true rfl), (Nat.le_of_ble_eq_true rfl)⟩ (fun v21 s21 h21 => ?_) (fun _ _ _ h => h.elim)
  obtain ⟨rfl, e21⟩ := h21
  have g6 : mx_pp u k 8 (mx_p u k 8 + 1) 7 = u 7 := mx_pp_i (by decide)
  first | refine ri_aload_n C dX4_falls_24 rfl ?_ | refine ri_aload_nQ C dX4_falls_24 rfl ?_ | refine ri_aload_nN C dX4_falls_24 rfl ?_
  refine ri_iload_n C dX4_falls_25 rfl ?_
  refine ri_bipush C dX4_falls_26 kc_b6 ?_
  refine ri_iconst C dX4_falls_28 kc_i1 ?_
  refine ri_iload_n C dX4_falls_29 rfl ?_
  refine ri_iload_n C dX4_falls_30 rfl ?_
  first | refine ri_aload_n C dX4_falls_31 rfl ?_ | refine ri_aload_nQ C dX4_falls_31 rfl ?_ | refine ri_aload_nN C dX4_falls_31 rfl ?_
  refine ri_getf C dX4_falls_32 fr_q2970_3 (by first | assumption | (repeat (first | assumption | exact kx_rs (by assumption) | exact kx_ne2 (by omega) | exact kx_ne1 (by omega) | refine kx_ro (by assumption) ?_ ?_ | exact kx_rs rfl | refine kx_ro rfl ?_ ?_))) (by rfl) ?_
  refine ri_bipush C dX4_falls_35 kc_b7 ?_
  first | refine ri_ialoadN C dX4_falls_37 (by first | assumption | (repeat (first | assumption | exact kx_rs (by assumption) | exact kx_ne2 (by omega) | exact kx_ne1 (by omega) | refine kx_ro (by assumption) ?_ ?_ | exact kx_rs rfl | refine kx_ro rfl ?_ ?_))) rfl (by omega) ?_ | refine ri_iaload C dX4_falls_37 (by first | assumption | (repeat (first | assumption | exact kx_rs (by assumption) | exact kx_ne2 (by omega) | exact kx_ne1 (by omega) | refine kx_ro (by assumption) ?_ ?_ | exact kx_rs rfl | refine kx_ro rfl ?_ ?_))) rfl (by omega) ?_
  rw [g6]
  first | refine ri_imulN C dX4_falls_38 ?_ | refine ri_imul C dX4_falls_38 ?_
  refine ri_bipush C dX4_falls_39 kc_b100 ?_
  first | refine ri_idivN C dX4_falls_41 (by omega) (by omega) (by omega) ?_ | refine ri_idiv C dX4_falls_41 (by decide) ?_
  first | refine ri_isubN C dX4_falls_42 (by omega) ?_ | refine ri_isub C dX4_falls_42 ?_
  refine ri_iconst C dX4_falls_43 kc_i1 ?_
  first | refine ri_isubN C dX4_falls_44 (by omega) ?_ | refine ri_isub C dX4_falls_44 ?_
  refine ri_callS C km_J12_max q3242 dX4_falls_45 (mt_J12_max htr (by omega) (by omega)) rfl rfl ⟨⟨(Nat.le_of_ble_eq_true rfl), (Nat.le_of_ble_eq_true rfl)⟩, (Nat.le_of_ble_eq_true rfl), (Nat.le_of_ble_eq_true rfl), (Nat.le_of_ble_eq_true rfl)⟩ (fun v45 s45 h45 => ?_) (fun _ _ _ h => h.elim)
  obtain ⟨rfl, rfl⟩ := h45
  refine ri_callV C km_X4_puts q2966 qs59 dX4_falls_48 (mt_X4_puts htr (by first | assumption | (repeat (first | assumption | exact kx_rs (by assumption) | exact kx_ne2 (by omega) | exact kx_ne1 (by omega) | refine kx_ro (by assumption) ?_ ?_ | exact kx_rs rfl | refine kx_ro rfl ?_ ?_))) (by first | assumption | (repeat (first | assumption | exact kx_rs (by assumption) | exact kx_ne2 (by omega) | exact kx_ne1 (by omega) | refine kx_ro (by assumption) ?_ ?_ | exact kx_rs rfl | refine kx_ro rfl ?_ ?_))) (by omega)) rfl rfl (kx_rcN C (by first | assumption | (repeat (first | assumption | exact kx_rs (by assumption) | exact kx_ne2 (by omega) | exact kx_ne1 (by omega) | refine kx_ro (by assumption) ?_ ?_ | exact kx_rs rfl | refine kx_ro rfl ?_ ?_))) rfl) ⟨⟨(Nat.le_of_ble_eq_true rfl), (Nat.le_of_ble_eq_true rfl)⟩, (Nat.le_of_ble_eq_true rfl), (Nat.le_of_ble_eq_true rfl), (Nat.le_of_ble_eq_true rfl)⟩ (fun v48 s48 h48 => ?_) (fun _ _ _ h => h.elim)
  obtain ⟨rfl, e48⟩ := h48
  first | refine ri_aload_n C dX4_falls_51 rfl ?_ | refine ri_aload_nQ C dX4_falls_51 rfl ?_ | refine ri_aload_nN C dX4_falls_51 rfl ?_
  refine ri_iconst C dX4_falls_52 kc_i5 ?_
  refine ri_iconst C dX4_falls_53 kc_i1 ?_
  refine ri_callV C km_X4_counts q3255 qs97 dX4_falls_54 (mt_X4_counts htr (by first | assumption | (repeat (first | assumption | exact kx_rs (by assumption) | exact kx_ne2 (by omega) | exact kx_ne1 (by omega) | refine kx_ro (by assumption) ?_ ?_ | exact kx_rs rfl | refine kx_ro rfl ?_ ?_))) (by first | assumption | (repeat (first | assumption | exact kx_rs (by assumption) | exact kx_ne2 (by omega) | exact kx_ne1 (by omega) | refine kx_ro (by assumption) ?_ ?_ | exact kx_rs rfl | refine kx_ro rfl ?_ ?_))) (by omega)) rfl rfl (kx_rcN C (by first | assumption | (repeat (first | assumption | exact kx_rs (by assumption) | exact kx_ne2 (by omega) | exact kx_ne1 (by omega) | refine kx_ro (by assumption) ?_ ?_ | exact kx_rs rfl | refine kx_ro rfl ?_ ?_))) rfl) ⟨⟨(Nat.le_of_ble_eq_true rfl), (Nat.le_of_ble_eq_true rfl)⟩, (Nat.le_of_ble_eq_true rfl), (Nat.le_of_ble_eq_true rfl), (Nat.le_of_ble_eq_true rfl)⟩ (fun v54 s54 h54 => ?_) (fun _ _ _ h => h.elim)
  obtain ⟨rfl, e54⟩ := h54
  exact ri_vret C hQ dX4_falls_57 (Nat.le_of_ble_eq_true rfl) (Nat.le_of_ble_eq_true rfl) ⟨rfl, by rw [e54, e48, e21, kx_up_u, kx_up_u]; rfl⟩
set_option maxHeartbeats 1000000 in
theorem mt_X4_meets {l : Launch} {G : kx_G} (htr : l.stackTraces = false) {σ : kx_H} {mo : Nat} {ad : Nat → Nat} {z : Nat → Int32} {u : Nat → Nat} {q r we : Nat} (h0 : σ (1, 0) = some (mo, .inr (3, mo_L ad z))) (hw : σ (1, 1) = some (ad 0, kx_ai G 1417 (mx_w u))) (hq : q < 24) (hr : r < 24) (hp : mx_p u q 4 < 5 ∧ mx_p u r 4 < 5 ∧ we < 5) : kx_SP l G yX4_meets (ws_ yX4_meets cX4_meets 4 none) 2 0 0 [.ref mo, .int (nI q), .int (nI r), .int (nI we)] σ (fun v τ => v = none ∧ τ = kx_up σ (1, 1) (ad 0, kx_ai G 1417 (mx_w (mx_mt u q r we)))) kx_nx := by
  refine kx_body htr (by decide +kernel) (own := "RoseProverbsModel") (nm := "meets") rfl rfl (Nat.le_of_ble_eq_true rfl) ?_
  intro p e s m args below meth c Q C hQ
  first | refine ri_aload_n C dX4_meets_0 rfl ?_ | refine ri_aload_nQ C dX4_meets_0 rfl ?_ | refine ri_aload_nN C dX4_meets_0 rfl ?_
  refine ri_getf C dX4_meets_1 fr_q2970_3 (by first | assumption | (repeat (first | assumption | exact kx_rs (by assumption) | exact kx_ne2 (by omega) | exact kx_ne1 (by omega) | refine kx_ro (by assumption) ?_ ?_ | exact kx_rs rfl | refine kx_ro rfl ?_ ?_))) (by rfl) ?_
  refine ri_sipush C dX4_meets_4 kc_s265 ?_
  refine ri_bipush C dX4_meets_7 kc_b24 ?_
  refine ri_iload_n C dX4_meets_9 rfl ?_
  first | refine ri_imulN C dX4_meets_10 ?_ | refine ri_imul C dX4_meets_10 ?_
  first | refine ri_iaddN C dX4_meets_11 ?_ | refine ri_iadd C dX4_meets_11 ?_
  refine ri_iload_n C dX4_meets_12 rfl ?_
  first | refine ri_iaddN C dX4_meets_13 ?_ | refine ri_iadd C dX4_meets_13 ?_
  refine ri_dup2 C dX4_meets_14 rfl rfl ?_
  first | refine ri_ialoadN C dX4_meets_15 (by first | assumption | (repeat (first | assumption | exact kx_rs (by assumption) | exact kx_ne2 (by omega) | exact kx_ne1 (by omega) | refine kx_ro (by assumption) ?_ ?_ | exact kx_rs rfl | refine kx_ro rfl ?_ ?_))) rfl (by omega) ?_ | refine ri_iaload C dX4_meets_15 (by first | assumption | (repeat (first | assumption | exact kx_rs (by assumption) | exact kx_ne2 (by omega) | exact kx_ne1 (by omega) | refine kx_ro (by assumption) ?_ ?_ | exact kx_rs rfl | refine kx_ro rfl ?_ ?_))) rfl (by omega) ?_
  refine ri_iconst C dX4_meets_16 kc_i1 ?_
  first | refine ri_iaddN C dX4_meets_17 ?_ | refine ri_iadd C dX4_meets_17 ?_
  refine ri_iastore C dX4_meets_18 (by first | assumption | (repeat (first | assumption | exact kx_rs (by assumption) | exact kx_ne2 (by omega) | exact kx_ne1 (by omega) | refine kx_ro (by assumption) ?_ ?_ | exact kx_rs rfl | refine kx_ro rfl ?_ ?_))) rfl (by omega) (fun s18 e18 => ?_)
  rw [mx_upd] at e18
  have g1 : ∀ k, k < 24 → mx_p (mx_s u (265 + 24 * q + r) (u (265 + 24 * q + r) + 1)) k 4 = mx_p u k 4 := fun k hk => mx_s_o (by omega)
  have g2 : mx_s u (265 + 24 * q + r) (u (265 + 24 * q + r) + 1) (841 + 24 * q + r) = u (841 + 24 * q + r) := mx_s_o (by omega)
  first | refine ri_aload_n C dX4_meets_19 rfl ?_ | refine ri_aload_nQ C dX4_meets_19 rfl ?_ | refine ri_aload_nN C dX4_meets_19 rfl ?_
  refine ri_getf C dX4_meets_20 fr_q2970_3 (by first | assumption | (repeat (first | assumption | exact kx_rs (by assumption) | exact kx_ne2 (by omega) | exact kx_ne1 (by omega) | refine kx_ro (by assumption) ?_ ?_ | exact kx_rs rfl | refine kx_ro rfl ?_ ?_))) (by rfl) ?_
  refine ri_sipush C dX4_meets_23 kc_s841 ?_
  refine ri_bipush C dX4_meets_26 kc_b24 ?_
  refine ri_iload_n C dX4_meets_28 rfl ?_
  first | refine ri_imulN C dX4_meets_29 ?_ | refine ri_imul C dX4_meets_29 ?_
  first | refine ri_iaddN C dX4_meets_30 ?_ | refine ri_iadd C dX4_meets_30 ?_
  refine ri_iload_n C dX4_meets_31 rfl ?_
  first | refine ri_iaddN C dX4_meets_32 ?_ | refine ri_iadd C dX4_meets_32 ?_
  refine ri_dup2 C dX4_meets_33 rfl rfl ?_
  first | refine ri_ialoadN C dX4_meets_34 (by first | assumption | (repeat (first | assumption | exact kx_rs (by assumption) | exact kx_ne2 (by omega) | exact kx_ne1 (by omega) | refine kx_ro (by assumption) ?_ ?_ | exact kx_rs rfl | refine kx_ro rfl ?_ ?_))) rfl (by omega) ?_ | refine ri_iaload C dX4_meets_34 (by first | assumption | (repeat (first | assumption | exact kx_rs (by assumption) | exact kx_ne2 (by omega) | exact kx_ne1 (by omega) | refine kx_ro (by assumption) ?_ ?_ | exact kx_rs rfl | refine kx_ro rfl ?_ ?_))) rfl (by omega) ?_
  rw [g2]
  first | refine ri_aload_n C dX4_meets_35 rfl ?_ | refine ri_aload_nQ C dX4_meets_35 rfl ?_ | refine ri_aload_nN C dX4_meets_35 rfl ?_
  refine ri_iload_n C dX4_meets_36 rfl ?_
  refine ri_iconst C dX4_meets_37 kc_i4 ?_
  refine ri_callV C km_X4_of q3140 qs75 dX4_meets_38 (mt_X4_of htr (by first | assumption | (repeat (first | assumption | exact kx_rs (by assumption) | exact kx_ne2 (by omega) | exact kx_ne1 (by omega) | refine kx_ro (by assumption) ?_ ?_ | exact kx_rs rfl | refine kx_ro rfl ?_ ?_))) (by first | assumption | (repeat (first | assumption | exact kx_rs (by assumption) | exact kx_ne2 (by omega) | exact kx_ne1 (by omega) | refine kx_ro (by assumption) ?_ ?_ | exact kx_rs rfl | refine kx_ro rfl ?_ ?_))) (by omega)) rfl rfl (kx_rcN C (by first | assumption | (repeat (first | assumption | exact kx_rs (by assumption) | exact kx_ne2 (by omega) | exact kx_ne1 (by omega) | refine kx_ro (by assumption) ?_ ?_ | exact kx_rs rfl | refine kx_ro rfl ?_ ?_))) rfl) ⟨⟨(Nat.le_of_ble_eq_true rfl), (Nat.le_of_ble_eq_true rfl)⟩, (Nat.le_of_ble_eq_true rfl), (Nat.le_of_ble_eq_true rfl), (Nat.le_of_ble_eq_true rfl)⟩ (fun v38 s38 h38 => ?_) (fun _ _ _ h => h.elim)
  obtain ⟨rfl, rfl⟩ := h38
  rw [g1 q hq]
  refine ri_iload_n C dX4_meets_41 rfl ?_
  first | refine ri_icmp_neN C 59 dX4_meets_42 rfl (by omega) (by omega) (fun h42 => ?_) (fun h42 => ?_) | refine ri_icmp_ne C 59 dX4_meets_42 rfl (fun h42 => ?_) (fun h42 => ?_)
  · refine ri_iconst C dX4_meets_59 kc_i0 ?_
    refine ri_callS C km_X4_one q3247 dX4_meets_60 (mt_X4_one htr (b := false)) rfl rfl ⟨⟨(Nat.le_of_ble_eq_true rfl), (Nat.le_of_ble_eq_true rfl)⟩, (Nat.le_of_ble_eq_true rfl), (Nat.le_of_ble_eq_true rfl), (Nat.le_of_ble_eq_true rfl)⟩ (fun v60 s60 h60 => ?_) (fun _ _ _ h => h.elim)
    obtain ⟨rfl, rfl⟩ := h60
    first | refine ri_iaddN C dX4_meets_63 ?_ | refine ri_iadd C dX4_meets_63 ?_
    refine ri_iastore C dX4_meets_64 (by first | assumption | (repeat (first | assumption | exact kx_rs (by assumption) | exact kx_ne2 (by omega) | exact kx_ne1 (by omega) | refine kx_ro (by assumption) ?_ ?_ | exact kx_rs rfl | refine kx_ro rfl ?_ ?_))) rfl (by omega) (fun s64 e64 => ?_)
    rw [mx_upd] at e64
    exact ri_vret C hQ dX4_meets_65 (Nat.le_of_ble_eq_true rfl) (Nat.le_of_ble_eq_true rfl) ⟨rfl, by rw [e64, e18, kx_up_u]; simp [mx_mt, *]⟩
  · first | refine ri_aload_n C dX4_meets_45 rfl ?_ | refine ri_aload_nQ C dX4_meets_45 rfl ?_ | refine ri_aload_nN C dX4_meets_45 rfl ?_
    refine ri_iload_n C dX4_meets_46 rfl ?_
    refine ri_iconst C dX4_meets_47 kc_i4 ?_
    refine ri_callV C km_X4_of q3140 qs75 dX4_meets_48 (mt_X4_of htr (by first | assumption | (repeat (first | assumption | exact kx_rs (by assumption) | exact kx_ne2 (by omega) | exact kx_ne1 (by omega) | refine kx_ro (by assumption) ?_ ?_ | exact kx_rs rfl | refine kx_ro rfl ?_ ?_))) (by first | assumption | (repeat (first | assumption | exact kx_rs (by assumption) | exact kx_ne2 (by omega) | exact kx_ne1 (by omega) | refine kx_ro (by assumption) ?_ ?_ | exact kx_rs rfl | refine kx_ro rfl ?_ ?_))) (by omega)) rfl rfl (kx_rcN C (by first | assumption | (repeat (first | assumption | exact kx_rs (by assumption) | exact kx_ne2 (by omega) | exact kx_ne1 (by omega) | refine kx_ro (by assumption) ?_ ?_ | exact kx_rs rfl | refine kx_ro rfl ?_ ?_))) rfl) ⟨⟨(Nat.le_of_ble_eq_true rfl), (Nat.le_of_ble_eq_true rfl)⟩, (Nat.le_of_ble_eq_true rfl), (Nat.le_of_ble_eq_true rfl), (Nat.le_of_ble_eq_true rfl)⟩ (fun v48 s48 h48 => ?_) (fun _ _ _ h => h.elim)
    obtain ⟨rfl, rfl⟩ := h48
    rw [g1 r hr]
    refine ri_iload_n C dX4_meets_51 rfl ?_
    first | refine ri_icmp_eqN C 59 dX4_meets_52 rfl (by omega) (by omega) (fun h52 => ?_) (fun h52 => ?_) | refine ri_icmp_eq C 59 dX4_meets_52 rfl (fun h52 => ?_) (fun h52 => ?_)
    · refine ri_iconst C dX4_meets_59 kc_i0 ?_
      refine ri_callS C km_X4_one q3247 dX4_meets_60 (mt_X4_one htr (b := false)) rfl rfl ⟨⟨(Nat.le_of_ble_eq_true rfl), (Nat.le_of_ble_eq_true rfl)⟩, (Nat.le_of_ble_eq_true rfl), (Nat.le_of_ble_eq_true rfl), (Nat.le_of_ble_eq_true rfl)⟩ (fun v60 s60 h60 => ?_) (fun _ _ _ h => h.elim)
      obtain ⟨rfl, rfl⟩ := h60
      first | refine ri_iaddN C dX4_meets_63 ?_ | refine ri_iadd C dX4_meets_63 ?_
      refine ri_iastore C dX4_meets_64 (by first | assumption | (repeat (first | assumption | exact kx_rs (by assumption) | exact kx_ne2 (by omega) | exact kx_ne1 (by omega) | refine kx_ro (by assumption) ?_ ?_ | exact kx_rs rfl | refine kx_ro rfl ?_ ?_))) rfl (by omega) (fun s64 e64 => ?_)
      rw [mx_upd] at e64
      exact ri_vret C hQ dX4_meets_65 (Nat.le_of_ble_eq_true rfl) (Nat.le_of_ble_eq_true rfl) ⟨rfl, by rw [e64, e18, kx_up_u]; simp [mx_mt, *]⟩
    · refine ri_iconst C dX4_meets_55 kc_i1 ?_
      refine ri_goto C 60 dX4_meets_56 rfl ?_
      refine ri_callS C km_X4_one q3247 dX4_meets_60 (mt_X4_one htr (b := true)) rfl rfl ⟨⟨(Nat.le_of_ble_eq_true rfl), (Nat.le_of_ble_eq_true rfl)⟩, (Nat.le_of_ble_eq_true rfl), (Nat.le_of_ble_eq_true rfl), (Nat.le_of_ble_eq_true rfl)⟩ (fun v60 s60 h60 => ?_) (fun _ _ _ h => h.elim)
      obtain ⟨rfl, rfl⟩ := h60
      first | refine ri_iaddN C dX4_meets_63 ?_ | refine ri_iadd C dX4_meets_63 ?_
      refine ri_iastore C dX4_meets_64 (by first | assumption | (repeat (first | assumption | exact kx_rs (by assumption) | exact kx_ne2 (by omega) | exact kx_ne1 (by omega) | refine kx_ro (by assumption) ?_ ?_ | exact kx_rs rfl | refine kx_ro rfl ?_ ?_))) rfl (by omega) (fun s64 e64 => ?_)
      rw [mx_upd] at e64
      exact ri_vret C hQ dX4_meets_65 (Nat.le_of_ble_eq_true rfl) (Nat.le_of_ble_eq_true rfl) ⟨rfl, by rw [e64, e18, kx_up_u]; simp [mx_mt, *]⟩
theorem mx_cn_i {u : Nat → Nat} {a m i : Nat} (h : i ≠ 8 + a) : mx_cn u a m i = u i := mx_s_o h
set_option maxHeartbeats 1000000 in
theorem mt_X4_countsYear {l : Launch} {G : kx_G} (htr : l.stackTraces = false) {σ : kx_H} {mo : Nat} {ad : Nat → Nat} {z : Nat → Int32} {u : Nat → Nat} {x : Option Nat} {we : Nat} (h0 : σ (1, 0) = some (mo, .inr (3, mo_L ad z))) (hw : σ (1, 1) = some (ad 0, kx_ai G 1417 (mx_w u))) (hd : u 2 < 100000) (hx : ∀ b, x = some b → b < 5) (hwe : we < 5) (hs : ∀ i, 8 ≤ i → i < 25 → u i < 1000000000) : kx_SP l G yX4_countsYear (ws_ yX4_countsYear cX4_countsYear 5 none) 2 0 0 [.ref mo, .int (mx_o x), .int (nI we)] σ (fun v τ => v = none ∧ τ = kx_up σ (1, 1) (ad 0, kx_ai G 1417 (mx_w (mx_year u x we)))) kx_nx := by
  refine kx_body htr (by decide +kernel) (own := "RoseProverbsModel") (nm := "countsYear") rfl rfl (Nat.le_of_ble_eq_true rfl) ?_
  intro p e s m args below meth c Q C hQ
  have g2 : mx_cn u 0 1 2 = u 2 := mx_cn_i (by decide)
  have g3 : ∀ a, mx_cn (mx_cn u 0 1) a 1 2 = u 2 := fun a => by rw [mx_cn_i (by omega)]; exact g2
  first | refine ri_aload_n C dX4_countsYear_0 rfl ?_ | refine ri_aload_nQ C dX4_countsYear_0 rfl ?_ | refine ri_aload_nN C dX4_countsYear_0 rfl ?_
  refine ri_getf C dX4_countsYear_1 fr_q2970_3 (by first | assumption | (repeat (first | assumption | exact kx_rs (by assumption) | exact kx_ne2 (by omega) | exact kx_ne1 (by omega) | refine kx_ro (by assumption) ?_ ?_ | exact kx_rs rfl | refine kx_ro rfl ?_ ?_))) (by rfl) ?_
  refine ri_iconst C dX4_countsYear_4 kc_i2 ?_
  first | refine ri_ialoadN C dX4_countsYear_5 (by first | assumption | (repeat (first | assumption | exact kx_rs (by assumption) | exact kx_ne2 (by omega) | exact kx_ne1 (by omega) | refine kx_ro (by assumption) ?_ ?_ | exact kx_rs rfl | refine kx_ro rfl ?_ ?_))) rfl (by omega) ?_ | refine ri_iaload C dX4_countsYear_5 (by first | assumption | (repeat (first | assumption | exact kx_rs (by assumption) | exact kx_ne2 (by omega) | exact kx_ne1 (by omega) | refine kx_ro (by assumption) ?_ ?_ | exact kx_rs rfl | refine kx_ro rfl ?_ ?_))) rfl (by omega) ?_
  refine ri_sipush C dX4_countsYear_6 kc_s360 ?_
  first | refine ri_idivN C dX4_countsYear_9 (by omega) (by omega) (by omega) ?_ | refine ri_idiv C dX4_countsYear_9 (by decide) ?_
  refine ri_istore_n C dX4_countsYear_10 rfl (by decide) ?_
  rcases x with _ | b
  · refine ri_iload_n C dX4_countsYear_11 rfl ?_
    refine ri_iconst C dX4_countsYear_12 kc_im1 ?_
    refine ri_icmp_ne C 20 dX4_countsYear_13 rfl (fun h13 => ?_) (fun h13 => ?_)
    · exact absurd rfl h13 --dead
    · refine ri_iconst C dX4_countsYear_16 kc_i3 ?_
      refine ri_goto C 30 dX4_countsYear_17 rfl ?_
      refine ri_istore C dX4_countsYear_30 rfl (by decide) ?_
      first | refine ri_aload_n C dX4_countsYear_32 rfl ?_ | refine ri_aload_nQ C dX4_countsYear_32 rfl ?_ | refine ri_aload_nN C dX4_countsYear_32 rfl ?_
      refine ri_iconst C dX4_countsYear_33 kc_i0 ?_
      refine ri_iconst C dX4_countsYear_34 kc_i1 ?_
      refine ri_callV C km_X4_counts q3255 qs97 dX4_countsYear_35 (mt_X4_counts htr (by first | assumption | (repeat (first | assumption | exact kx_rs (by assumption) | exact kx_ne2 (by omega) | exact kx_ne1 (by omega) | refine kx_ro (by assumption) ?_ ?_ | exact kx_rs rfl | refine kx_ro rfl ?_ ?_))) (by first | assumption | (repeat (first | assumption | exact kx_rs (by assumption) | exact kx_ne2 (by omega) | exact kx_ne1 (by omega) | refine kx_ro (by assumption) ?_ ?_ | exact kx_rs rfl | refine kx_ro rfl ?_ ?_))) (by omega)) rfl rfl (kx_rcN C (by first | assumption | (repeat (first | assumption | exact kx_rs (by assumption) | exact kx_ne2 (by omega) | exact kx_ne1 (by omega) | refine kx_ro (by assumption) ?_ ?_ | exact kx_rs rfl | refine kx_ro rfl ?_ ?_))) rfl) ⟨⟨(Nat.le_of_ble_eq_true rfl), (Nat.le_of_ble_eq_true rfl)⟩, (Nat.le_of_ble_eq_true rfl), (Nat.le_of_ble_eq_true rfl), (Nat.le_of_ble_eq_true rfl)⟩ (fun v35 s35 h35 => ?_) (fun _ _ _ h => h.elim)
      obtain ⟨rfl, e35⟩ := h35
      first | refine ri_aload_n C dX4_countsYear_38 rfl ?_ | refine ri_aload_nQ C dX4_countsYear_38 rfl ?_ | refine ri_aload_nN C dX4_countsYear_38 rfl ?_
      refine ri_iload C dX4_countsYear_39 rfl ?_
      refine ri_iconst C dX4_countsYear_41 kc_i1 ?_
      refine ri_callV C km_X4_counts q3255 qs97 dX4_countsYear_42 (mt_X4_counts htr (by first | assumption | (repeat (first | assumption | exact kx_rs (by assumption) | exact kx_ne2 (by omega) | exact kx_ne1 (by omega) | refine kx_ro (by assumption) ?_ ?_ | exact kx_rs rfl | refine kx_ro rfl ?_ ?_))) (by first | assumption | (repeat (first | assumption | exact kx_rs (by assumption) | exact kx_ne2 (by omega) | exact kx_ne1 (by omega) | refine kx_ro (by assumption) ?_ ?_ | exact kx_rs rfl | refine kx_ro rfl ?_ ?_))) (by omega)) rfl rfl (kx_rcN C (by first | assumption | (repeat (first | assumption | exact kx_rs (by assumption) | exact kx_ne2 (by omega) | exact kx_ne1 (by omega) | refine kx_ro (by assumption) ?_ ?_ | exact kx_rs rfl | refine kx_ro rfl ?_ ?_))) rfl) ⟨⟨(Nat.le_of_ble_eq_true rfl), (Nat.le_of_ble_eq_true rfl)⟩, (Nat.le_of_ble_eq_true rfl), (Nat.le_of_ble_eq_true rfl), (Nat.le_of_ble_eq_true rfl)⟩ (fun v42 s42 h42 => ?_) (fun _ _ _ h => h.elim)
      obtain ⟨rfl, e42⟩ := h42
      refine ri_iload_n C dX4_countsYear_45 rfl ?_
      refine ri_iconst C dX4_countsYear_46 kc_i1 ?_
      first | refine ri_icmp_leN C 51 dX4_countsYear_47 rfl (by omega) (by omega) (fun h47 => ?_) (fun h47 => ?_) | refine ri_icmp_le C 51 dX4_countsYear_47 rfl (fun h47 => ?_) (fun h47 => ?_)
      · first | refine ri_aload_n C dX4_countsYear_51 rfl ?_ | refine ri_aload_nQ C dX4_countsYear_51 rfl ?_ | refine ri_aload_nN C dX4_countsYear_51 rfl ?_
        refine ri_getf C dX4_countsYear_52 fr_q2970_3 (by first | assumption | (repeat (first | assumption | exact kx_rs (by assumption) | exact kx_ne2 (by omega) | exact kx_ne1 (by omega) | refine kx_ro (by assumption) ?_ ?_ | exact kx_rs rfl | refine kx_ro rfl ?_ ?_))) (by rfl) ?_
        refine ri_bipush C dX4_countsYear_55 kc_b17 ?_
        refine ri_iconst C dX4_countsYear_57 kc_i4 ?_
        refine ri_iload_n C dX4_countsYear_58 rfl ?_
        first | refine ri_imulN C dX4_countsYear_59 ?_ | refine ri_imul C dX4_countsYear_59 ?_
        first | refine ri_iaddN C dX4_countsYear_60 ?_ | refine ri_iadd C dX4_countsYear_60 ?_
        refine ri_dup2 C dX4_countsYear_61 rfl rfl ?_
        first | refine ri_ialoadN C dX4_countsYear_62 (by first | assumption | (repeat (first | assumption | exact kx_rs (by assumption) | exact kx_ne2 (by omega) | exact kx_ne1 (by omega) | refine kx_ro (by assumption) ?_ ?_ | exact kx_rs rfl | refine kx_ro rfl ?_ ?_))) rfl (by omega) ?_ | refine ri_iaload C dX4_countsYear_62 (by first | assumption | (repeat (first | assumption | exact kx_rs (by assumption) | exact kx_ne2 (by omega) | exact kx_ne1 (by omega) | refine kx_ro (by assumption) ?_ ?_ | exact kx_rs rfl | refine kx_ro rfl ?_ ?_))) rfl (by omega) ?_
        refine ri_iconst C dX4_countsYear_63 kc_i1 ?_
        first | refine ri_iaddN C dX4_countsYear_64 ?_ | refine ri_iadd C dX4_countsYear_64 ?_
        refine ri_iastore C dX4_countsYear_65 (by first | assumption | (repeat (first | assumption | exact kx_rs (by assumption) | exact kx_ne2 (by omega) | exact kx_ne1 (by omega) | refine kx_ro (by assumption) ?_ ?_ | exact kx_rs rfl | refine kx_ro rfl ?_ ?_))) rfl (by omega) (fun s65 e65 => ?_)
        rw [mx_upd] at e65
        first | refine ri_aload_n C dX4_countsYear_66 rfl ?_ | refine ri_aload_nQ C dX4_countsYear_66 rfl ?_ | refine ri_aload_nN C dX4_countsYear_66 rfl ?_
        refine ri_getf C dX4_countsYear_67 fr_q2970_3 (by first | assumption | (repeat (first | assumption | exact kx_rs (by assumption) | exact kx_ne2 (by omega) | exact kx_ne1 (by omega) | refine kx_ro (by assumption) ?_ ?_ | exact kx_rs rfl | refine kx_ro rfl ?_ ?_))) (by rfl) ?_
        refine ri_bipush C dX4_countsYear_70 kc_b17 ?_
        refine ri_iconst C dX4_countsYear_72 kc_i4 ?_
        refine ri_iload_n C dX4_countsYear_73 rfl ?_
        first | refine ri_imulN C dX4_countsYear_74 ?_ | refine ri_imul C dX4_countsYear_74 ?_
        first | refine ri_iaddN C dX4_countsYear_75 ?_ | refine ri_iadd C dX4_countsYear_75 ?_
        refine ri_iload C dX4_countsYear_76 rfl ?_
        first | refine ri_iaddN C dX4_countsYear_78 ?_ | refine ri_iadd C dX4_countsYear_78 ?_
        refine ri_dup2 C dX4_countsYear_79 rfl rfl ?_
        first | refine ri_ialoadN C dX4_countsYear_80 (by first | assumption | (repeat (first | assumption | exact kx_rs (by assumption) | exact kx_ne2 (by omega) | exact kx_ne1 (by omega) | refine kx_ro (by assumption) ?_ ?_ | exact kx_rs rfl | refine kx_ro rfl ?_ ?_))) rfl (by omega) ?_ | refine ri_iaload C dX4_countsYear_80 (by first | assumption | (repeat (first | assumption | exact kx_rs (by assumption) | exact kx_ne2 (by omega) | exact kx_ne1 (by omega) | refine kx_ro (by assumption) ?_ ?_ | exact kx_rs rfl | refine kx_ro rfl ?_ ?_))) rfl (by omega) ?_
        refine ri_iconst C dX4_countsYear_81 kc_i1 ?_
        first | refine ri_iaddN C dX4_countsYear_82 ?_ | refine ri_iadd C dX4_countsYear_82 ?_
        refine ri_iastore C dX4_countsYear_83 (by first | assumption | (repeat (first | assumption | exact kx_rs (by assumption) | exact kx_ne2 (by omega) | exact kx_ne1 (by omega) | refine kx_ro (by assumption) ?_ ?_ | exact kx_rs rfl | refine kx_ro rfl ?_ ?_))) rfl (by omega) (fun s83 e83 => ?_)
        rw [mx_upd] at e83
        exact ri_vret C hQ dX4_countsYear_84 (Nat.le_of_ble_eq_true rfl) (Nat.le_of_ble_eq_true rfl) ⟨rfl, by unfold mx_year; first | (rw [if_pos (by omega), e83, e65, e42, e35]; simp only [kx_up_u]; simp [mx_its, mx_inc, *]) | (rw [if_neg (by omega), e42, e35]; simp only [kx_up_u]; simp [mx_its, *])⟩
      · exact ri_vret C hQ dX4_countsYear_50 (Nat.le_of_ble_eq_true rfl) (Nat.le_of_ble_eq_true rfl) ⟨rfl, by unfold mx_year; first | (rw [if_pos (by omega), e83, e65, e42, e35]; simp only [kx_up_u]; simp [mx_its, mx_inc, *]) | (rw [if_neg (by omega), e42, e35]; simp only [kx_up_u]; simp [mx_its, *])⟩
  · have hb := hx b rfl
    refine ri_iload_n C dX4_countsYear_11 rfl ?_
    refine ri_iconst C dX4_countsYear_12 kc_im1 ?_
    refine ri_icmp_ne C 20 dX4_countsYear_13 rfl (fun h13 => ?_) (fun h13 => ?_)
    · refine ri_iload_n C dX4_countsYear_20 rfl ?_
      refine ri_iload_n C dX4_countsYear_21 rfl ?_
      first | refine ri_icmp_neN C 29 dX4_countsYear_22 rfl (by omega) (by omega) (fun h22 => ?_) (fun h22 => ?_) | refine ri_icmp_ne C 29 dX4_countsYear_22 rfl (fun h22 => ?_) (fun h22 => ?_)
      · refine ri_iconst C dX4_countsYear_29 kc_i2 ?_
        refine ri_istore C dX4_countsYear_30 rfl (by decide) ?_
        first | refine ri_aload_n C dX4_countsYear_32 rfl ?_ | refine ri_aload_nQ C dX4_countsYear_32 rfl ?_ | refine ri_aload_nN C dX4_countsYear_32 rfl ?_
        refine ri_iconst C dX4_countsYear_33 kc_i0 ?_
        refine ri_iconst C dX4_countsYear_34 kc_i1 ?_
        refine ri_callV C km_X4_counts q3255 qs97 dX4_countsYear_35 (mt_X4_counts htr (by first | assumption | (repeat (first | assumption | exact kx_rs (by assumption) | exact kx_ne2 (by omega) | exact kx_ne1 (by omega) | refine kx_ro (by assumption) ?_ ?_ | exact kx_rs rfl | refine kx_ro rfl ?_ ?_))) (by first | assumption | (repeat (first | assumption | exact kx_rs (by assumption) | exact kx_ne2 (by omega) | exact kx_ne1 (by omega) | refine kx_ro (by assumption) ?_ ?_ | exact kx_rs rfl | refine kx_ro rfl ?_ ?_))) (by omega)) rfl rfl (kx_rcN C (by first | assumption | (repeat (first | assumption | exact kx_rs (by assumption) | exact kx_ne2 (by omega) | exact kx_ne1 (by omega) | refine kx_ro (by assumption) ?_ ?_ | exact kx_rs rfl | refine kx_ro rfl ?_ ?_))) rfl) ⟨⟨(Nat.le_of_ble_eq_true rfl), (Nat.le_of_ble_eq_true rfl)⟩, (Nat.le_of_ble_eq_true rfl), (Nat.le_of_ble_eq_true rfl), (Nat.le_of_ble_eq_true rfl)⟩ (fun v35 s35 h35 => ?_) (fun _ _ _ h => h.elim)
        obtain ⟨rfl, e35⟩ := h35
        first | refine ri_aload_n C dX4_countsYear_38 rfl ?_ | refine ri_aload_nQ C dX4_countsYear_38 rfl ?_ | refine ri_aload_nN C dX4_countsYear_38 rfl ?_
        refine ri_iload C dX4_countsYear_39 rfl ?_
        refine ri_iconst C dX4_countsYear_41 kc_i1 ?_
        refine ri_callV C km_X4_counts q3255 qs97 dX4_countsYear_42 (mt_X4_counts htr (by first | assumption | (repeat (first | assumption | exact kx_rs (by assumption) | exact kx_ne2 (by omega) | exact kx_ne1 (by omega) | refine kx_ro (by assumption) ?_ ?_ | exact kx_rs rfl | refine kx_ro rfl ?_ ?_))) (by first | assumption | (repeat (first | assumption | exact kx_rs (by assumption) | exact kx_ne2 (by omega) | exact kx_ne1 (by omega) | refine kx_ro (by assumption) ?_ ?_ | exact kx_rs rfl | refine kx_ro rfl ?_ ?_))) (by omega)) rfl rfl (kx_rcN C (by first | assumption | (repeat (first | assumption | exact kx_rs (by assumption) | exact kx_ne2 (by omega) | exact kx_ne1 (by omega) | refine kx_ro (by assumption) ?_ ?_ | exact kx_rs rfl | refine kx_ro rfl ?_ ?_))) rfl) ⟨⟨(Nat.le_of_ble_eq_true rfl), (Nat.le_of_ble_eq_true rfl)⟩, (Nat.le_of_ble_eq_true rfl), (Nat.le_of_ble_eq_true rfl), (Nat.le_of_ble_eq_true rfl)⟩ (fun v42 s42 h42 => ?_) (fun _ _ _ h => h.elim)
        obtain ⟨rfl, e42⟩ := h42
        refine ri_iload_n C dX4_countsYear_45 rfl ?_
        refine ri_iconst C dX4_countsYear_46 kc_i1 ?_
        first | refine ri_icmp_leN C 51 dX4_countsYear_47 rfl (by omega) (by omega) (fun h47 => ?_) (fun h47 => ?_) | refine ri_icmp_le C 51 dX4_countsYear_47 rfl (fun h47 => ?_) (fun h47 => ?_)
        · first | refine ri_aload_n C dX4_countsYear_51 rfl ?_ | refine ri_aload_nQ C dX4_countsYear_51 rfl ?_ | refine ri_aload_nN C dX4_countsYear_51 rfl ?_
          refine ri_getf C dX4_countsYear_52 fr_q2970_3 (by first | assumption | (repeat (first | assumption | exact kx_rs (by assumption) | exact kx_ne2 (by omega) | exact kx_ne1 (by omega) | refine kx_ro (by assumption) ?_ ?_ | exact kx_rs rfl | refine kx_ro rfl ?_ ?_))) (by rfl) ?_
          refine ri_bipush C dX4_countsYear_55 kc_b17 ?_
          refine ri_iconst C dX4_countsYear_57 kc_i4 ?_
          refine ri_iload_n C dX4_countsYear_58 rfl ?_
          first | refine ri_imulN C dX4_countsYear_59 ?_ | refine ri_imul C dX4_countsYear_59 ?_
          first | refine ri_iaddN C dX4_countsYear_60 ?_ | refine ri_iadd C dX4_countsYear_60 ?_
          refine ri_dup2 C dX4_countsYear_61 rfl rfl ?_
          first | refine ri_ialoadN C dX4_countsYear_62 (by first | assumption | (repeat (first | assumption | exact kx_rs (by assumption) | exact kx_ne2 (by omega) | exact kx_ne1 (by omega) | refine kx_ro (by assumption) ?_ ?_ | exact kx_rs rfl | refine kx_ro rfl ?_ ?_))) rfl (by omega) ?_ | refine ri_iaload C dX4_countsYear_62 (by first | assumption | (repeat (first | assumption | exact kx_rs (by assumption) | exact kx_ne2 (by omega) | exact kx_ne1 (by omega) | refine kx_ro (by assumption) ?_ ?_ | exact kx_rs rfl | refine kx_ro rfl ?_ ?_))) rfl (by omega) ?_
          refine ri_iconst C dX4_countsYear_63 kc_i1 ?_
          first | refine ri_iaddN C dX4_countsYear_64 ?_ | refine ri_iadd C dX4_countsYear_64 ?_
          refine ri_iastore C dX4_countsYear_65 (by first | assumption | (repeat (first | assumption | exact kx_rs (by assumption) | exact kx_ne2 (by omega) | exact kx_ne1 (by omega) | refine kx_ro (by assumption) ?_ ?_ | exact kx_rs rfl | refine kx_ro rfl ?_ ?_))) rfl (by omega) (fun s65 e65 => ?_)
          rw [mx_upd] at e65
          first | refine ri_aload_n C dX4_countsYear_66 rfl ?_ | refine ri_aload_nQ C dX4_countsYear_66 rfl ?_ | refine ri_aload_nN C dX4_countsYear_66 rfl ?_
          refine ri_getf C dX4_countsYear_67 fr_q2970_3 (by first | assumption | (repeat (first | assumption | exact kx_rs (by assumption) | exact kx_ne2 (by omega) | exact kx_ne1 (by omega) | refine kx_ro (by assumption) ?_ ?_ | exact kx_rs rfl | refine kx_ro rfl ?_ ?_))) (by rfl) ?_
          refine ri_bipush C dX4_countsYear_70 kc_b17 ?_
          refine ri_iconst C dX4_countsYear_72 kc_i4 ?_
          refine ri_iload_n C dX4_countsYear_73 rfl ?_
          first | refine ri_imulN C dX4_countsYear_74 ?_ | refine ri_imul C dX4_countsYear_74 ?_
          first | refine ri_iaddN C dX4_countsYear_75 ?_ | refine ri_iadd C dX4_countsYear_75 ?_
          refine ri_iload C dX4_countsYear_76 rfl ?_
          first | refine ri_iaddN C dX4_countsYear_78 ?_ | refine ri_iadd C dX4_countsYear_78 ?_
          refine ri_dup2 C dX4_countsYear_79 rfl rfl ?_
          first | refine ri_ialoadN C dX4_countsYear_80 (by first | assumption | (repeat (first | assumption | exact kx_rs (by assumption) | exact kx_ne2 (by omega) | exact kx_ne1 (by omega) | refine kx_ro (by assumption) ?_ ?_ | exact kx_rs rfl | refine kx_ro rfl ?_ ?_))) rfl (by omega) ?_ | refine ri_iaload C dX4_countsYear_80 (by first | assumption | (repeat (first | assumption | exact kx_rs (by assumption) | exact kx_ne2 (by omega) | exact kx_ne1 (by omega) | refine kx_ro (by assumption) ?_ ?_ | exact kx_rs rfl | refine kx_ro rfl ?_ ?_))) rfl (by omega) ?_
          refine ri_iconst C dX4_countsYear_81 kc_i1 ?_
          first | refine ri_iaddN C dX4_countsYear_82 ?_ | refine ri_iadd C dX4_countsYear_82 ?_
          refine ri_iastore C dX4_countsYear_83 (by first | assumption | (repeat (first | assumption | exact kx_rs (by assumption) | exact kx_ne2 (by omega) | exact kx_ne1 (by omega) | refine kx_ro (by assumption) ?_ ?_ | exact kx_rs rfl | refine kx_ro rfl ?_ ?_))) rfl (by omega) (fun s83 e83 => ?_)
          rw [mx_upd] at e83
          exact ri_vret C hQ dX4_countsYear_84 (Nat.le_of_ble_eq_true rfl) (Nat.le_of_ble_eq_true rfl) ⟨rfl, by unfold mx_year; first | (rw [if_pos (by omega), e83, e65, e42, e35]; simp only [kx_up_u]; simp [mx_its, mx_inc, *]) | (rw [if_neg (by omega), e42, e35]; simp only [kx_up_u]; simp [mx_its, *])⟩
        · exact ri_vret C hQ dX4_countsYear_50 (Nat.le_of_ble_eq_true rfl) (Nat.le_of_ble_eq_true rfl) ⟨rfl, by unfold mx_year; first | (rw [if_pos (by omega), e83, e65, e42, e35]; simp only [kx_up_u]; simp [mx_its, mx_inc, *]) | (rw [if_neg (by omega), e42, e35]; simp only [kx_up_u]; simp [mx_its, *])⟩
      · refine ri_iconst C dX4_countsYear_25 kc_i1 ?_
        refine ri_goto C 30 dX4_countsYear_26 rfl ?_
        refine ri_istore C dX4_countsYear_30 rfl (by decide) ?_
        first | refine ri_aload_n C dX4_countsYear_32 rfl ?_ | refine ri_aload_nQ C dX4_countsYear_32 rfl ?_ | refine ri_aload_nN C dX4_countsYear_32 rfl ?_
        refine ri_iconst C dX4_countsYear_33 kc_i0 ?_
        refine ri_iconst C dX4_countsYear_34 kc_i1 ?_
        refine ri_callV C km_X4_counts q3255 qs97 dX4_countsYear_35 (mt_X4_counts htr (by first | assumption | (repeat (first | assumption | exact kx_rs (by assumption) | exact kx_ne2 (by omega) | exact kx_ne1 (by omega) | refine kx_ro (by assumption) ?_ ?_ | exact kx_rs rfl | refine kx_ro rfl ?_ ?_))) (by first | assumption | (repeat (first | assumption | exact kx_rs (by assumption) | exact kx_ne2 (by omega) | exact kx_ne1 (by omega) | refine kx_ro (by assumption) ?_ ?_ | exact kx_rs rfl | refine kx_ro rfl ?_ ?_))) (by omega)) rfl rfl (kx_rcN C (by first | assumption | (repeat (first | assumption | exact kx_rs (by assumption) | exact kx_ne2 (by omega) | exact kx_ne1 (by omega) | refine kx_ro (by assumption) ?_ ?_ | exact kx_rs rfl | refine kx_ro rfl ?_ ?_))) rfl) ⟨⟨(Nat.le_of_ble_eq_true rfl), (Nat.le_of_ble_eq_true rfl)⟩, (Nat.le_of_ble_eq_true rfl), (Nat.le_of_ble_eq_true rfl), (Nat.le_of_ble_eq_true rfl)⟩ (fun v35 s35 h35 => ?_) (fun _ _ _ h => h.elim)
        obtain ⟨rfl, e35⟩ := h35
        first | refine ri_aload_n C dX4_countsYear_38 rfl ?_ | refine ri_aload_nQ C dX4_countsYear_38 rfl ?_ | refine ri_aload_nN C dX4_countsYear_38 rfl ?_
        refine ri_iload C dX4_countsYear_39 rfl ?_
        refine ri_iconst C dX4_countsYear_41 kc_i1 ?_
        refine ri_callV C km_X4_counts q3255 qs97 dX4_countsYear_42 (mt_X4_counts htr (by first | assumption | (repeat (first | assumption | exact kx_rs (by assumption) | exact kx_ne2 (by omega) | exact kx_ne1 (by omega) | refine kx_ro (by assumption) ?_ ?_ | exact kx_rs rfl | refine kx_ro rfl ?_ ?_))) (by first | assumption | (repeat (first | assumption | exact kx_rs (by assumption) | exact kx_ne2 (by omega) | exact kx_ne1 (by omega) | refine kx_ro (by assumption) ?_ ?_ | exact kx_rs rfl | refine kx_ro rfl ?_ ?_))) (by omega)) rfl rfl (kx_rcN C (by first | assumption | (repeat (first | assumption | exact kx_rs (by assumption) | exact kx_ne2 (by omega) | exact kx_ne1 (by omega) | refine kx_ro (by assumption) ?_ ?_ | exact kx_rs rfl | refine kx_ro rfl ?_ ?_))) rfl) ⟨⟨(Nat.le_of_ble_eq_true rfl), (Nat.le_of_ble_eq_true rfl)⟩, (Nat.le_of_ble_eq_true rfl), (Nat.le_of_ble_eq_true rfl), (Nat.le_of_ble_eq_true rfl)⟩ (fun v42 s42 h42 => ?_) (fun _ _ _ h => h.elim)
        obtain ⟨rfl, e42⟩ := h42
        refine ri_iload_n C dX4_countsYear_45 rfl ?_
        refine ri_iconst C dX4_countsYear_46 kc_i1 ?_
        first | refine ri_icmp_leN C 51 dX4_countsYear_47 rfl (by omega) (by omega) (fun h47 => ?_) (fun h47 => ?_) | refine ri_icmp_le C 51 dX4_countsYear_47 rfl (fun h47 => ?_) (fun h47 => ?_)
        · first | refine ri_aload_n C dX4_countsYear_51 rfl ?_ | refine ri_aload_nQ C dX4_countsYear_51 rfl ?_ | refine ri_aload_nN C dX4_countsYear_51 rfl ?_
          refine ri_getf C dX4_countsYear_52 fr_q2970_3 (by first | assumption | (repeat (first | assumption | exact kx_rs (by assumption) | exact kx_ne2 (by omega) | exact kx_ne1 (by omega) | refine kx_ro (by assumption) ?_ ?_ | exact kx_rs rfl | refine kx_ro rfl ?_ ?_))) (by rfl) ?_
          refine ri_bipush C dX4_countsYear_55 kc_b17 ?_
          refine ri_iconst C dX4_countsYear_57 kc_i4 ?_
          refine ri_iload_n C dX4_countsYear_58 rfl ?_
          first | refine ri_imulN C dX4_countsYear_59 ?_ | refine ri_imul C dX4_countsYear_59 ?_
          first | refine ri_iaddN C dX4_countsYear_60 ?_ | refine ri_iadd C dX4_countsYear_60 ?_
          refine ri_dup2 C dX4_countsYear_61 rfl rfl ?_
          first | refine ri_ialoadN C dX4_countsYear_62 (by first | assumption | (repeat (first | assumption | exact kx_rs (by assumption) | exact kx_ne2 (by omega) | exact kx_ne1 (by omega) | refine kx_ro (by assumption) ?_ ?_ | exact kx_rs rfl | refine kx_ro rfl ?_ ?_))) rfl (by omega) ?_ | refine ri_iaload C dX4_countsYear_62 (by first | assumption | (repeat (first | assumption | exact kx_rs (by assumption) | exact kx_ne2 (by omega) | exact kx_ne1 (by omega) | refine kx_ro (by assumption) ?_ ?_ | exact kx_rs rfl | refine kx_ro rfl ?_ ?_))) rfl (by omega) ?_
          refine ri_iconst C dX4_countsYear_63 kc_i1 ?_
          first | refine ri_iaddN C dX4_countsYear_64 ?_ | refine ri_iadd C dX4_countsYear_64 ?_
          refine ri_iastore C dX4_countsYear_65 (by first | assumption | (repeat (first | assumption | exact kx_rs (by assumption) | exact kx_ne2 (by omega) | exact kx_ne1 (by omega) | refine kx_ro (by assumption) ?_ ?_ | exact kx_rs rfl | refine kx_ro rfl ?_ ?_))) rfl (by omega) (fun s65 e65 => ?_)
          rw [mx_upd] at e65
          first | refine ri_aload_n C dX4_countsYear_66 rfl ?_ | refine ri_aload_nQ C dX4_countsYear_66 rfl ?_ | refine ri_aload_nN C dX4_countsYear_66 rfl ?_
          refine ri_getf C dX4_countsYear_67 fr_q2970_3 (by first | assumption | (repeat (first | assumption | exact kx_rs (by assumption) | exact kx_ne2 (by omega) | exact kx_ne1 (by omega) | refine kx_ro (by assumption) ?_ ?_ | exact kx_rs rfl | refine kx_ro rfl ?_ ?_))) (by rfl) ?_
          refine ri_bipush C dX4_countsYear_70 kc_b17 ?_
          refine ri_iconst C dX4_countsYear_72 kc_i4 ?_
          refine ri_iload_n C dX4_countsYear_73 rfl ?_
          first | refine ri_imulN C dX4_countsYear_74 ?_ | refine ri_imul C dX4_countsYear_74 ?_
          first | refine ri_iaddN C dX4_countsYear_75 ?_ | refine ri_iadd C dX4_countsYear_75 ?_
          refine ri_iload C dX4_countsYear_76 rfl ?_
          first | refine ri_iaddN C dX4_countsYear_78 ?_ | refine ri_iadd C dX4_countsYear_78 ?_
          refine ri_dup2 C dX4_countsYear_79 rfl rfl ?_
          first | refine ri_ialoadN C dX4_countsYear_80 (by first | assumption | (repeat (first | assumption | exact kx_rs (by assumption) | exact kx_ne2 (by omega) | exact kx_ne1 (by omega) | refine kx_ro (by assumption) ?_ ?_ | exact kx_rs rfl | refine kx_ro rfl ?_ ?_))) rfl (by omega) ?_ | refine ri_iaload C dX4_countsYear_80 (by first | assumption | (repeat (first | assumption | exact kx_rs (by assumption) | exact kx_ne2 (by omega) | exact kx_ne1 (by omega) | refine kx_ro (by assumption) ?_ ?_ | exact kx_rs rfl | refine kx_ro rfl ?_ ?_))) rfl (by omega) ?_
          refine ri_iconst C dX4_countsYear_81 kc_i1 ?_
          first | refine ri_iaddN C dX4_countsYear_82 ?_ | refine ri_iadd C dX4_countsYear_82 ?_
          refine ri_iastore C dX4_countsYear_83 (by first | assumption | (repeat (first | assumption | exact kx_rs (by assumption) | exact kx_ne2 (by omega) | exact kx_ne1 (by omega) | refine kx_ro (by assumption) ?_ ?_ | exact kx_rs rfl | refine kx_ro rfl ?_ ?_))) rfl (by omega) (fun s83 e83 => ?_)
          rw [mx_upd] at e83
          exact ri_vret C hQ dX4_countsYear_84 (Nat.le_of_ble_eq_true rfl) (Nat.le_of_ble_eq_true rfl) ⟨rfl, by unfold mx_year; first | (rw [if_pos (by omega), e83, e65, e42, e35]; simp only [kx_up_u]; simp [mx_its, mx_inc, *]) | (rw [if_neg (by omega), e42, e35]; simp only [kx_up_u]; simp [mx_its, *])⟩
        · exact ri_vret C hQ dX4_countsYear_50 (Nat.le_of_ble_eq_true rfl) (Nat.le_of_ble_eq_true rfl) ⟨rfl, by unfold mx_year; first | (rw [if_pos (by omega), e83, e65, e42, e35]; simp only [kx_up_u]; simp [mx_its, mx_inc, *]) | (rw [if_neg (by omega), e42, e35]; simp only [kx_up_u]; simp [mx_its, *])⟩
    · exact absurd h13 (nI_m1 (by omega)) --dead
