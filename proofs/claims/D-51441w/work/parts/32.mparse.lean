/-! the reference: parts of statements -/
set_option maxRecDepth 100000
/-- the reference stands at the token that begins at s; no error yet -/
def mo_at (z : Nat → Int32) (inp : Nat → Nat) (N s : Nat) : Prop := z 11 = nI N ∧ z 14 = nI 0 ∧ z 16 = nI (pt_e inp N s) ∧ z 17 = nI s ∧ z 18 = nI (pt_v inp N s) ∧ z 19 = nI (pt_k inp N s) ∧ s ≤ N ∧ z 15 = -1
def mo_er (z : Nat → Int32) (e : Nat × Nat) : Prop := z 14 = nI e.1 ∧ z 15 = nI e.2
def mo_kp (z z' : Nat → Int32) : Prop := ∀ j, j < 14 ∨ 20 < j → z' j = z j
theorem mo_kp_r {z : Nat → Int32} : mo_kp z z := fun _ _ => rfl
theorem mo_kp_t {z z' z2 : Nat → Int32} (h : mo_kp z z') (g : mo_kp z' z2) : mo_kp z z2 := fun j hj => (g j hj).trans (h j hj)
theorem mo_kp_z {z : Nat → Int32} {k : Nat} {x : Int32} (h : 14 ≤ k ∧ k ≤ 20) : mo_kp z (mo_z z k x) := fun j hj => mo_z_o (by omega)
theorem mo_kp_a {z : Nat → Int32} {inp : Nat → Nat} {N p : Nat} : mo_kp z (mo_adv z inp N p) := fun j hj => by
  unfold mo_adv mo_tok
  rw [if_neg (by omega), if_neg (by omega), if_neg (by omega), if_neg (by omega)]
theorem mo_at_a {z : Nat → Int32} {inp : Nat → Nat} {N p : Nat} (h : z 11 = nI N) (h4 : z 14 = nI 0) (h5 : z 15 = -1) (hp : p ≤ N) : mo_at (mo_adv z inp N p) inp N (pt_s inp N p) := ⟨h, h4, rfl, rfl, rfl, rfl, (pt_s_N hp).2, h5⟩
abbrev pn_R := (Nat × Nat) ⊕ (Nat × Nat)
abbrev pt_n (inp : Nat → Nat) (N s : Nat) : Nat := pt_s inp N (pt_e inp N s)
theorem pt_n_N {inp : Nat → Nat} {N s : Nat} (h : s ≤ N) : pt_n inp N s ≤ N := (pt_s_N (pt_e_N h).2).2
def pn_num (inp : Nat → Nat) (N lo hi s : Nat) : pn_R := if pt_k inp N s = 2 then (if lo ≤ pt_v inp N s ∧ pt_v inp N s ≤ hi then .inr (pt_v inp N s, pt_n inp N s) else .inl (2, s)) else .inl (1, s)
def pn_semi (inp : Nat → Nat) (N s : Nat) : pn_R := if pt_k inp N s = 3 then .inr (0, pt_n inp N s) else .inl (1, s)
/-- what reading changes: the object and the numbers of a statement -/
def mo_PS (G : kx_G) (σ : kx_H) (mo : Nat) (ad : Nat → Nat) (z' : Nat → Int32) (M' : Nat → Int32) (τ : kx_H) : Prop := τ = kx_up (kx_up σ (1, 22) (ad 21, kx_ai G 6 M')) (1, 0) (mo, .inr (3, mo_L ad z'))
theorem mo_PS_0 {G : kx_G} {σ τ : kx_H} {mo : Nat} {ad : Nat → Nat} {z' : Nat → Int32} {M' : Nat → Int32} (h : mo_PS G σ mo ad z' M' τ) : τ (1, 0) = some (mo, .inr (3, mo_L ad z')) := by rw [h]; exact kx_up_s
theorem mo_PS_n {G : kx_G} {σ τ : kx_H} {mo : Nat} {ad : Nat → Nat} {z' : Nat → Int32} {M' : Nat → Int32} (h : mo_PS G σ mo ad z' M' τ) : τ (1, 22) = some (ad 21, kx_ai G 6 M') := by rw [h, kx_up_o (by decide)]; exact kx_up_s
theorem mo_PS_o {G : kx_G} {σ τ : kx_H} {mo k : Nat} {ad : Nat → Nat} {z' : Nat → Int32} {M' : Nat → Int32} {x : Nat × va_E} (h : mo_PS G σ mo ad z' M' τ) (g : σ (1, k) = some x) (h0 : k ≠ 0) (h2 : k ≠ 22) : τ (1, k) = some x := by rw [h, kx_up_o (kx_ne2 h0), kx_up_o (kx_ne2 h2)]; exact g
theorem mo_PS_i {G : kx_G} {σ : kx_H} {mo : Nat} {ad : Nat → Nat} {z : Nat → Int32} {M : Nat → Int32} (h0 : σ (1, 0) = some (mo, .inr (3, mo_L ad z))) (hn : σ (1, 22) = some (ad 21, kx_ai G 6 M)) : mo_PS G σ mo ad z M σ := by
  unfold mo_PS; rw [kx_up_i hn, kx_up_i h0]
theorem mo_PS_t {G : kx_G} {σ ρ τ : kx_H} {mo : Nat} {ad : Nat → Nat} {z z' : Nat → Int32} {M M' : Nat → Int32} (h : mo_PS G σ mo ad z M ρ) (g : mo_PS G ρ mo ad z' M' τ) : mo_PS G σ mo ad z' M' τ := by
  unfold mo_PS at *; rw [g, h, kx_up_x]
theorem mo_PS_z {G : kx_G} {σ ρ τ : kx_H} {mo : Nat} {ad : Nat → Nat} {z z' : Nat → Int32} {M : Nat → Int32} (h : mo_PS G σ mo ad z M ρ) (g : τ = kx_up ρ (1, 0) (mo, .inr (3, mo_L ad z'))) : mo_PS G σ mo ad z' M τ := by
  unfold mo_PS at *; rw [g, h, kx_up_u]
theorem mo_PS_m {G : kx_G} {σ ρ τ : kx_H} {mo : Nat} {ad : Nat → Nat} {z : Nat → Int32} {M M' : Nat → Int32} (h : mo_PS G σ mo ad z M ρ) (g : τ = kx_up ρ (1, 22) (ad 21, kx_ai G 6 M')) : mo_PS G σ mo ad z M' τ := by
  unfold mo_PS at *; rw [g, h, kx_up_c (by decide), kx_up_u]
set_option maxHeartbeats 1000000 in
theorem mt_X4_failsAt {l : Launch} {G : kx_G} (htr : l.stackTraces = false) {σ : kx_H} {mo : Nat} {ad : Nat → Nat} {z : Nat → Int32} {k q : Nat} (h0 : σ (1, 0) = some (mo, .inr (3, mo_L ad z))) (h14 : z 14 = nI 0) (h17 : z 17 = nI q) : kx_SP l G yX4_failsAt (ws_ yX4_failsAt cX4_failsAt 2 (some .boolean)) 1 0 0 [.ref mo, .int (nI k)] σ (fun v τ => v = some (.int (nI 0)) ∧ τ = kx_up σ (1, 0) (mo, .inr (3, mo_L ad (mo_z (mo_z z 14 (nI k)) 15 (nI q))))) kx_nx := by
  refine kx_body htr (by decide +kernel) (own := "RoseProverbsModel") (nm := "failsAt") rfl rfl (Nat.le_of_ble_eq_true rfl) ?_
  intro p e s m args below meth c Q C hQ
  first | refine ri_aload_n C dX4_failsAt_0 rfl ?_ | refine ri_aload_nQ C dX4_failsAt_0 rfl ?_ | refine ri_aload_nN C dX4_failsAt_0 rfl ?_
  refine ri_getf C dX4_failsAt_1 fr_q2984_3 (by first | assumption | (repeat (first | assumption | exact kx_rs (by assumption) | exact kx_ne2 (by omega) | exact kx_ne1 (by omega) | refine kx_ro (by assumption) ?_ ?_ | exact kx_rs rfl | refine kx_ro rfl ?_ ?_))) (by rfl) ?_
  rw [h14]
  first | refine ri_if_neB C 20 dX4_failsAt_4 rfl (fun h4 => ?_) (fun h4 => ?_) | refine ri_if_neN C 20 dX4_failsAt_4 rfl (by omega) (fun h4 => ?_) (fun h4 => ?_) | refine ri_if_ne C 20 dX4_failsAt_4 rfl (fun h4 => ?_) (fun h4 => ?_)
  · exact absurd rfl h4 --dead
  · first | refine ri_aload_n C dX4_failsAt_7 rfl ?_ | refine ri_aload_nQ C dX4_failsAt_7 rfl ?_ | refine ri_aload_nN C dX4_failsAt_7 rfl ?_
    refine ri_iload_n C dX4_failsAt_8 rfl ?_
    refine ri_putf C dX4_failsAt_9 fd_q2984_3 (fun h => nomatch h) (by first | assumption | (repeat (first | assumption | exact kx_rs (by assumption) | exact kx_ne2 (by omega) | exact kx_ne1 (by omega) | refine kx_ro (by assumption) ?_ ?_ | exact kx_rs rfl | refine kx_ro rfl ?_ ?_))) (Nat.le_of_ble_eq_true rfl) (by rfl) (by rfl) mo_set14 (fun s9 e9 => ?_)
    first | refine ri_aload_n C dX4_failsAt_12 rfl ?_ | refine ri_aload_nQ C dX4_failsAt_12 rfl ?_ | refine ri_aload_nN C dX4_failsAt_12 rfl ?_
    first | refine ri_aload_n C dX4_failsAt_13 rfl ?_ | refine ri_aload_nQ C dX4_failsAt_13 rfl ?_ | refine ri_aload_nN C dX4_failsAt_13 rfl ?_
    refine ri_getf C dX4_failsAt_14 fr_q2987_3 (by first | assumption | (repeat (first | assumption | exact kx_rs (by assumption) | exact kx_ne2 (by omega) | exact kx_ne1 (by omega) | refine kx_ro (by assumption) ?_ ?_ | exact kx_rs rfl | refine kx_ro rfl ?_ ?_))) (by rfl) ?_
    rw [show mo_z z 14 (nI k) 17 = nI q from h17]
    refine ri_putf C dX4_failsAt_17 fd_q2985_3 (fun h => nomatch h) (by first | assumption | (repeat (first | assumption | exact kx_rs (by assumption) | exact kx_ne2 (by omega) | exact kx_ne1 (by omega) | refine kx_ro (by assumption) ?_ ?_ | exact kx_rs rfl | refine kx_ro rfl ?_ ?_))) (Nat.le_of_ble_eq_true rfl) (by rfl) (by rfl) mo_set15 (fun s17 e17 => ?_)
    refine ri_iconst C dX4_failsAt_20 kc_i0 ?_
    exact ri_iret C hQ dX4_failsAt_21 rfl (Nat.le_of_ble_eq_true rfl) (Nat.le_of_ble_eq_true rfl) ⟨rfl, by rw [e17, e9, kx_up_u]⟩
set_option maxHeartbeats 1000000 in
theorem mt_X4_seesNumber {l : Launch} {G : kx_G} (htr : l.stackTraces = false) {σ : kx_H} {mo : Nat} {ad : Nat → Nat} {z : Nat → Int32} {lo hi : Nat} (h0 : σ (1, 0) = some (mo, .inr (3, mo_L ad z))) {inp : Nat → Nat} {N : Nat} (hin : σ (1, 11) = some (ad 10, kx_ai G 700 (mx_w inp))) {M : Nat → Int32} (hn : σ (1, 22) = some (ad 21, kx_ai G 6 M)) {s0 : Nat} (hat : mo_at z inp N s0) (hN7 : N ≤ 700) (hby : ∀ k, k < N → inp k < 256) (hl : lo < 1000 ∧ hi < 1000) : kx_SP l G yX4_seesNumber (ws_ yX4_seesNumber cX4_seesNumber 3 (some .boolean)) 3 0 0 [.ref mo, .int (nI lo), .int (nI hi)] σ (fun v τ => ∃ z', mo_PS G σ mo ad z' M τ ∧ mo_kp z z' ∧ (∀ e, pn_num inp N lo hi s0 = .inl e → v = some (.int (nI 0)) ∧ mo_er z' e) ∧ (∀ x, pn_num inp N lo hi s0 = .inr x → v = some (.int (nI 1)) ∧ z' = mo_z z 20 (nI x.1) ∧ x.2 = pt_n inp N s0)) kx_nx := by
  refine kx_body htr (by decide +kernel) (own := "RoseProverbsModel") (nm := "seesNumber") rfl rfl (Nat.le_of_ble_eq_true rfl) ?_
  intro p e s m args below meth c Q C hQ
  obtain ⟨h11, h14, h16, h17, h18, h19, hs0, h15⟩ := hat
  have hat : mo_at z inp N s0 := ⟨h11, h14, h16, h17, h18, h19, hs0, h15⟩
  have hvb := pt_v_le (inp := inp) (N := N) (s := s0)
  have hkb : pt_k inp N s0 < 5 := by unfold pt_k; split <;> (repeat (first | omega | split))
  first | refine ri_aload_n C dX4_seesNumber_0 rfl ?_ | refine ri_aload_nQ C dX4_seesNumber_0 rfl ?_ | refine ri_aload_nN C dX4_seesNumber_0 rfl ?_
  refine ri_getf C dX4_seesNumber_1 fr_q2989_3 (by first | assumption | (repeat (first | assumption | exact kx_rs (by assumption) | exact kx_ne2 (by omega) | exact kx_ne1 (by omega) | refine kx_ro (by assumption) ?_ ?_ | exact kx_rs rfl | refine kx_ro rfl ?_ ?_))) (by rfl) ?_
  rw [h19]
  refine ri_iconst C dX4_seesNumber_4 kc_i2 ?_
  first | refine ri_icmp_eqN C 14 dX4_seesNumber_5 rfl (by omega) (by omega) (fun h5 => ?_) (fun h5 => ?_) | refine ri_icmp_eq C 14 dX4_seesNumber_5 rfl (fun h5 => ?_) (fun h5 => ?_)
  · first | refine ri_aload_n C dX4_seesNumber_14 rfl ?_ | refine ri_aload_nQ C dX4_seesNumber_14 rfl ?_ | refine ri_aload_nN C dX4_seesNumber_14 rfl ?_
    refine ri_getf C dX4_seesNumber_15 fr_q2988_3 (by first | assumption | (repeat (first | assumption | exact kx_rs (by assumption) | exact kx_ne2 (by omega) | exact kx_ne1 (by omega) | refine kx_ro (by assumption) ?_ ?_ | exact kx_rs rfl | refine kx_ro rfl ?_ ?_))) (by rfl) ?_
    rw [h18]
    refine ri_iload_n C dX4_seesNumber_18 rfl ?_
    refine ri_iload_n C dX4_seesNumber_19 rfl ?_
    refine ri_callS C km_X4_inRange q3071 dX4_seesNumber_20 (mt_X4_inRange htr) rfl rfl ⟨⟨(Nat.le_of_ble_eq_true rfl), (Nat.le_of_ble_eq_true rfl)⟩, (Nat.le_of_ble_eq_true rfl), (Nat.le_of_ble_eq_true rfl), (Nat.le_of_ble_eq_true rfl)⟩ (fun v20 s20 h20 => ?_) (fun _ _ _ h => h.elim)
    obtain ⟨rfl, rfl⟩ := h20
    rw [show decide (nI lo ≤ nI (pt_v inp N s0) ∧ nI (pt_v inp N s0) ≤ nI hi) = decide (lo ≤ pt_v inp N s0 ∧ pt_v inp N s0 ≤ hi) from decide_eq_decide.mpr (by rw [Int32.le_iff_toInt_le, Int32.le_iff_toInt_le, nI_toInt (by omega), nI_toInt (by omega), nI_toInt (by omega)]; omega)]
    first | refine ri_if_neB C 32 dX4_seesNumber_23 rfl (fun h23 => ?_) (fun h23 => ?_) | refine ri_if_neN C 32 dX4_seesNumber_23 rfl (by omega) (fun h23 => ?_) (fun h23 => ?_) | refine ri_if_ne C 32 dX4_seesNumber_23 rfl (fun h23 => ?_) (fun h23 => ?_)
    · have g23 := of_decide_eq_true h23
      first | refine ri_aload_n C dX4_seesNumber_32 rfl ?_ | refine ri_aload_nQ C dX4_seesNumber_32 rfl ?_ | refine ri_aload_nN C dX4_seesNumber_32 rfl ?_
      first | refine ri_aload_n C dX4_seesNumber_33 rfl ?_ | refine ri_aload_nQ C dX4_seesNumber_33 rfl ?_ | refine ri_aload_nN C dX4_seesNumber_33 rfl ?_
      refine ri_getf C dX4_seesNumber_34 fr_q2988_3 (by first | assumption | (repeat (first | assumption | exact kx_rs (by assumption) | exact kx_ne2 (by omega) | exact kx_ne1 (by omega) | refine kx_ro (by assumption) ?_ ?_ | exact kx_rs rfl | refine kx_ro rfl ?_ ?_))) (by rfl) ?_
      rw [h18]
      refine ri_putf C dX4_seesNumber_37 fd_q2990_3 (fun h => nomatch h) (by first | assumption | (repeat (first | assumption | exact kx_rs (by assumption) | exact kx_ne2 (by omega) | exact kx_ne1 (by omega) | refine kx_ro (by assumption) ?_ ?_ | exact kx_rs rfl | refine kx_ro rfl ?_ ?_))) (Nat.le_of_ble_eq_true rfl) (by rfl) (by rfl) mo_set20 (fun s37 e37 => ?_)
      refine ri_iconst C dX4_seesNumber_40 kc_i1 ?_
      exact ri_iret C hQ dX4_seesNumber_41 rfl (Nat.le_of_ble_eq_true rfl) (Nat.le_of_ble_eq_true rfl) ⟨_, mo_PS_z (mo_PS_i h0 hn) e37, mo_kp_z (by omega), fun e he => (by rw [pn_num, if_pos h5, if_pos g23] at he; cases he), fun x hx => ⟨rfl, by rw [pn_num, if_pos h5, if_pos g23] at hx; injection hx with hx; subst hx; exact ⟨rfl, rfl⟩⟩⟩
    · have g23 := of_decide_eq_false h23
      first | refine ri_aload_n C dX4_seesNumber_26 rfl ?_ | refine ri_aload_nQ C dX4_seesNumber_26 rfl ?_ | refine ri_aload_nN C dX4_seesNumber_26 rfl ?_
      refine ri_iconst C dX4_seesNumber_27 kc_i2 ?_
      refine ri_callV C km_X4_failsAt q3116 qs69 dX4_seesNumber_28 (mt_X4_failsAt htr (by first | assumption | (repeat (first | assumption | exact kx_rs (by assumption) | exact kx_ne2 (by omega) | exact kx_ne1 (by omega) | refine kx_ro (by assumption) ?_ ?_ | exact kx_rs rfl | refine kx_ro rfl ?_ ?_))) h14 h17) rfl rfl (kx_rcN C (by first | assumption | (repeat (first | assumption | exact kx_rs (by assumption) | exact kx_ne2 (by omega) | exact kx_ne1 (by omega) | refine kx_ro (by assumption) ?_ ?_ | exact kx_rs rfl | refine kx_ro rfl ?_ ?_))) rfl) ⟨⟨(Nat.le_of_ble_eq_true rfl), (Nat.le_of_ble_eq_true rfl)⟩, (Nat.le_of_ble_eq_true rfl), (Nat.le_of_ble_eq_true rfl), (Nat.le_of_ble_eq_true rfl)⟩ (fun v28 s28 h28 => ?_) (fun _ _ _ h => h.elim)
      obtain ⟨rfl, e28⟩ := h28
      exact ri_iret C hQ dX4_seesNumber_31 rfl (Nat.le_of_ble_eq_true rfl) (Nat.le_of_ble_eq_true rfl) ⟨_, mo_PS_z (mo_PS_i h0 hn) e28, mo_kp_t (mo_kp_z (by omega)) (mo_kp_z (by omega)), fun e he => ⟨rfl, by rw [pn_num, if_pos h5, if_neg g23] at he; injection he with he; subst he; exact ⟨rfl, rfl⟩⟩, fun x hx => by rw [pn_num, if_pos h5, if_neg g23] at hx; cases hx⟩
  · first | refine ri_aload_n C dX4_seesNumber_8 rfl ?_ | refine ri_aload_nQ C dX4_seesNumber_8 rfl ?_ | refine ri_aload_nN C dX4_seesNumber_8 rfl ?_
    refine ri_iconst C dX4_seesNumber_9 kc_i1 ?_
    refine ri_callV C km_X4_failsAt q3116 qs69 dX4_seesNumber_10 (mt_X4_failsAt htr (by first | assumption | (repeat (first | assumption | exact kx_rs (by assumption) | exact kx_ne2 (by omega) | exact kx_ne1 (by omega) | refine kx_ro (by assumption) ?_ ?_ | exact kx_rs rfl | refine kx_ro rfl ?_ ?_))) h14 h17) rfl rfl (kx_rcN C (by first | assumption | (repeat (first | assumption | exact kx_rs (by assumption) | exact kx_ne2 (by omega) | exact kx_ne1 (by omega) | refine kx_ro (by assumption) ?_ ?_ | exact kx_rs rfl | refine kx_ro rfl ?_ ?_))) rfl) ⟨⟨(Nat.le_of_ble_eq_true rfl), (Nat.le_of_ble_eq_true rfl)⟩, (Nat.le_of_ble_eq_true rfl), (Nat.le_of_ble_eq_true rfl), (Nat.le_of_ble_eq_true rfl)⟩ (fun v10 s10 h10 => ?_) (fun _ _ _ h => h.elim)
    obtain ⟨rfl, e10⟩ := h10
    exact ri_iret C hQ dX4_seesNumber_13 rfl (Nat.le_of_ble_eq_true rfl) (Nat.le_of_ble_eq_true rfl) ⟨_, mo_PS_z (mo_PS_i h0 hn) e10, mo_kp_t (mo_kp_z (by omega)) (mo_kp_z (by omega)), fun e he => ⟨rfl, by rw [pn_num, if_neg h5] at he; injection he with he; subst he; exact ⟨rfl, rfl⟩⟩, fun x hx => by rw [pn_num, if_neg h5] at hx; cases hx⟩
theorem mo_at_z {z : Nat → Int32} {inp : Nat → Nat} {N s k : Nat} {x : Int32} (h : mo_at z inp N s) (hk : k = 20) : mo_at (mo_z z k x) inp N s := by
  obtain ⟨a, b, c, d, e, f, g, i⟩ := h
  have o : ∀ j, j ≠ k → mo_z z k x j = z j := fun j hj => mo_z_o hj
  exact ⟨(o 11 (by omega)).trans a, (o 14 (by omega)).trans b, (o 16 (by omega)).trans c, (o 17 (by omega)).trans d, (o 18 (by omega)).trans e, (o 19 (by omega)).trans f, g, (o 15 (by omega)).trans i⟩
theorem mo_at_n {z : Nat → Int32} {inp : Nat → Nat} {N s : Nat} (h : mo_at z inp N s) : mo_at (mo_adv z inp N (pt_e inp N s)) inp N (pt_n inp N s) := mo_at_a h.1 h.2.1 h.2.2.2.2.2.2.2 (pt_e_N h.2.2.2.2.2.2.1).2
set_option maxHeartbeats 1000000 in
theorem mt_X4_takesNumber {l : Launch} {G : kx_G} (htr : l.stackTraces = false) {σ : kx_H} {mo : Nat} {ad : Nat → Nat} {z : Nat → Int32} {lo hi : Nat} (h0 : σ (1, 0) = some (mo, .inr (3, mo_L ad z))) {inp : Nat → Nat} {N : Nat} (hin : σ (1, 11) = some (ad 10, kx_ai G 700 (mx_w inp))) {M : Nat → Int32} (hn : σ (1, 22) = some (ad 21, kx_ai G 6 M)) {s0 : Nat} (hat : mo_at z inp N s0) (hN7 : N ≤ 700) (hby : ∀ k, k < N → inp k < 256) (hl : lo < 1000 ∧ hi < 1000) : kx_SP l G yX4_takesNumber (ws_ yX4_takesNumber cX4_takesNumber 3 (some .boolean)) 4 0 0 [.ref mo, .int (nI lo), .int (nI hi)] σ (fun v τ => ∃ z', mo_PS G σ mo ad z' M τ ∧ mo_kp z z' ∧ (∀ e, pn_num inp N lo hi s0 = .inl e → v = some (.int (nI 0)) ∧ mo_er z' e) ∧ (∀ x, pn_num inp N lo hi s0 = .inr x → v = some (.int (nI 1)) ∧ mo_at z' inp N x.2 ∧ z' 20 = nI x.1)) kx_nx := by
  refine kx_body htr (by decide +kernel) (own := "RoseProverbsModel") (nm := "takesNumber") rfl rfl (Nat.le_of_ble_eq_true rfl) ?_
  intro p e s m args below meth c Q C hQ
  first | refine ri_aload_n C dX4_takesNumber_0 rfl ?_ | refine ri_aload_nQ C dX4_takesNumber_0 rfl ?_ | refine ri_aload_nN C dX4_takesNumber_0 rfl ?_
  refine ri_iload_n C dX4_takesNumber_1 rfl ?_
  refine ri_iload_n C dX4_takesNumber_2 rfl ?_
  refine ri_callV C km_X4_seesNumber q3132 qs73 dX4_takesNumber_3 (mt_X4_seesNumber htr h0 hin hn hat hN7 hby hl) rfl rfl (kx_rcN C (by first | assumption | (repeat (first | assumption | exact kx_rs (by assumption) | exact kx_ne2 (by omega) | exact kx_ne1 (by omega) | refine kx_ro (by assumption) ?_ ?_ | exact kx_rs rfl | refine kx_ro rfl ?_ ?_))) rfl) ⟨⟨(Nat.le_of_ble_eq_true rfl), (Nat.le_of_ble_eq_true rfl)⟩, (Nat.le_of_ble_eq_true rfl), (Nat.le_of_ble_eq_true rfl), (Nat.le_of_ble_eq_true rfl)⟩ (fun v3 s3 h3 => ?_) (fun _ _ _ h => h.elim)
  obtain ⟨z1, p3, k3, m3, g3⟩ := h3
  have b0 := mo_PS_0 p3
  have bi := mo_PS_o p3 hin (by decide) (by decide)
  have bn := mo_PS_n p3
  rcases hr : pn_num inp N lo hi s0 with e | x
  · obtain ⟨rfl, m4⟩ := m3 e hr
    first | refine ri_if_neB C 11 dX4_takesNumber_6 rfl (fun h6 => ?_) (fun h6 => ?_) | refine ri_if_neN C 11 dX4_takesNumber_6 rfl (by omega) (fun h6 => ?_) (fun h6 => ?_) | refine ri_if_ne C 11 dX4_takesNumber_6 rfl (fun h6 => ?_) (fun h6 => ?_)
    · exact absurd rfl h6 --dead
    · refine ri_iconst C dX4_takesNumber_9 kc_i0 ?_
      exact ri_iret C hQ dX4_takesNumber_10 rfl (Nat.le_of_ble_eq_true rfl) (Nat.le_of_ble_eq_true rfl) ⟨z1, p3, k3, fun e' he => (by rw [hr] at he; injection he with he; subst he; exact ⟨rfl, m4⟩), fun x hx => (by rw [hr] at hx; cases hx)⟩
  · obtain ⟨rfl, rfl, hx2⟩ := g3 x hr
    have ha1 := mo_at_z (x := nI x.1) hat rfl
    first | refine ri_if_neB C 11 dX4_takesNumber_6 rfl (fun h6 => ?_) (fun h6 => ?_) | refine ri_if_neN C 11 dX4_takesNumber_6 rfl (by omega) (fun h6 => ?_) (fun h6 => ?_) | refine ri_if_ne C 11 dX4_takesNumber_6 rfl (fun h6 => ?_) (fun h6 => ?_)
    · first | refine ri_aload_n C dX4_takesNumber_11 rfl ?_ | refine ri_aload_nQ C dX4_takesNumber_11 rfl ?_ | refine ri_aload_nN C dX4_takesNumber_11 rfl ?_
      refine ri_callV C km_X4_advanceToken q3085 qs62 dX4_takesNumber_12 (mt_X4_advanceToken htr b0 bi ha1.1 hN7 hby ha1.2.2.1 (pt_e_N hat.2.2.2.2.2.2.1).2) rfl rfl (kx_rcN C (by first | assumption | (repeat (first | assumption | exact kx_rs (by assumption) | exact kx_ne2 (by omega) | exact kx_ne1 (by omega) | refine kx_ro (by assumption) ?_ ?_ | exact kx_rs rfl | refine kx_ro rfl ?_ ?_))) rfl) ⟨⟨(Nat.le_of_ble_eq_true rfl), (Nat.le_of_ble_eq_true rfl)⟩, (Nat.le_of_ble_eq_true rfl), (Nat.le_of_ble_eq_true rfl), (Nat.le_of_ble_eq_true rfl)⟩ (fun v12 s12 h12 => ?_) (fun _ _ _ h => h.elim)
      obtain ⟨rfl, e12⟩ := h12
      refine ri_iconst C dX4_takesNumber_15 kc_i1 ?_
      exact ri_iret C hQ dX4_takesNumber_16 rfl (Nat.le_of_ble_eq_true rfl) (Nat.le_of_ble_eq_true rfl) ⟨_, mo_PS_z p3 e12, mo_kp_t k3 mo_kp_a, fun e he => (by rw [hr] at he; cases he), fun x' hx => (by rw [hr] at hx; injection hx with hx; subst hx; exact ⟨rfl, by rw [hx2]; exact mo_at_n ha1, (by show mo_z z 20 (nI x.1) 20 = _; exact mo_z_s)⟩)⟩
    · exact absurd h6 (by decide) --dead
set_option maxHeartbeats 1000000 in
theorem mt_X4_takesSemicolon {l : Launch} {G : kx_G} (htr : l.stackTraces = false) {σ : kx_H} {mo : Nat} {ad : Nat → Nat} {z : Nat → Int32} (h0 : σ (1, 0) = some (mo, .inr (3, mo_L ad z))) {inp : Nat → Nat} {N : Nat} (hin : σ (1, 11) = some (ad 10, kx_ai G 700 (mx_w inp))) {M : Nat → Int32} (hn : σ (1, 22) = some (ad 21, kx_ai G 6 M)) {s0 : Nat} (hat : mo_at z inp N s0) (hN7 : N ≤ 700) (hby : ∀ k, k < N → inp k < 256) : kx_SP l G yX4_takesSemicolon (ws_ yX4_takesSemicolon cX4_takesSemicolon 1 (some .boolean)) 4 0 0 [.ref mo] σ (fun v τ => ∃ z', mo_PS G σ mo ad z' M τ ∧ mo_kp z z' ∧ (∀ e, pn_semi inp N s0 = .inl e → v = some (.int (nI 0)) ∧ mo_er z' e) ∧ (∀ x, pn_semi inp N s0 = .inr x → v = some (.int (nI 1)) ∧ mo_at z' inp N x.2)) kx_nx := by
  refine kx_body htr (by decide +kernel) (own := "RoseProverbsModel") (nm := "takesSemicolon") rfl rfl (Nat.le_of_ble_eq_true rfl) ?_
  intro p e s m args below meth c Q C hQ
  obtain ⟨h11, h14, h16, h17, h18, h19, hs0, h15⟩ := hat
  have hat : mo_at z inp N s0 := ⟨h11, h14, h16, h17, h18, h19, hs0, h15⟩
  have hvb := pt_v_le (inp := inp) (N := N) (s := s0)
  have hkb : pt_k inp N s0 < 5 := by unfold pt_k; split <;> (repeat (first | omega | split))
  first | refine ri_aload_n C dX4_takesSemicolon_0 rfl ?_ | refine ri_aload_nQ C dX4_takesSemicolon_0 rfl ?_ | refine ri_aload_nN C dX4_takesSemicolon_0 rfl ?_
  refine ri_getf C dX4_takesSemicolon_1 fr_q2989_3 (by first | assumption | (repeat (first | assumption | exact kx_rs (by assumption) | exact kx_ne2 (by omega) | exact kx_ne1 (by omega) | refine kx_ro (by assumption) ?_ ?_ | exact kx_rs rfl | refine kx_ro rfl ?_ ?_))) (by rfl) ?_
  rw [h19]
  refine ri_iconst C dX4_takesSemicolon_4 kc_i3 ?_
  first | refine ri_icmp_eqN C 14 dX4_takesSemicolon_5 rfl (by omega) (by omega) (fun h5 => ?_) (fun h5 => ?_) | refine ri_icmp_eq C 14 dX4_takesSemicolon_5 rfl (fun h5 => ?_) (fun h5 => ?_)
  · first | refine ri_aload_n C dX4_takesSemicolon_14 rfl ?_ | refine ri_aload_nQ C dX4_takesSemicolon_14 rfl ?_ | refine ri_aload_nN C dX4_takesSemicolon_14 rfl ?_
    refine ri_callV C km_X4_advanceToken q3085 qs62 dX4_takesSemicolon_15 (mt_X4_advanceToken htr h0 hin h11 hN7 hby h16 (pt_e_N hs0).2) rfl rfl (kx_rcN C (by first | assumption | (repeat (first | assumption | exact kx_rs (by assumption) | exact kx_ne2 (by omega) | exact kx_ne1 (by omega) | refine kx_ro (by assumption) ?_ ?_ | exact kx_rs rfl | refine kx_ro rfl ?_ ?_))) rfl) ⟨⟨(Nat.le_of_ble_eq_true rfl), (Nat.le_of_ble_eq_true rfl)⟩, (Nat.le_of_ble_eq_true rfl), (Nat.le_of_ble_eq_true rfl), (Nat.le_of_ble_eq_true rfl)⟩ (fun v15 s15 h15 => ?_) (fun _ _ _ h => h.elim)
    obtain ⟨rfl, e15⟩ := h15
    refine ri_iconst C dX4_takesSemicolon_18 kc_i1 ?_
    exact ri_iret C hQ dX4_takesSemicolon_19 rfl (Nat.le_of_ble_eq_true rfl) (Nat.le_of_ble_eq_true rfl) ⟨_, mo_PS_z (mo_PS_i h0 hn) e15, mo_kp_a, fun e he => (by rw [pn_semi, if_pos h5] at he; cases he), fun x hx => (by rw [pn_semi, if_pos h5] at hx; injection hx with hx; subst hx; exact ⟨rfl, mo_at_n hat⟩)⟩
  · first | refine ri_aload_n C dX4_takesSemicolon_8 rfl ?_ | refine ri_aload_nQ C dX4_takesSemicolon_8 rfl ?_ | refine ri_aload_nN C dX4_takesSemicolon_8 rfl ?_
    refine ri_iconst C dX4_takesSemicolon_9 kc_i1 ?_
    refine ri_callV C km_X4_failsAt q3116 qs69 dX4_takesSemicolon_10 (mt_X4_failsAt htr (by first | assumption | (repeat (first | assumption | exact kx_rs (by assumption) | exact kx_ne2 (by omega) | exact kx_ne1 (by omega) | refine kx_ro (by assumption) ?_ ?_ | exact kx_rs rfl | refine kx_ro rfl ?_ ?_))) h14 h17) rfl rfl (kx_rcN C (by first | assumption | (repeat (first | assumption | exact kx_rs (by assumption) | exact kx_ne2 (by omega) | exact kx_ne1 (by omega) | refine kx_ro (by assumption) ?_ ?_ | exact kx_rs rfl | refine kx_ro rfl ?_ ?_))) rfl) ⟨⟨(Nat.le_of_ble_eq_true rfl), (Nat.le_of_ble_eq_true rfl)⟩, (Nat.le_of_ble_eq_true rfl), (Nat.le_of_ble_eq_true rfl), (Nat.le_of_ble_eq_true rfl)⟩ (fun v10 s10 h10 => ?_) (fun _ _ _ h => h.elim)
    obtain ⟨rfl, e10⟩ := h10
    exact ri_iret C hQ dX4_takesSemicolon_13 rfl (Nat.le_of_ble_eq_true rfl) (Nat.le_of_ble_eq_true rfl) ⟨_, mo_PS_z (mo_PS_i h0 hn) e10, mo_kp_t (mo_kp_z (by omega)) (mo_kp_z (by omega)), fun e he => ⟨rfl, by rw [pn_semi, if_neg h5] at he; injection he with he; subst he; exact ⟨rfl, rfl⟩⟩, fun x hx => by rw [pn_semi, if_neg h5] at hx; cases hx⟩
set_option maxHeartbeats 1000000 in
theorem mt_X4_takes {l : Launch} {G : kx_G} (htr : l.stackTraces = false) {σ : kx_H} {mo : Nat} {ad : Nat → Nat} {z : Nat → Int32} {k lo hi : Nat} (h0 : σ (1, 0) = some (mo, .inr (3, mo_L ad z))) {inp : Nat → Nat} {N : Nat} (hin : σ (1, 11) = some (ad 10, kx_ai G 700 (mx_w inp))) {M : Nat → Int32} (hn : σ (1, 22) = some (ad 21, kx_ai G 6 M)) {s0 : Nat} (hat : mo_at z inp N s0) (hN7 : N ≤ 700) (hby : ∀ k, k < N → inp k < 256) (hl : lo < 1000 ∧ hi < 1000) (hk : k < 6) : kx_SP l G yX4_takes (ws_ yX4_takes cX4_takes 4 (some .boolean)) 5 0 0 [.ref mo, .int (nI k), .int (nI lo), .int (nI hi)] σ (fun v τ => ∃ z' M', mo_PS G σ mo ad z' M' τ ∧ mo_kp z z' ∧ (∀ e, pn_num inp N lo hi s0 = .inl e → v = some (.int (nI 0)) ∧ mo_er z' e) ∧ (∀ x, pn_num inp N lo hi s0 = .inr x → v = some (.int (nI 1)) ∧ mo_at z' inp N x.2 ∧ M' = upd M k (nI x.1))) kx_nx := by
  refine kx_body htr (by decide +kernel) (own := "RoseProverbsModel") (nm := "takes") rfl rfl (Nat.le_of_ble_eq_true rfl) ?_
  intro p e s m args below meth c Q C hQ
  first | refine ri_aload_n C dX4_takes_0 rfl ?_ | refine ri_aload_nQ C dX4_takes_0 rfl ?_ | refine ri_aload_nN C dX4_takes_0 rfl ?_
  refine ri_iload_n C dX4_takes_1 rfl ?_
  refine ri_iload_n C dX4_takes_2 rfl ?_
  refine ri_callV C km_X4_takesNumber q3128 qs72 dX4_takes_3 (mt_X4_takesNumber htr h0 hin hn hat hN7 hby hl) rfl rfl (kx_rcN C (by first | assumption | (repeat (first | assumption | exact kx_rs (by assumption) | exact kx_ne2 (by omega) | exact kx_ne1 (by omega) | refine kx_ro (by assumption) ?_ ?_ | exact kx_rs rfl | refine kx_ro rfl ?_ ?_))) rfl) ⟨⟨(Nat.le_of_ble_eq_true rfl), (Nat.le_of_ble_eq_true rfl)⟩, (Nat.le_of_ble_eq_true rfl), (Nat.le_of_ble_eq_true rfl), (Nat.le_of_ble_eq_true rfl)⟩ (fun v3 s3 h3 => ?_) (fun _ _ _ h => h.elim)
  obtain ⟨z1, p3, k3, m3, g3⟩ := h3
  have b0 := mo_PS_0 p3
  have bn := mo_PS_n p3
  rcases hr : pn_num inp N lo hi s0 with e | x
  · obtain ⟨rfl, m4⟩ := m3 e hr
    first | refine ri_if_neB C 11 dX4_takes_6 rfl (fun h6 => ?_) (fun h6 => ?_) | refine ri_if_neN C 11 dX4_takes_6 rfl (by omega) (fun h6 => ?_) (fun h6 => ?_) | refine ri_if_ne C 11 dX4_takes_6 rfl (fun h6 => ?_) (fun h6 => ?_)
    · exact absurd rfl h6 --dead
    · refine ri_iconst C dX4_takes_9 kc_i0 ?_
      exact ri_iret C hQ dX4_takes_10 rfl (Nat.le_of_ble_eq_true rfl) (Nat.le_of_ble_eq_true rfl) ⟨z1, M, p3, k3, fun e' he => (by rw [hr] at he; injection he with he; subst he; exact ⟨rfl, m4⟩), fun x hx => (by rw [hr] at hx; cases hx)⟩
  · obtain ⟨rfl, ha1, hx2⟩ := g3 x hr
    first | refine ri_if_neB C 11 dX4_takes_6 rfl (fun h6 => ?_) (fun h6 => ?_) | refine ri_if_neN C 11 dX4_takes_6 rfl (by omega) (fun h6 => ?_) (fun h6 => ?_) | refine ri_if_ne C 11 dX4_takes_6 rfl (fun h6 => ?_) (fun h6 => ?_)
    · first | refine ri_aload_n C dX4_takes_11 rfl ?_ | refine ri_aload_nQ C dX4_takes_11 rfl ?_ | refine ri_aload_nN C dX4_takes_11 rfl ?_
      refine ri_getf C dX4_takes_12 fr_q2991_3 (by first | assumption | (repeat (first | assumption | exact kx_rs (by assumption) | exact kx_ne2 (by omega) | exact kx_ne1 (by omega) | refine kx_ro (by assumption) ?_ ?_ | exact kx_rs rfl | refine kx_ro rfl ?_ ?_))) (by rfl) ?_
      refine ri_iload_n C dX4_takes_15 rfl ?_
      first | refine ri_aload_n C dX4_takes_16 rfl ?_ | refine ri_aload_nQ C dX4_takes_16 rfl ?_ | refine ri_aload_nN C dX4_takes_16 rfl ?_
      refine ri_getf C dX4_takes_17 fr_q2990_3 (by first | assumption | (repeat (first | assumption | exact kx_rs (by assumption) | exact kx_ne2 (by omega) | exact kx_ne1 (by omega) | refine kx_ro (by assumption) ?_ ?_ | exact kx_rs rfl | refine kx_ro rfl ?_ ?_))) (by rfl) ?_
      rw [hx2]
      refine ri_iastore C dX4_takes_20 (by first | assumption | (repeat (first | assumption | exact kx_rs (by assumption) | exact kx_ne2 (by omega) | exact kx_ne1 (by omega) | refine kx_ro (by assumption) ?_ ?_ | exact kx_rs rfl | refine kx_ro rfl ?_ ?_))) rfl (by omega) (fun s20 e20 => ?_)
      refine ri_iconst C dX4_takes_21 kc_i1 ?_
      exact ri_iret C hQ dX4_takes_22 rfl (Nat.le_of_ble_eq_true rfl) (Nat.le_of_ble_eq_true rfl) ⟨z1, _, mo_PS_m p3 e20, k3, fun e he => (by rw [hr] at he; cases he), fun x' hx => (by rw [hr] at hx; injection hx with hx; subst hx; exact ⟨rfl, ha1, rfl⟩)⟩
    · exact absurd h6 (by decide) --dead
def pn_bind (r : pn_R) (f : Nat → Nat → (Nat × Nat) ⊕ (List Nat × Nat)) : (Nat × Nat) ⊕ (List Nat × Nat) := match r with
  | .inl e => .inl e
  | .inr x => f x.1 x.2
/-- the numbers of a proverb -/
def pn_prov (inp : Nat → Nat) (N s : Nat) : (Nat × Nat) ⊕ (List Nat × Nat) :=
  pn_bind (pn_num inp N 0 15 s) fun a s => pn_bind (pn_num inp N 0 15 s) fun b s => pn_bind (pn_num inp N 0 11 s) fun c s => pn_bind (pn_num inp N 0 11 s) fun d s => pn_bind (pn_num inp N 0 4 s) fun e s => pn_bind (pn_num inp N 1 999 s) fun f s => .inr ([a, b, c, d, e, f], s)
theorem pn_bind_l {f : Nat → Nat → (Nat × Nat) ⊕ (List Nat × Nat)} {r : pn_R} {e : Nat × Nat} (h : r = .inl e) : pn_bind r f = .inl e := by rw [h]; rfl
theorem pn_bind_r {f : Nat → Nat → (Nat × Nat) ⊕ (List Nat × Nat)} {r : pn_R} {x : Nat × Nat} (h : r = .inr x) : pn_bind r f = f x.1 x.2 := by rw [h]; rfl
def pn_up (M : Nat → Int32) (l : List Nat) : Nat → Int32 := upd (upd (upd (upd (upd (upd M 0 (nI (l.getD 0 0))) 1 (nI (l.getD 1 0))) 2 (nI (l.getD 2 0))) 3 (nI (l.getD 3 0))) 4 (nI (l.getD 4 0))) 5 (nI (l.getD 5 0))
set_option maxHeartbeats 1000000 in
theorem mt_X4_takesProverb {l : Launch} {G : kx_G} (htr : l.stackTraces = false) {σ : kx_H} {mo : Nat} {ad : Nat → Nat} {z : Nat → Int32} (h0 : σ (1, 0) = some (mo, .inr (3, mo_L ad z))) {inp : Nat → Nat} {N : Nat} (hin : σ (1, 11) = some (ad 10, kx_ai G 700 (mx_w inp))) {M : Nat → Int32} (hn : σ (1, 22) = some (ad 21, kx_ai G 6 M)) {s0 : Nat} (hat : mo_at z inp N s0) (hN7 : N ≤ 700) (hby : ∀ k, k < N → inp k < 256) : kx_SP l G yX4_takesProverb (ws_ yX4_takesProverb cX4_takesProverb 1 (some .boolean)) 6 0 0 [.ref mo] σ (fun v τ => ∃ z' M', mo_PS G σ mo ad z' M' τ ∧ mo_kp z z' ∧ (∀ e, pn_prov inp N s0 = .inl e → v = some (.int (nI 0)) ∧ mo_er z' e) ∧ (∀ x, pn_prov inp N s0 = .inr x → v = some (.int (nI 1)) ∧ mo_at z' inp N x.2 ∧ M' = pn_up M x.1)) kx_nx := by
  refine kx_body htr (by decide +kernel) (own := "RoseProverbsModel") (nm := "takesProverb") rfl rfl (Nat.le_of_ble_eq_true rfl) ?_
  intro p e s m args below meth c Q C hQ
  first | refine ri_aload_n C dX4_takesProverb_0 rfl ?_ | refine ri_aload_nQ C dX4_takesProverb_0 rfl ?_ | refine ri_aload_nN C dX4_takesProverb_0 rfl ?_
  refine ri_iconst C dX4_takesProverb_1 kc_i0 ?_
  refine ri_iconst C dX4_takesProverb_2 kc_i0 ?_
  refine ri_bipush C dX4_takesProverb_3 kc_b15 ?_
  refine ri_callV C km_X4_takes q3124 qs71 dX4_takesProverb_5 (mt_X4_takes htr h0 hin hn hat hN7 hby (by decide) (by decide)) rfl rfl (kx_rcN C (by first | assumption | (repeat (first | assumption | exact kx_rs (by assumption) | exact kx_ne2 (by omega) | exact kx_ne1 (by omega) | refine kx_ro (by assumption) ?_ ?_ | exact kx_rs rfl | refine kx_ro rfl ?_ ?_))) rfl) ⟨⟨(Nat.le_of_ble_eq_true rfl), (Nat.le_of_ble_eq_true rfl)⟩, (Nat.le_of_ble_eq_true rfl), (Nat.le_of_ble_eq_true rfl), (Nat.le_of_ble_eq_true rfl)⟩ (fun v5 s5 h5 => ?_) (fun _ _ _ h => h.elim)
  obtain ⟨z0, M0, p0, k0, m0, g0⟩ := h5
  have b0 := mo_PS_0 p0
  have bi0 := mo_PS_o p0 hin (by decide) (by decide)
  have bn0 := mo_PS_n p0
  rcases hr0 : pn_num inp N 0 15 s0 with e | x0
  · obtain ⟨rfl, mm⟩ := m0 e hr0
    have hw : pn_prov inp N s0 = .inl e := by unfold pn_prov; exact pn_bind_l hr0
    first | refine ri_if_eqB C 70 dX4_takesProverb_8 rfl (fun h8 => ?_) (fun h8 => ?_) | refine ri_if_eqN C 70 dX4_takesProverb_8 rfl (by omega) (fun h8 => ?_) (fun h8 => ?_) | refine ri_if_eq C 70 dX4_takesProverb_8 rfl (fun h8 => ?_) (fun h8 => ?_)
    · refine ri_iconst C dX4_takesProverb_70 kc_i0 ?_
      exact ri_iret C hQ dX4_takesProverb_71 rfl (Nat.le_of_ble_eq_true rfl) (Nat.le_of_ble_eq_true rfl) ⟨z0, M0, p0, k0, fun e' he => (by rw [hw] at he; injection he with he; subst he; exact ⟨rfl, mm⟩), fun x hx => (by rw [hw] at hx; cases hx)⟩
    · exact absurd rfl h8 --dead
  · obtain ⟨rfl, at0, rfl⟩ := g0 x0 hr0
    first | refine ri_if_eqB C 70 dX4_takesProverb_8 rfl (fun h8 => ?_) (fun h8 => ?_) | refine ri_if_eqN C 70 dX4_takesProverb_8 rfl (by omega) (fun h8 => ?_) (fun h8 => ?_) | refine ri_if_eq C 70 dX4_takesProverb_8 rfl (fun h8 => ?_) (fun h8 => ?_)
    · exact absurd h8 (by decide) --dead
    · first | refine ri_aload_n C dX4_takesProverb_11 rfl ?_ | refine ri_aload_nQ C dX4_takesProverb_11 rfl ?_ | refine ri_aload_nN C dX4_takesProverb_11 rfl ?_
      refine ri_iconst C dX4_takesProverb_12 kc_i1 ?_
      refine ri_iconst C dX4_takesProverb_13 kc_i0 ?_
      refine ri_bipush C dX4_takesProverb_14 kc_b15 ?_
      refine ri_callV C km_X4_takes q3124 qs71 dX4_takesProverb_16 (mt_X4_takes htr b0 bi0 bn0 at0 hN7 hby (by decide) (by decide)) rfl rfl (kx_rcN C (by first | assumption | (repeat (first | assumption | exact kx_rs (by assumption) | exact kx_ne2 (by omega) | exact kx_ne1 (by omega) | refine kx_ro (by assumption) ?_ ?_ | exact kx_rs rfl | refine kx_ro rfl ?_ ?_))) rfl) ⟨⟨(Nat.le_of_ble_eq_true rfl), (Nat.le_of_ble_eq_true rfl)⟩, (Nat.le_of_ble_eq_true rfl), (Nat.le_of_ble_eq_true rfl), (Nat.le_of_ble_eq_true rfl)⟩ (fun v16 s16 h16 => ?_) (fun _ _ _ h => h.elim)
      obtain ⟨z1, M1, p1, k1, m1, g1⟩ := h16
      have b1 := mo_PS_0 p1
      have bi1 := mo_PS_o p1 bi0 (by decide) (by decide)
      have bn1 := mo_PS_n p1
      rcases hr1 : pn_num inp N 0 15 x0.2 with e | x1
      · obtain ⟨rfl, mm⟩ := m1 e hr1
        have hw : pn_prov inp N s0 = .inl e := by unfold pn_prov; rw [pn_bind_r hr0]; exact pn_bind_l hr1
        first | refine ri_if_eqB C 70 dX4_takesProverb_19 rfl (fun h19 => ?_) (fun h19 => ?_) | refine ri_if_eqN C 70 dX4_takesProverb_19 rfl (by omega) (fun h19 => ?_) (fun h19 => ?_) | refine ri_if_eq C 70 dX4_takesProverb_19 rfl (fun h19 => ?_) (fun h19 => ?_)
        · refine ri_iconst C dX4_takesProverb_70 kc_i0 ?_
          exact ri_iret C hQ dX4_takesProverb_71 rfl (Nat.le_of_ble_eq_true rfl) (Nat.le_of_ble_eq_true rfl) ⟨z1, M1, (mo_PS_t p0 p1), (mo_kp_t k0 k1), fun e' he => (by rw [hw] at he; injection he with he; subst he; exact ⟨rfl, mm⟩), fun x hx => (by rw [hw] at hx; cases hx)⟩
        · exact absurd rfl h19 --dead
      · obtain ⟨rfl, at1, rfl⟩ := g1 x1 hr1
        first | refine ri_if_eqB C 70 dX4_takesProverb_19 rfl (fun h19 => ?_) (fun h19 => ?_) | refine ri_if_eqN C 70 dX4_takesProverb_19 rfl (by omega) (fun h19 => ?_) (fun h19 => ?_) | refine ri_if_eq C 70 dX4_takesProverb_19 rfl (fun h19 => ?_) (fun h19 => ?_)
        · exact absurd h19 (by decide) --dead
        · first | refine ri_aload_n C dX4_takesProverb_22 rfl ?_ | refine ri_aload_nQ C dX4_takesProverb_22 rfl ?_ | refine ri_aload_nN C dX4_takesProverb_22 rfl ?_
          refine ri_iconst C dX4_takesProverb_23 kc_i2 ?_
          refine ri_iconst C dX4_takesProverb_24 kc_i0 ?_
          refine ri_bipush C dX4_takesProverb_25 kc_b11 ?_
          refine ri_callV C km_X4_takes q3124 qs71 dX4_takesProverb_27 (mt_X4_takes htr b1 bi1 bn1 at1 hN7 hby (by decide) (by decide)) rfl rfl (kx_rcN C (by first | assumption | (repeat (first | assumption | exact kx_rs (by assumption) | exact kx_ne2 (by omega) | exact kx_ne1 (by omega) | refine kx_ro (by assumption) ?_ ?_ | exact kx_rs rfl | refine kx_ro rfl ?_ ?_))) rfl) ⟨⟨(Nat.le_of_ble_eq_true rfl), (Nat.le_of_ble_eq_true rfl)⟩, (Nat.le_of_ble_eq_true rfl), (Nat.le_of_ble_eq_true rfl), (Nat.le_of_ble_eq_true rfl)⟩ (fun v27 s27 h27 => ?_) (fun _ _ _ h => h.elim)
          obtain ⟨z2, M2, p2, k2, m2, g2⟩ := h27
          have b2 := mo_PS_0 p2
          have bi2 := mo_PS_o p2 bi1 (by decide) (by decide)
          have bn2 := mo_PS_n p2
          rcases hr2 : pn_num inp N 0 11 x1.2 with e | x2
          · obtain ⟨rfl, mm⟩ := m2 e hr2
            have hw : pn_prov inp N s0 = .inl e := by unfold pn_prov; rw [pn_bind_r hr0]; rw [pn_bind_r hr1]; exact pn_bind_l hr2
            first | refine ri_if_eqB C 70 dX4_takesProverb_30 rfl (fun h30 => ?_) (fun h30 => ?_) | refine ri_if_eqN C 70 dX4_takesProverb_30 rfl (by omega) (fun h30 => ?_) (fun h30 => ?_) | refine ri_if_eq C 70 dX4_takesProverb_30 rfl (fun h30 => ?_) (fun h30 => ?_)
            · refine ri_iconst C dX4_takesProverb_70 kc_i0 ?_
              exact ri_iret C hQ dX4_takesProverb_71 rfl (Nat.le_of_ble_eq_true rfl) (Nat.le_of_ble_eq_true rfl) ⟨z2, M2, (mo_PS_t (mo_PS_t p0 p1) p2), (mo_kp_t (mo_kp_t k0 k1) k2), fun e' he => (by rw [hw] at he; injection he with he; subst he; exact ⟨rfl, mm⟩), fun x hx => (by rw [hw] at hx; cases hx)⟩
            · exact absurd rfl h30 --dead
          · obtain ⟨rfl, at2, rfl⟩ := g2 x2 hr2
            first | refine ri_if_eqB C 70 dX4_takesProverb_30 rfl (fun h30 => ?_) (fun h30 => ?_) | refine ri_if_eqN C 70 dX4_takesProverb_30 rfl (by omega) (fun h30 => ?_) (fun h30 => ?_) | refine ri_if_eq C 70 dX4_takesProverb_30 rfl (fun h30 => ?_) (fun h30 => ?_)
            · exact absurd h30 (by decide) --dead
            · first | refine ri_aload_n C dX4_takesProverb_33 rfl ?_ | refine ri_aload_nQ C dX4_takesProverb_33 rfl ?_ | refine ri_aload_nN C dX4_takesProverb_33 rfl ?_
              refine ri_iconst C dX4_takesProverb_34 kc_i3 ?_
              refine ri_iconst C dX4_takesProverb_35 kc_i0 ?_
              refine ri_bipush C dX4_takesProverb_36 kc_b11 ?_
              refine ri_callV C km_X4_takes q3124 qs71 dX4_takesProverb_38 (mt_X4_takes htr b2 bi2 bn2 at2 hN7 hby (by decide) (by decide)) rfl rfl (kx_rcN C (by first | assumption | (repeat (first | assumption | exact kx_rs (by assumption) | exact kx_ne2 (by omega) | exact kx_ne1 (by omega) | refine kx_ro (by assumption) ?_ ?_ | exact kx_rs rfl | refine kx_ro rfl ?_ ?_))) rfl) ⟨⟨(Nat.le_of_ble_eq_true rfl), (Nat.le_of_ble_eq_true rfl)⟩, (Nat.le_of_ble_eq_true rfl), (Nat.le_of_ble_eq_true rfl), (Nat.le_of_ble_eq_true rfl)⟩ (fun v38 s38 h38 => ?_) (fun _ _ _ h => h.elim)
              obtain ⟨z3, M3, p3, k3, m3, g3⟩ := h38
              have b3 := mo_PS_0 p3
              have bi3 := mo_PS_o p3 bi2 (by decide) (by decide)
              have bn3 := mo_PS_n p3
              rcases hr3 : pn_num inp N 0 11 x2.2 with e | x3
              · obtain ⟨rfl, mm⟩ := m3 e hr3
                have hw : pn_prov inp N s0 = .inl e := by unfold pn_prov; rw [pn_bind_r hr0]; rw [pn_bind_r hr1]; rw [pn_bind_r hr2]; exact pn_bind_l hr3
                first | refine ri_if_eqB C 70 dX4_takesProverb_41 rfl (fun h41 => ?_) (fun h41 => ?_) | refine ri_if_eqN C 70 dX4_takesProverb_41 rfl (by omega) (fun h41 => ?_) (fun h41 => ?_) | refine ri_if_eq C 70 dX4_takesProverb_41 rfl (fun h41 => ?_) (fun h41 => ?_)
                · refine ri_iconst C dX4_takesProverb_70 kc_i0 ?_
                  exact ri_iret C hQ dX4_takesProverb_71 rfl (Nat.le_of_ble_eq_true rfl) (Nat.le_of_ble_eq_true rfl) ⟨z3, M3, (mo_PS_t (mo_PS_t (mo_PS_t p0 p1) p2) p3), (mo_kp_t (mo_kp_t (mo_kp_t k0 k1) k2) k3), fun e' he => (by rw [hw] at he; injection he with he; subst he; exact ⟨rfl, mm⟩), fun x hx => (by rw [hw] at hx; cases hx)⟩
                · exact absurd rfl h41 --dead
              · obtain ⟨rfl, at3, rfl⟩ := g3 x3 hr3
                first | refine ri_if_eqB C 70 dX4_takesProverb_41 rfl (fun h41 => ?_) (fun h41 => ?_) | refine ri_if_eqN C 70 dX4_takesProverb_41 rfl (by omega) (fun h41 => ?_) (fun h41 => ?_) | refine ri_if_eq C 70 dX4_takesProverb_41 rfl (fun h41 => ?_) (fun h41 => ?_)
                · exact absurd h41 (by decide) --dead
                · first | refine ri_aload_n C dX4_takesProverb_44 rfl ?_ | refine ri_aload_nQ C dX4_takesProverb_44 rfl ?_ | refine ri_aload_nN C dX4_takesProverb_44 rfl ?_
                  refine ri_iconst C dX4_takesProverb_45 kc_i4 ?_
                  refine ri_iconst C dX4_takesProverb_46 kc_i0 ?_
                  refine ri_iconst C dX4_takesProverb_47 kc_i4 ?_
                  refine ri_callV C km_X4_takes q3124 qs71 dX4_takesProverb_48 (mt_X4_takes htr b3 bi3 bn3 at3 hN7 hby (by decide) (by decide)) rfl rfl (kx_rcN C (by first | assumption | (repeat (first | assumption | exact kx_rs (by assumption) | exact kx_ne2 (by omega) | exact kx_ne1 (by omega) | refine kx_ro (by assumption) ?_ ?_ | exact kx_rs rfl | refine kx_ro rfl ?_ ?_))) rfl) ⟨⟨(Nat.le_of_ble_eq_true rfl), (Nat.le_of_ble_eq_true rfl)⟩, (Nat.le_of_ble_eq_true rfl), (Nat.le_of_ble_eq_true rfl), (Nat.le_of_ble_eq_true rfl)⟩ (fun v48 s48 h48 => ?_) (fun _ _ _ h => h.elim)
                  obtain ⟨z4, M4, p4, k4, m4, g4⟩ := h48
                  have b4 := mo_PS_0 p4
                  have bi4 := mo_PS_o p4 bi3 (by decide) (by decide)
                  have bn4 := mo_PS_n p4
                  rcases hr4 : pn_num inp N 0 4 x3.2 with e | x4
                  · obtain ⟨rfl, mm⟩ := m4 e hr4
                    have hw : pn_prov inp N s0 = .inl e := by unfold pn_prov; rw [pn_bind_r hr0]; rw [pn_bind_r hr1]; rw [pn_bind_r hr2]; rw [pn_bind_r hr3]; exact pn_bind_l hr4
                    first | refine ri_if_eqB C 70 dX4_takesProverb_51 rfl (fun h51 => ?_) (fun h51 => ?_) | refine ri_if_eqN C 70 dX4_takesProverb_51 rfl (by omega) (fun h51 => ?_) (fun h51 => ?_) | refine ri_if_eq C 70 dX4_takesProverb_51 rfl (fun h51 => ?_) (fun h51 => ?_)
                    · refine ri_iconst C dX4_takesProverb_70 kc_i0 ?_
                      exact ri_iret C hQ dX4_takesProverb_71 rfl (Nat.le_of_ble_eq_true rfl) (Nat.le_of_ble_eq_true rfl) ⟨z4, M4, (mo_PS_t (mo_PS_t (mo_PS_t (mo_PS_t p0 p1) p2) p3) p4), (mo_kp_t (mo_kp_t (mo_kp_t (mo_kp_t k0 k1) k2) k3) k4), fun e' he => (by rw [hw] at he; injection he with he; subst he; exact ⟨rfl, mm⟩), fun x hx => (by rw [hw] at hx; cases hx)⟩
                    · exact absurd rfl h51 --dead
                  · obtain ⟨rfl, at4, rfl⟩ := g4 x4 hr4
                    first | refine ri_if_eqB C 70 dX4_takesProverb_51 rfl (fun h51 => ?_) (fun h51 => ?_) | refine ri_if_eqN C 70 dX4_takesProverb_51 rfl (by omega) (fun h51 => ?_) (fun h51 => ?_) | refine ri_if_eq C 70 dX4_takesProverb_51 rfl (fun h51 => ?_) (fun h51 => ?_)
                    · exact absurd h51 (by decide) --dead
                    · first | refine ri_aload_n C dX4_takesProverb_54 rfl ?_ | refine ri_aload_nQ C dX4_takesProverb_54 rfl ?_ | refine ri_aload_nN C dX4_takesProverb_54 rfl ?_
                      refine ri_iconst C dX4_takesProverb_55 kc_i5 ?_
                      refine ri_iconst C dX4_takesProverb_56 kc_i1 ?_
                      refine ri_sipush C dX4_takesProverb_57 kc_s999 ?_
                      refine ri_callV C km_X4_takes q3124 qs71 dX4_takesProverb_60 (mt_X4_takes htr b4 bi4 bn4 at4 hN7 hby (by decide) (by decide)) rfl rfl (kx_rcN C (by first | assumption | (repeat (first | assumption | exact kx_rs (by assumption) | exact kx_ne2 (by omega) | exact kx_ne1 (by omega) | refine kx_ro (by assumption) ?_ ?_ | exact kx_rs rfl | refine kx_ro rfl ?_ ?_))) rfl) ⟨⟨(Nat.le_of_ble_eq_true rfl), (Nat.le_of_ble_eq_true rfl)⟩, (Nat.le_of_ble_eq_true rfl), (Nat.le_of_ble_eq_true rfl), (Nat.le_of_ble_eq_true rfl)⟩ (fun v60 s60 h60 => ?_) (fun _ _ _ h => h.elim)
                      obtain ⟨z5, M5, p5, k5, m5, g5⟩ := h60
                      have b5 := mo_PS_0 p5
                      have bi5 := mo_PS_o p5 bi4 (by decide) (by decide)
                      have bn5 := mo_PS_n p5
                      rcases hr5 : pn_num inp N 1 999 x4.2 with e | x5
                      · obtain ⟨rfl, mm⟩ := m5 e hr5
                        have hw : pn_prov inp N s0 = .inl e := by unfold pn_prov; rw [pn_bind_r hr0]; rw [pn_bind_r hr1]; rw [pn_bind_r hr2]; rw [pn_bind_r hr3]; rw [pn_bind_r hr4]; exact pn_bind_l hr5
                        first | refine ri_if_eqB C 70 dX4_takesProverb_63 rfl (fun h63 => ?_) (fun h63 => ?_) | refine ri_if_eqN C 70 dX4_takesProverb_63 rfl (by omega) (fun h63 => ?_) (fun h63 => ?_) | refine ri_if_eq C 70 dX4_takesProverb_63 rfl (fun h63 => ?_) (fun h63 => ?_)
                        · refine ri_iconst C dX4_takesProverb_70 kc_i0 ?_
                          exact ri_iret C hQ dX4_takesProverb_71 rfl (Nat.le_of_ble_eq_true rfl) (Nat.le_of_ble_eq_true rfl) ⟨z5, M5, (mo_PS_t (mo_PS_t (mo_PS_t (mo_PS_t (mo_PS_t p0 p1) p2) p3) p4) p5), (mo_kp_t (mo_kp_t (mo_kp_t (mo_kp_t (mo_kp_t k0 k1) k2) k3) k4) k5), fun e' he => (by rw [hw] at he; injection he with he; subst he; exact ⟨rfl, mm⟩), fun x hx => (by rw [hw] at hx; cases hx)⟩
                        · exact absurd rfl h63 --dead
                      · obtain ⟨rfl, at5, rfl⟩ := g5 x5 hr5
                        have hw : pn_prov inp N s0 = .inr ([x0.1, x1.1, x2.1, x3.1, x4.1, x5.1], x5.2) := by unfold pn_prov; rw [pn_bind_r hr0]; rw [pn_bind_r hr1]; rw [pn_bind_r hr2]; rw [pn_bind_r hr3]; rw [pn_bind_r hr4]; rw [pn_bind_r hr5]
                        first | refine ri_if_eqB C 70 dX4_takesProverb_63 rfl (fun h63 => ?_) (fun h63 => ?_) | refine ri_if_eqN C 70 dX4_takesProverb_63 rfl (by omega) (fun h63 => ?_) (fun h63 => ?_) | refine ri_if_eq C 70 dX4_takesProverb_63 rfl (fun h63 => ?_) (fun h63 => ?_)
                        · exact absurd h63 (by decide) --dead
                        · refine ri_iconst C dX4_takesProverb_66 kc_i1 ?_
                          refine ri_goto C 71 dX4_takesProverb_67 rfl ?_
                          exact ri_iret C hQ dX4_takesProverb_71 rfl (Nat.le_of_ble_eq_true rfl) (Nat.le_of_ble_eq_true rfl) ⟨z5, _, (mo_PS_t (mo_PS_t (mo_PS_t (mo_PS_t (mo_PS_t p0 p1) p2) p3) p4) p5), (mo_kp_t (mo_kp_t (mo_kp_t (mo_kp_t (mo_kp_t k0 k1) k2) k3) k4) k5), fun e he => (by rw [hw] at he; cases he), fun x hx => (by rw [hw] at hx; injection hx with hx; subst hx; exact ⟨rfl, at5, rfl⟩)⟩
