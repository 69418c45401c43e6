/-! the reference: statements of a setup -/
set_option maxRecDepth 100000
theorem pn_num_b {inp : Nat → Nat} {N lo hi s : Nat} {x : Nat × Nat} (h : pn_num inp N lo hi s = .inr x) : lo ≤ x.1 ∧ x.1 ≤ hi := by
  unfold pn_num at h
  split at h
  · split at h
    · rename_i g; injection h with h; subst h; exact g
    · cases h
  · cases h
theorem pn_bind_i {f : Nat → Nat → (Nat × Nat) ⊕ (List Nat × Nat)} {r : pn_R} {y : List Nat × Nat} (h : pn_bind r f = .inr y) : ∃ x, r = .inr x ∧ f x.1 x.2 = .inr y := by
  cases r with
  | inl e => cases h
  | inr x => exact ⟨x, rfl, h⟩
theorem pn_prov_b {inp : Nat → Nat} {N s : Nat} {y : List Nat × Nat} (h : pn_prov inp N s = .inr y) : ∃ a b c d e f, y.1 = [a, b, c, d, e, f] ∧ a ≤ 15 ∧ b ≤ 15 ∧ c ≤ 11 ∧ d ≤ 11 ∧ e ≤ 4 ∧ 1 ≤ f ∧ f ≤ 999 := by
  unfold pn_prov at h
  obtain ⟨x0, h0, h⟩ := pn_bind_i h
  obtain ⟨x1, h1, h⟩ := pn_bind_i h
  obtain ⟨x2, h2, h⟩ := pn_bind_i h
  obtain ⟨x3, h3, h⟩ := pn_bind_i h
  obtain ⟨x4, h4, h⟩ := pn_bind_i h
  obtain ⟨x5, h5, h⟩ := pn_bind_i h
  injection h with h
  subst h
  exact ⟨_, _, _, _, _, _, rfl, (pn_num_b h0).2, (pn_num_b h1).2, (pn_num_b h2).2, (pn_num_b h3).2, (pn_num_b h4).2, (pn_num_b h5).1, (pn_num_b h5).2⟩
theorem pn_up_g {M : Nat → Int32} {l : List Nat} {k : Nat} (h : k < 6) : pn_up M l k = nI (l.getD k 0) := by
  unfold pn_up upd
  match k, h with
  | 0, _ => rfl
  | 1, _ => rfl
  | 2, _ => rfl
  | 3, _ => rfl
  | 4, _ => rfl
  | 5, _ => rfl
theorem mo_PS_w {G : kx_G} {σ ρ τ : kx_H} {mo : Nat} {ad : Nat → Nat} {z : Nat → Int32} {M : Nat → Int32} {x y : Nat × va_E} (h : mo_PS G (kx_up σ (1, 1) x) mo ad z M ρ) (g : τ = kx_up ρ (1, 1) y) : mo_PS G (kx_up σ (1, 1) y) mo ad z M τ := by
  unfold mo_PS at *
  rw [g, h, kx_up_c (by decide), kx_up_c (a := (1, 22)) (by decide), kx_up_u]
/-- a proverb of a setup -/
def pn_rp (inp : Nat → Nat) (N : Nat) (u : Nat → Nat) (s : Nat) : (Nat × Nat) ⊕ ((Nat → Nat) × Nat) :=
  if u 0 = 24 then .inl (3, s) else match pn_prov inp N (pt_n inp N s) with
  | .inl e => .inl e
  | .inr x => if pt_k inp N x.2 = 3 then (if mx_any (mx_like u (x.1.getD 0 0) (x.1.getD 1 0) (x.1.getD 2 0) (x.1.getD 3 0) (x.1.getD 4 0)) (u 0) then .inl (4, x.2) else .inr (mx_adds u (x.1.getD 0 0) (x.1.getD 1 0) (x.1.getD 2 0) (x.1.getD 3 0) (x.1.getD 4 0) (x.1.getD 5 0), pt_n inp N x.2)) else .inl (1, x.2)
theorem mx_ad0_o {u : Nat → Nat} {i : Nat} (h : i < 25 + 10 * u 0 ∨ 25 + 10 * u 0 + 10 ≤ i) : ∀ n, n ≤ 10 → mx_ad0 u n i = u i
  | 0, _ => rfl
  | n + 1, hn => by
    unfold mx_ad0
    exact (mx_s_o (by omega)).trans (mx_ad0_o h n (by omega))
theorem mx_adds_o {u : Nat → Nat} {a b c d e f i : Nat} (h : 0 < i ∧ i < 25 + 10 * u 0 ∨ 25 + 10 * u 0 + 10 ≤ i) : mx_adds u a b c d e f i = u i := by
  unfold mx_adds
  rw [mx_s_o (by omega)]
  refine (mx_s_o (by omega)).trans ((mx_s_o (by omega)).trans ((mx_s_o (by omega)).trans ((mx_s_o (by omega)).trans ((mx_s_o (by omega)).trans ((mx_s_o (by omega)).trans ((mx_s_o (by omega)).trans (mx_ad0_o (by omega) 10 (by omega))))))))
set_option maxHeartbeats 1000000 in
theorem mt_X4_readProverb {l : Launch} {G : kx_G} (htr : l.stackTraces = false) {σ : kx_H} {mo : Nat} {ad : Nat → Nat} {z : Nat → Int32} (h0 : σ (1, 0) = some (mo, .inr (3, mo_L ad z))) {inp : Nat → Nat} {N : Nat} (hin : σ (1, 11) = some (ad 10, kx_ai G 700 (mx_w inp))) {M : Nat → Int32} (hn : σ (1, 22) = some (ad 21, kx_ai G 6 M)) {u : Nat → Nat} (hw : σ (1, 1) = some (ad 0, kx_ai G 1417 (mx_w u))) {s0 : Nat} (hat : mo_at z inp N s0) (hN7 : N ≤ 700) (hby : ∀ k, k < N → inp k < 256) (hu : mx_ok u) : kx_SP l G yX4_readProverb (ws_ yX4_readProverb cX4_readProverb 2 (some .boolean)) 7 0 0 [.ref mo] σ (fun v τ => ∃ z' M' u', mo_PS G (kx_up σ (1, 1) (ad 0, kx_ai G 1417 (mx_w u'))) mo ad z' M' τ ∧ mo_kp z z' ∧ (∀ j, 1417 ≤ j → u' j = u j) ∧ (∀ e, pn_rp inp N u s0 = .inl e → v = some (.int (nI 0)) ∧ mo_er z' e) ∧ (∀ x, pn_rp inp N u s0 = .inr x → v = some (.int (nI 1)) ∧ mo_at z' inp N x.2 ∧ u' = x.1)) kx_nx := by
  refine kx_body htr (by decide +kernel) (own := "RoseProverbsModel") (nm := "readProverb") rfl rfl (Nat.le_of_ble_eq_true rfl) ?_
  intro p e s m args below meth c Q C hQ
  have gn := hu.1
  obtain ⟨h11, h14, h16, h17, hv18, h19, hs0, hv15⟩ := hat
  have hat : mo_at z inp N s0 := ⟨h11, h14, h16, h17, hv18, h19, hs0, hv15⟩
  have P0 : mo_PS G (kx_up σ (1, 1) (ad 0, kx_ai G 1417 (mx_w u))) mo ad z M σ := by rw [kx_up_i hw]; exact mo_PS_i h0 hn
  first | refine ri_aload_n C dX4_readProverb_0 rfl ?_ | refine ri_aload_nQ C dX4_readProverb_0 rfl ?_ | refine ri_aload_nN C dX4_readProverb_0 rfl ?_
  refine ri_getf C dX4_readProverb_1 fr_q2970_3 (by first | assumption | (repeat (first | assumption | exact kx_rs (by assumption) | exact kx_ne2 (by omega) | exact kx_ne1 (by omega) | refine kx_ro (by assumption) ?_ ?_ | exact kx_rs rfl | refine kx_ro rfl ?_ ?_))) (by rfl) ?_
  refine ri_iconst C dX4_readProverb_4 kc_i0 ?_
  first | refine ri_ialoadN C dX4_readProverb_5 (by first | assumption | (repeat (first | assumption | exact kx_rs (by assumption) | exact kx_ne2 (by omega) | exact kx_ne1 (by omega) | refine kx_ro (by assumption) ?_ ?_ | exact kx_rs rfl | refine kx_ro rfl ?_ ?_))) rfl (by omega) ?_ | refine ri_iaload C dX4_readProverb_5 (by first | assumption | (repeat (first | assumption | exact kx_rs (by assumption) | exact kx_ne2 (by omega) | exact kx_ne1 (by omega) | refine kx_ro (by assumption) ?_ ?_ | exact kx_rs rfl | refine kx_ro rfl ?_ ?_))) rfl (by omega) ?_
  refine ri_bipush C dX4_readProverb_6 kc_b24 ?_
  first | refine ri_icmp_neN C 17 dX4_readProverb_8 rfl (by omega) (by omega) (fun h8 => ?_) (fun h8 => ?_) | refine ri_icmp_ne C 17 dX4_readProverb_8 rfl (fun h8 => ?_) (fun h8 => ?_)
  · first | refine ri_aload_n C dX4_readProverb_17 rfl ?_ | refine ri_aload_nQ C dX4_readProverb_17 rfl ?_ | refine ri_aload_nN C dX4_readProverb_17 rfl ?_
    refine ri_callV C km_X4_advanceToken q3085 qs62 dX4_readProverb_18 (mt_X4_advanceToken htr h0 hin h11 hN7 hby h16 (pt_e_N hs0).2) rfl rfl (kx_rcN C (by first | assumption | (repeat (first | assumption | exact kx_rs (by assumption) | exact kx_ne2 (by omega) | exact kx_ne1 (by omega) | refine kx_ro (by assumption) ?_ ?_ | exact kx_rs rfl | refine kx_ro rfl ?_ ?_))) rfl) ⟨⟨(Nat.le_of_ble_eq_true rfl), (Nat.le_of_ble_eq_true rfl)⟩, (Nat.le_of_ble_eq_true rfl), (Nat.le_of_ble_eq_true rfl), (Nat.le_of_ble_eq_true rfl)⟩ (fun v18 s18 h18 => ?_) (fun _ _ _ h => h.elim)
    obtain ⟨rfl, e18⟩ := h18
    have hat1 := mo_at_n hat
    have P1 := mo_PS_z P0 e18
    first | refine ri_aload_n C dX4_readProverb_21 rfl ?_ | refine ri_aload_nQ C dX4_readProverb_21 rfl ?_ | refine ri_aload_nN C dX4_readProverb_21 rfl ?_
    refine ri_callV C km_X4_takesProverb q3120 qs70 dX4_readProverb_22 (mt_X4_takesProverb htr (mo_PS_0 P1) (by first | assumption | (repeat (first | assumption | exact kx_rs (by assumption) | exact kx_ne2 (by omega) | exact kx_ne1 (by omega) | refine kx_ro (by assumption) ?_ ?_ | exact kx_rs rfl | refine kx_ro rfl ?_ ?_))) (by first | assumption | (repeat (first | assumption | exact kx_rs (by assumption) | exact kx_ne2 (by omega) | exact kx_ne1 (by omega) | refine kx_ro (by assumption) ?_ ?_ | exact kx_rs rfl | refine kx_ro rfl ?_ ?_))) hat1 hN7 hby) rfl rfl (kx_rcN C (by first | assumption | (repeat (first | assumption | exact kx_rs (by assumption) | exact kx_ne2 (by omega) | exact kx_ne1 (by omega) | refine kx_ro (by assumption) ?_ ?_ | exact kx_rs rfl | refine kx_ro rfl ?_ ?_))) rfl) ⟨⟨(Nat.le_of_ble_eq_true rfl), (Nat.le_of_ble_eq_true rfl)⟩, (Nat.le_of_ble_eq_true rfl), (Nat.le_of_ble_eq_true rfl), (Nat.le_of_ble_eq_true rfl)⟩ (fun v22 s22 h22 => ?_) (fun _ _ _ h => h.elim)
    obtain ⟨z2, M2, p2, k2, m2, g2⟩ := h22
    have P2 := mo_PS_t P1 p2
    have K2 := mo_kp_t mo_kp_a k2
    have b22 := mo_PS_0 P2
    have bn := mo_PS_n P2
    have bw := mo_PS_o P2 (kx_rs rfl) (by decide) (by decide)
    have bi := mo_PS_o P2 (kx_ro rfl hin (by decide)) (by decide) (by decide)
    rcases hr : pn_prov inp N (pt_n inp N s0) with e | x
    · obtain ⟨rfl, mm⟩ := m2 e hr
      first | refine ri_if_neB C 30 dX4_readProverb_25 rfl (fun h25 => ?_) (fun h25 => ?_) | refine ri_if_neN C 30 dX4_readProverb_25 rfl (by omega) (fun h25 => ?_) (fun h25 => ?_) | refine ri_if_ne C 30 dX4_readProverb_25 rfl (fun h25 => ?_) (fun h25 => ?_)
      · exact absurd rfl h25 --dead
      · refine ri_iconst C dX4_readProverb_28 kc_i0 ?_
        exact ri_iret C hQ dX4_readProverb_29 rfl (Nat.le_of_ble_eq_true rfl) (Nat.le_of_ble_eq_true rfl) ⟨_, _, u, P2, K2, fun _ _ => rfl, fun e he => (by simp only [pn_rp, if_neg h8, hr] at he; injection he with he; subst he; exact ⟨rfl, mm⟩), fun x hx => (by simp only [pn_rp, if_neg h8, hr] at hx; cases hx)⟩
    · obtain ⟨rfl, at2, rfl⟩ := g2 x hr
      obtain ⟨a, b, d, g, f, q, hl, la, lb, ld, lg, lf, lq1, lq⟩ := pn_prov_b hr
      obtain ⟨q11, q14, q16, q17, q18, q19, qs, q15⟩ := at2
      have at2 : mo_at z2 inp N x.2 := ⟨q11, q14, q16, q17, q18, q19, qs, q15⟩
      have hkb : pt_k inp N x.2 < 5 := by unfold pt_k; split <;> (repeat (first | omega | split))
      first | refine ri_if_neB C 30 dX4_readProverb_25 rfl (fun h25 => ?_) (fun h25 => ?_) | refine ri_if_neN C 30 dX4_readProverb_25 rfl (by omega) (fun h25 => ?_) (fun h25 => ?_) | refine ri_if_ne C 30 dX4_readProverb_25 rfl (fun h25 => ?_) (fun h25 => ?_)
      · first | refine ri_aload_n C dX4_readProverb_30 rfl ?_ | refine ri_aload_nQ C dX4_readProverb_30 rfl ?_ | refine ri_aload_nN C dX4_readProverb_30 rfl ?_
        refine ri_getf C dX4_readProverb_31 fr_q2989_3 (by first | assumption | (repeat (first | assumption | exact kx_rs (by assumption) | exact kx_ne2 (by omega) | exact kx_ne1 (by omega) | refine kx_ro (by assumption) ?_ ?_ | exact kx_rs rfl | refine kx_ro rfl ?_ ?_))) (by rfl) ?_
        rw [q19]
        refine ri_iconst C dX4_readProverb_34 kc_i3 ?_
        first | refine ri_icmp_eqN C 44 dX4_readProverb_35 rfl (by omega) (by omega) (fun h35 => ?_) (fun h35 => ?_) | refine ri_icmp_eq C 44 dX4_readProverb_35 rfl (fun h35 => ?_) (fun h35 => ?_)
        · first | refine ri_aload_n C dX4_readProverb_44 rfl ?_ | refine ri_aload_nQ C dX4_readProverb_44 rfl ?_ | refine ri_aload_nN C dX4_readProverb_44 rfl ?_
          first | refine ri_aload_n C dX4_readProverb_45 rfl ?_ | refine ri_aload_nQ C dX4_readProverb_45 rfl ?_ | refine ri_aload_nN C dX4_readProverb_45 rfl ?_
          refine ri_getf C dX4_readProverb_46 fr_q2991_3 (by first | assumption | (repeat (first | assumption | exact kx_rs (by assumption) | exact kx_ne2 (by omega) | exact kx_ne1 (by omega) | refine kx_ro (by assumption) ?_ ?_ | exact kx_rs rfl | refine kx_ro rfl ?_ ?_))) (by rfl) ?_
          refine ri_iconst C dX4_readProverb_49 kc_i0 ?_
          refine ri_iaload C dX4_readProverb_50 bn rfl (by omega) ?_
          rw [pn_up_g (show 0 < 6 by decide), show x.1.getD 0 0 = a from by rw [hl]; rfl]
          first | refine ri_aload_n C dX4_readProverb_51 rfl ?_ | refine ri_aload_nQ C dX4_readProverb_51 rfl ?_ | refine ri_aload_nN C dX4_readProverb_51 rfl ?_
          refine ri_getf C dX4_readProverb_52 fr_q2991_3 (by first | assumption | (repeat (first | assumption | exact kx_rs (by assumption) | exact kx_ne2 (by omega) | exact kx_ne1 (by omega) | refine kx_ro (by assumption) ?_ ?_ | exact kx_rs rfl | refine kx_ro rfl ?_ ?_))) (by rfl) ?_
          refine ri_iconst C dX4_readProverb_55 kc_i1 ?_
          refine ri_iaload C dX4_readProverb_56 bn rfl (by omega) ?_
          rw [pn_up_g (show 1 < 6 by decide), show x.1.getD 1 0 = b from by rw [hl]; rfl]
          first | refine ri_aload_n C dX4_readProverb_57 rfl ?_ | refine ri_aload_nQ C dX4_readProverb_57 rfl ?_ | refine ri_aload_nN C dX4_readProverb_57 rfl ?_
          refine ri_getf C dX4_readProverb_58 fr_q2991_3 (by first | assumption | (repeat (first | assumption | exact kx_rs (by assumption) | exact kx_ne2 (by omega) | exact kx_ne1 (by omega) | refine kx_ro (by assumption) ?_ ?_ | exact kx_rs rfl | refine kx_ro rfl ?_ ?_))) (by rfl) ?_
          refine ri_iconst C dX4_readProverb_61 kc_i2 ?_
          refine ri_iaload C dX4_readProverb_62 bn rfl (by omega) ?_
          rw [pn_up_g (show 2 < 6 by decide), show x.1.getD 2 0 = d from by rw [hl]; rfl]
          first | refine ri_aload_n C dX4_readProverb_63 rfl ?_ | refine ri_aload_nQ C dX4_readProverb_63 rfl ?_ | refine ri_aload_nN C dX4_readProverb_63 rfl ?_
          refine ri_getf C dX4_readProverb_64 fr_q2991_3 (by first | assumption | (repeat (first | assumption | exact kx_rs (by assumption) | exact kx_ne2 (by omega) | exact kx_ne1 (by omega) | refine kx_ro (by assumption) ?_ ?_ | exact kx_rs rfl | refine kx_ro rfl ?_ ?_))) (by rfl) ?_
          refine ri_iconst C dX4_readProverb_67 kc_i3 ?_
          refine ri_iaload C dX4_readProverb_68 bn rfl (by omega) ?_
          rw [pn_up_g (show 3 < 6 by decide), show x.1.getD 3 0 = g from by rw [hl]; rfl]
          first | refine ri_aload_n C dX4_readProverb_69 rfl ?_ | refine ri_aload_nQ C dX4_readProverb_69 rfl ?_ | refine ri_aload_nN C dX4_readProverb_69 rfl ?_
          refine ri_getf C dX4_readProverb_70 fr_q2991_3 (by first | assumption | (repeat (first | assumption | exact kx_rs (by assumption) | exact kx_ne2 (by omega) | exact kx_ne1 (by omega) | refine kx_ro (by assumption) ?_ ?_ | exact kx_rs rfl | refine kx_ro rfl ?_ ?_))) (by rfl) ?_
          refine ri_iconst C dX4_readProverb_73 kc_i4 ?_
          refine ri_iaload C dX4_readProverb_74 bn rfl (by omega) ?_
          rw [pn_up_g (show 4 < 6 by decide), show x.1.getD 4 0 = f from by rw [hl]; rfl]
          refine ri_callV C km_X4_isTwice q3136 qs74 dX4_readProverb_75 (mt_X4_isTwice htr b22 bw hu ⟨by omega, by omega, by omega, by omega, by omega⟩) rfl rfl (kx_rcN C (by first | assumption | (repeat (first | assumption | exact kx_rs (by assumption) | exact kx_ne2 (by omega) | exact kx_ne1 (by omega) | refine kx_ro (by assumption) ?_ ?_ | exact kx_rs rfl | refine kx_ro rfl ?_ ?_))) rfl) ⟨⟨(Nat.le_of_ble_eq_true rfl), (Nat.le_of_ble_eq_true rfl)⟩, (Nat.le_of_ble_eq_true rfl), (Nat.le_of_ble_eq_true rfl), (Nat.le_of_ble_eq_true rfl)⟩ (fun v75 s75 h75 => ?_) (fun _ _ _ h => h.elim)
          obtain ⟨rfl, rfl⟩ := h75
          first | refine ri_if_eqB C 87 dX4_readProverb_78 rfl (fun h78 => ?_) (fun h78 => ?_) | refine ri_if_eqN C 87 dX4_readProverb_78 rfl (by omega) (fun h78 => ?_) (fun h78 => ?_) | refine ri_if_eq C 87 dX4_readProverb_78 rfl (fun h78 => ?_) (fun h78 => ?_)
          · first | refine ri_aload_n C dX4_readProverb_87 rfl ?_ | refine ri_aload_nQ C dX4_readProverb_87 rfl ?_ | refine ri_aload_nN C dX4_readProverb_87 rfl ?_
            first | refine ri_aload_n C dX4_readProverb_88 rfl ?_ | refine ri_aload_nQ C dX4_readProverb_88 rfl ?_ | refine ri_aload_nN C dX4_readProverb_88 rfl ?_
            refine ri_getf C dX4_readProverb_89 fr_q2991_3 (by first | assumption | (repeat (first | assumption | exact kx_rs (by assumption) | exact kx_ne2 (by omega) | exact kx_ne1 (by omega) | refine kx_ro (by assumption) ?_ ?_ | exact kx_rs rfl | refine kx_ro rfl ?_ ?_))) (by rfl) ?_
            refine ri_iconst C dX4_readProverb_92 kc_i0 ?_
            refine ri_iaload C dX4_readProverb_93 bn rfl (by omega) ?_
            rw [pn_up_g (show 0 < 6 by decide), show x.1.getD 0 0 = a from by rw [hl]; rfl]
            first | refine ri_aload_n C dX4_readProverb_94 rfl ?_ | refine ri_aload_nQ C dX4_readProverb_94 rfl ?_ | refine ri_aload_nN C dX4_readProverb_94 rfl ?_
            refine ri_getf C dX4_readProverb_95 fr_q2991_3 (by first | assumption | (repeat (first | assumption | exact kx_rs (by assumption) | exact kx_ne2 (by omega) | exact kx_ne1 (by omega) | refine kx_ro (by assumption) ?_ ?_ | exact kx_rs rfl | refine kx_ro rfl ?_ ?_))) (by rfl) ?_
            refine ri_iconst C dX4_readProverb_98 kc_i1 ?_
            refine ri_iaload C dX4_readProverb_99 bn rfl (by omega) ?_
            rw [pn_up_g (show 1 < 6 by decide), show x.1.getD 1 0 = b from by rw [hl]; rfl]
            first | refine ri_aload_n C dX4_readProverb_100 rfl ?_ | refine ri_aload_nQ C dX4_readProverb_100 rfl ?_ | refine ri_aload_nN C dX4_readProverb_100 rfl ?_
            refine ri_getf C dX4_readProverb_101 fr_q2991_3 (by first | assumption | (repeat (first | assumption | exact kx_rs (by assumption) | exact kx_ne2 (by omega) | exact kx_ne1 (by omega) | refine kx_ro (by assumption) ?_ ?_ | exact kx_rs rfl | refine kx_ro rfl ?_ ?_))) (by rfl) ?_
            refine ri_iconst C dX4_readProverb_104 kc_i2 ?_
            refine ri_iaload C dX4_readProverb_105 bn rfl (by omega) ?_
            rw [pn_up_g (show 2 < 6 by decide), show x.1.getD 2 0 = d from by rw [hl]; rfl]
            first | refine ri_aload_n C dX4_readProverb_106 rfl ?_ | refine ri_aload_nQ C dX4_readProverb_106 rfl ?_ | refine ri_aload_nN C dX4_readProverb_106 rfl ?_
            refine ri_getf C dX4_readProverb_107 fr_q2991_3 (by first | assumption | (repeat (first | assumption | exact kx_rs (by assumption) | exact kx_ne2 (by omega) | exact kx_ne1 (by omega) | refine kx_ro (by assumption) ?_ ?_ | exact kx_rs rfl | refine kx_ro rfl ?_ ?_))) (by rfl) ?_
            refine ri_iconst C dX4_readProverb_110 kc_i3 ?_
            refine ri_iaload C dX4_readProverb_111 bn rfl (by omega) ?_
            rw [pn_up_g (show 3 < 6 by decide), show x.1.getD 3 0 = g from by rw [hl]; rfl]
            first | refine ri_aload_n C dX4_readProverb_112 rfl ?_ | refine ri_aload_nQ C dX4_readProverb_112 rfl ?_ | refine ri_aload_nN C dX4_readProverb_112 rfl ?_
            refine ri_getf C dX4_readProverb_113 fr_q2991_3 (by first | assumption | (repeat (first | assumption | exact kx_rs (by assumption) | exact kx_ne2 (by omega) | exact kx_ne1 (by omega) | refine kx_ro (by assumption) ?_ ?_ | exact kx_rs rfl | refine kx_ro rfl ?_ ?_))) (by rfl) ?_
            refine ri_iconst C dX4_readProverb_116 kc_i4 ?_
            refine ri_iaload C dX4_readProverb_117 bn rfl (by omega) ?_
            rw [pn_up_g (show 4 < 6 by decide), show x.1.getD 4 0 = f from by rw [hl]; rfl]
            first | refine ri_aload_n C dX4_readProverb_118 rfl ?_ | refine ri_aload_nQ C dX4_readProverb_118 rfl ?_ | refine ri_aload_nN C dX4_readProverb_118 rfl ?_
            refine ri_getf C dX4_readProverb_119 fr_q2991_3 (by first | assumption | (repeat (first | assumption | exact kx_rs (by assumption) | exact kx_ne2 (by omega) | exact kx_ne1 (by omega) | refine kx_ro (by assumption) ?_ ?_ | exact kx_rs rfl | refine kx_ro rfl ?_ ?_))) (by rfl) ?_
            refine ri_iconst C dX4_readProverb_122 kc_i5 ?_
            refine ri_iaload C dX4_readProverb_123 bn rfl (by omega) ?_
            rw [pn_up_g (show 5 < 6 by decide), show x.1.getD 5 0 = q from by rw [hl]; rfl]
            refine ri_callV C km_X4_adds q2962 qs58 dX4_readProverb_124 (mt_X4_adds htr b22 bw (by omega)) rfl rfl (kx_rcN C (by first | assumption | (repeat (first | assumption | exact kx_rs (by assumption) | exact kx_ne2 (by omega) | exact kx_ne1 (by omega) | refine kx_ro (by assumption) ?_ ?_ | exact kx_rs rfl | refine kx_ro rfl ?_ ?_))) rfl) ⟨⟨(Nat.le_of_ble_eq_true rfl), (Nat.le_of_ble_eq_true rfl)⟩, (Nat.le_of_ble_eq_true rfl), (Nat.le_of_ble_eq_true rfl), (Nat.le_of_ble_eq_true rfl)⟩ (fun v124 s124 h124 => ?_) (fun _ _ _ h => h.elim)
            obtain ⟨rfl, e124⟩ := h124
            have P3 := mo_PS_w P2 e124
            have b3 := mo_PS_0 P3
            have bi3 := kx_ro e124 bi (by decide)
            refine ri_istore_n C dX4_readProverb_127 rfl (by decide) ?_
            first | refine ri_aload_n C dX4_readProverb_128 rfl ?_ | refine ri_aload_nQ C dX4_readProverb_128 rfl ?_ | refine ri_aload_nN C dX4_readProverb_128 rfl ?_
            refine ri_callV C km_X4_advanceToken q3085 qs62 dX4_readProverb_129 (mt_X4_advanceToken htr b3 bi3 q11 hN7 hby q16 (pt_e_N qs).2) rfl rfl (kx_rcN C (by first | assumption | (repeat (first | assumption | exact kx_rs (by assumption) | exact kx_ne2 (by omega) | exact kx_ne1 (by omega) | refine kx_ro (by assumption) ?_ ?_ | exact kx_rs rfl | refine kx_ro rfl ?_ ?_))) rfl) ⟨⟨(Nat.le_of_ble_eq_true rfl), (Nat.le_of_ble_eq_true rfl)⟩, (Nat.le_of_ble_eq_true rfl), (Nat.le_of_ble_eq_true rfl), (Nat.le_of_ble_eq_true rfl)⟩ (fun v129 s129 h129 => ?_) (fun _ _ _ h => h.elim)
            obtain ⟨rfl, e129⟩ := h129
            refine ri_iconst C dX4_readProverb_132 kc_i1 ?_
            exact ri_iret C hQ dX4_readProverb_133 rfl (Nat.le_of_ble_eq_true rfl) (Nat.le_of_ble_eq_true rfl) ⟨_, _, _, mo_PS_z P3 e129, mo_kp_t K2 mo_kp_a, fun j hj => mx_adds_o (by omega), fun e he => (by simp only [pn_rp, if_neg h8, hr, if_pos h35, hl, List.getD_cons_zero, List.getD_cons_succ, h78, if_true, Bool.false_eq_true, if_false] at he; cases he), fun x' hx => (by simp only [pn_rp, if_neg h8, hr, if_pos h35, hl, List.getD_cons_zero, List.getD_cons_succ, h78, if_true, Bool.false_eq_true, if_false] at hx; injection hx with hx; subst hx; exact ⟨rfl, mo_at_n at2, rfl⟩)⟩
          · first | refine ri_aload_n C dX4_readProverb_81 rfl ?_ | refine ri_aload_nQ C dX4_readProverb_81 rfl ?_ | refine ri_aload_nN C dX4_readProverb_81 rfl ?_
            refine ri_iconst C dX4_readProverb_82 kc_i4 ?_
            refine ri_callV C km_X4_failsAt q3116 qs69 dX4_readProverb_83 (mt_X4_failsAt htr b22 q14 q17) rfl rfl (kx_rcN C (by first | assumption | (repeat (first | assumption | exact kx_rs (by assumption) | exact kx_ne2 (by omega) | exact kx_ne1 (by omega) | refine kx_ro (by assumption) ?_ ?_ | exact kx_rs rfl | refine kx_ro rfl ?_ ?_))) rfl) ⟨⟨(Nat.le_of_ble_eq_true rfl), (Nat.le_of_ble_eq_true rfl)⟩, (Nat.le_of_ble_eq_true rfl), (Nat.le_of_ble_eq_true rfl), (Nat.le_of_ble_eq_true rfl)⟩ (fun v83 s83 h83 => ?_) (fun _ _ _ h => h.elim)
            obtain ⟨rfl, e83⟩ := h83
            exact ri_iret C hQ dX4_readProverb_86 rfl (Nat.le_of_ble_eq_true rfl) (Nat.le_of_ble_eq_true rfl) ⟨_, _, u, mo_PS_z P2 e83, mo_kp_t K2 (mo_kp_t (mo_kp_z (by omega)) (mo_kp_z (by omega))), fun _ _ => rfl, fun e he => (by simp only [pn_rp, if_neg h8, hr, if_pos h35, hl, List.getD_cons_zero, List.getD_cons_succ, h78, if_true, Bool.false_eq_true, if_false] at he; injection he with he; subst he; exact ⟨rfl, ⟨rfl, rfl⟩⟩), fun x hx => (by simp only [pn_rp, if_neg h8, hr, if_pos h35, hl, List.getD_cons_zero, List.getD_cons_succ, h78, if_true, Bool.false_eq_true, if_false] at hx; cases hx)⟩
        · first | refine ri_aload_n C dX4_readProverb_38 rfl ?_ | refine ri_aload_nQ C dX4_readProverb_38 rfl ?_ | refine ri_aload_nN C dX4_readProverb_38 rfl ?_
          refine ri_iconst C dX4_readProverb_39 kc_i1 ?_
          refine ri_callV C km_X4_failsAt q3116 qs69 dX4_readProverb_40 (mt_X4_failsAt htr b22 q14 q17) rfl rfl (kx_rcN C (by first | assumption | (repeat (first | assumption | exact kx_rs (by assumption) | exact kx_ne2 (by omega) | exact kx_ne1 (by omega) | refine kx_ro (by assumption) ?_ ?_ | exact kx_rs rfl | refine kx_ro rfl ?_ ?_))) rfl) ⟨⟨(Nat.le_of_ble_eq_true rfl), (Nat.le_of_ble_eq_true rfl)⟩, (Nat.le_of_ble_eq_true rfl), (Nat.le_of_ble_eq_true rfl), (Nat.le_of_ble_eq_true rfl)⟩ (fun v40 s40 h40 => ?_) (fun _ _ _ h => h.elim)
          obtain ⟨rfl, e40⟩ := h40
          exact ri_iret C hQ dX4_readProverb_43 rfl (Nat.le_of_ble_eq_true rfl) (Nat.le_of_ble_eq_true rfl) ⟨_, _, u, mo_PS_z P2 e40, mo_kp_t K2 (mo_kp_t (mo_kp_z (by omega)) (mo_kp_z (by omega))), fun _ _ => rfl, fun e he => (by simp only [pn_rp, if_neg h8, hr, if_neg h35] at he; injection he with he; subst he; exact ⟨rfl, ⟨rfl, rfl⟩⟩), fun x hx => (by simp only [pn_rp, if_neg h8, hr, if_neg h35] at hx; cases hx)⟩
      · exact absurd h25 (by decide) --dead
  · first | refine ri_aload_n C dX4_readProverb_11 rfl ?_ | refine ri_aload_nQ C dX4_readProverb_11 rfl ?_ | refine ri_aload_nN C dX4_readProverb_11 rfl ?_
    refine ri_iconst C dX4_readProverb_12 kc_i3 ?_
    refine ri_callV C km_X4_failsAt q3116 qs69 dX4_readProverb_13 (mt_X4_failsAt htr h0 h14 h17) rfl rfl (kx_rcN C (by first | assumption | (repeat (first | assumption | exact kx_rs (by assumption) | exact kx_ne2 (by omega) | exact kx_ne1 (by omega) | refine kx_ro (by assumption) ?_ ?_ | exact kx_rs rfl | refine kx_ro rfl ?_ ?_))) rfl) ⟨⟨(Nat.le_of_ble_eq_true rfl), (Nat.le_of_ble_eq_true rfl)⟩, (Nat.le_of_ble_eq_true rfl), (Nat.le_of_ble_eq_true rfl), (Nat.le_of_ble_eq_true rfl)⟩ (fun v13 s13 h13 => ?_) (fun _ _ _ h => h.elim)
    obtain ⟨rfl, e13⟩ := h13
    exact ri_iret C hQ dX4_readProverb_16 rfl (Nat.le_of_ble_eq_true rfl) (Nat.le_of_ble_eq_true rfl) ⟨_, _, u, mo_PS_z P0 e13, mo_kp_t (mo_kp_z (by omega)) (mo_kp_z (by omega)), fun _ _ => rfl, fun e he => (by rw [pn_rp, if_pos h8] at he; injection he with he; subst he; exact ⟨rfl, ⟨rfl, rfl⟩⟩), fun x hx => (by rw [pn_rp, if_pos h8] at hx; cases hx)⟩
def pn_rs (inp : Nat → Nat) (N : Nat) (u : Nat → Nat) (k s : Nat) : (Nat × Nat) ⊕ ((Nat → Nat) × Nat) :=
  match pn_num inp N 0 (mx_mst k) (pt_n inp N s) with
  | .inl e => .inl e
  | .inr x => match pn_semi inp N x.2 with
    | .inl e => .inl e
    | .inr y => .inr (mx_s u k x.1, y.2)
def pn_st (inp : Nat → Nat) (N : Nat) (u : Nat → Nat) (s : Nat) : (Nat × Nat) ⊕ ((Nat → Nat) × Nat) :=
  if pt_w inp N s w_proverb then pn_rp inp N u s else match st_w inp N s with
  | none => .inl (1, s)
  | some k => pn_rs inp N u k s
theorem mo_PS_e {G : kx_G} {σ : kx_H} {mo : Nat} {ad : Nat → Nat} {z : Nat → Int32} {M : Nat → Int32} {u : Nat → Nat} (hw : σ (1, 1) = some (ad 0, kx_ai G 1417 (mx_w u))) (h0 : σ (1, 0) = some (mo, .inr (3, mo_L ad z))) (hn : σ (1, 22) = some (ad 21, kx_ai G 6 M)) : mo_PS G (kx_up σ (1, 1) (ad 0, kx_ai G 1417 (mx_w u))) mo ad z M σ := by rw [kx_up_i hw]; exact mo_PS_i h0 hn
set_option maxHeartbeats 1000000 in
theorem mt_X4_readSetting {l : Launch} {G : kx_G} (htr : l.stackTraces = false) {σ : kx_H} {mo : Nat} {ad : Nat → Nat} {z : Nat → Int32} {k : Nat} (h0 : σ (1, 0) = some (mo, .inr (3, mo_L ad z))) {inp : Nat → Nat} {N : Nat} (hin : σ (1, 11) = some (ad 10, kx_ai G 700 (mx_w inp))) {M : Nat → Int32} (hn : σ (1, 22) = some (ad 21, kx_ai G 6 M)) {u : Nat → Nat} (hw : σ (1, 1) = some (ad 0, kx_ai G 1417 (mx_w u))) {s0 : Nat} (hat : mo_at z inp N s0) (hN7 : N ≤ 700) (hby : ∀ k, k < N → inp k < 256) (hk : 5 ≤ k ∧ k ≤ 7) : kx_SP l G yX4_readSetting (ws_ yX4_readSetting cX4_readSetting 2 (some .boolean)) 6 0 0 [.ref mo, .int (nI k)] σ (fun v τ => ∃ z' M' u', mo_PS G (kx_up σ (1, 1) (ad 0, kx_ai G 1417 (mx_w u'))) mo ad z' M' τ ∧ mo_kp z z' ∧ (∀ j, 1417 ≤ j → u' j = u j) ∧ (∀ e, pn_rs inp N u k s0 = .inl e → v = some (.int (nI 0)) ∧ mo_er z' e) ∧ (∀ x, pn_rs inp N u k s0 = .inr x → v = some (.int (nI 1)) ∧ mo_at z' inp N x.2 ∧ u' = x.1)) kx_nx := by
  refine kx_body htr (by decide +kernel) (own := "RoseProverbsModel") (nm := "readSetting") rfl rfl (Nat.le_of_ble_eq_true rfl) ?_
  intro p e s m args below meth c Q C hQ
  have hm : mx_mst k < 1000 := by unfold mx_mst; split <;> decide
  obtain ⟨hv11, hv14, h16, h17, h18, h19, hs0, hv15⟩ := hat
  have hat : mo_at z inp N s0 := ⟨hv11, hv14, h16, h17, h18, h19, hs0, hv15⟩
  have P0 := mo_PS_e hw h0 hn
  first | refine ri_aload_n C dX4_readSetting_0 rfl ?_ | refine ri_aload_nQ C dX4_readSetting_0 rfl ?_ | refine ri_aload_nN C dX4_readSetting_0 rfl ?_
  refine ri_callV C km_X4_advanceToken q3085 qs62 dX4_readSetting_1 (mt_X4_advanceToken htr h0 hin hv11 hN7 hby h16 (pt_e_N hs0).2) rfl rfl (kx_rcN C (by first | assumption | (repeat (first | assumption | exact kx_rs (by assumption) | exact kx_ne2 (by omega) | exact kx_ne1 (by omega) | refine kx_ro (by assumption) ?_ ?_ | exact kx_rs rfl | refine kx_ro rfl ?_ ?_))) rfl) ⟨⟨(Nat.le_of_ble_eq_true rfl), (Nat.le_of_ble_eq_true rfl)⟩, (Nat.le_of_ble_eq_true rfl), (Nat.le_of_ble_eq_true rfl), (Nat.le_of_ble_eq_true rfl)⟩ (fun v1 s1 h1 => ?_) (fun _ _ _ h => h.elim)
  obtain ⟨rfl, e1⟩ := h1
  have hat1 := mo_at_n hat
  have P1 := mo_PS_z P0 e1
  have b1 := mo_PS_0 P1
  have bn1 := mo_PS_n P1
  have bw1 := mo_PS_o P1 (kx_rs rfl) (by decide) (by decide)
  have bi1 := mo_PS_o P1 (kx_ro rfl hin (by decide)) (by decide) (by decide)
  first | refine ri_aload_n C dX4_readSetting_4 rfl ?_ | refine ri_aload_nQ C dX4_readSetting_4 rfl ?_ | refine ri_aload_nN C dX4_readSetting_4 rfl ?_
  refine ri_iconst C dX4_readSetting_5 kc_i0 ?_
  refine ri_iconst C dX4_readSetting_6 kc_i0 ?_
  refine ri_iload_n C dX4_readSetting_7 rfl ?_
  refine ri_callS C km_X4_mostOf q3159 dX4_readSetting_8 (mt_X4_mostOf htr (by omega)) rfl rfl ⟨⟨(Nat.le_of_ble_eq_true rfl), (Nat.le_of_ble_eq_true rfl)⟩, (Nat.le_of_ble_eq_true rfl), (Nat.le_of_ble_eq_true rfl), (Nat.le_of_ble_eq_true rfl)⟩ (fun v8 s8 h8 => ?_) (fun _ _ _ h => h.elim)
  obtain ⟨rfl, rfl⟩ := h8
  refine ri_callV C km_X4_takes q3124 qs71 dX4_readSetting_11 (mt_X4_takes htr b1 bi1 bn1 hat1 hN7 hby ⟨by decide, hm⟩ (by decide)) rfl rfl (kx_rcN C (by first | assumption | (repeat (first | assumption | exact kx_rs (by assumption) | exact kx_ne2 (by omega) | exact kx_ne1 (by omega) | refine kx_ro (by assumption) ?_ ?_ | exact kx_rs rfl | refine kx_ro rfl ?_ ?_))) rfl) ⟨⟨(Nat.le_of_ble_eq_true rfl), (Nat.le_of_ble_eq_true rfl)⟩, (Nat.le_of_ble_eq_true rfl), (Nat.le_of_ble_eq_true rfl), (Nat.le_of_ble_eq_true rfl)⟩ (fun v11 s11 h11 => ?_) (fun _ _ _ h => h.elim)
  obtain ⟨z2, M2, p2, k2, m2, g2⟩ := h11
  have P2 := mo_PS_t P1 p2
  have K2 := mo_kp_t mo_kp_a k2
  have b2 := mo_PS_0 P2
  have bn2 := mo_PS_n P2
  have bw2 := mo_PS_o P2 (kx_rs rfl) (by decide) (by decide)
  have bi2 := mo_PS_o P2 (kx_ro rfl hin (by decide)) (by decide) (by decide)
  rcases hr : pn_num inp N 0 (mx_mst k) (pt_n inp N s0) with e | x
  · obtain ⟨rfl, mm⟩ := m2 e hr
    first | refine ri_if_neB C 19 dX4_readSetting_14 rfl (fun h14 => ?_) (fun h14 => ?_) | refine ri_if_neN C 19 dX4_readSetting_14 rfl (by omega) (fun h14 => ?_) (fun h14 => ?_) | refine ri_if_ne C 19 dX4_readSetting_14 rfl (fun h14 => ?_) (fun h14 => ?_)
    · exact absurd rfl h14 --dead
    · refine ri_iconst C dX4_readSetting_17 kc_i0 ?_
      exact ri_iret C hQ dX4_readSetting_18 rfl (Nat.le_of_ble_eq_true rfl) (Nat.le_of_ble_eq_true rfl) ⟨_, _, u, P2, K2, fun _ _ => rfl, fun e he => (by simp only [pn_rs, hr] at he; injection he with he; subst he; exact ⟨rfl, mm⟩), fun x hx => (by simp only [pn_rs, hr] at hx; cases hx)⟩
  · obtain ⟨rfl, at2, rfl⟩ := g2 x hr
    first | refine ri_if_neB C 19 dX4_readSetting_14 rfl (fun h14 => ?_) (fun h14 => ?_) | refine ri_if_neN C 19 dX4_readSetting_14 rfl (by omega) (fun h14 => ?_) (fun h14 => ?_) | refine ri_if_ne C 19 dX4_readSetting_14 rfl (fun h14 => ?_) (fun h14 => ?_)
    · first | refine ri_aload_n C dX4_readSetting_19 rfl ?_ | refine ri_aload_nQ C dX4_readSetting_19 rfl ?_ | refine ri_aload_nN C dX4_readSetting_19 rfl ?_
      refine ri_getf C dX4_readSetting_20 fr_q2970_3 (by first | assumption | (repeat (first | assumption | exact kx_rs (by assumption) | exact kx_ne2 (by omega) | exact kx_ne1 (by omega) | refine kx_ro (by assumption) ?_ ?_ | exact kx_rs rfl | refine kx_ro rfl ?_ ?_))) (by rfl) ?_
      refine ri_iload_n C dX4_readSetting_23 rfl ?_
      first | refine ri_aload_n C dX4_readSetting_24 rfl ?_ | refine ri_aload_nQ C dX4_readSetting_24 rfl ?_ | refine ri_aload_nN C dX4_readSetting_24 rfl ?_
      refine ri_getf C dX4_readSetting_25 fr_q2991_3 (by first | assumption | (repeat (first | assumption | exact kx_rs (by assumption) | exact kx_ne2 (by omega) | exact kx_ne1 (by omega) | refine kx_ro (by assumption) ?_ ?_ | exact kx_rs rfl | refine kx_ro rfl ?_ ?_))) (by rfl) ?_
      refine ri_iconst C dX4_readSetting_28 kc_i0 ?_
      refine ri_iaload C dX4_readSetting_29 bn2 rfl (by omega) ?_
      refine ri_iastore C dX4_readSetting_30 bw2 rfl (by omega) (fun s30 e30 => ?_)
      rw [show upd M 0 (nI x.1) 0 = nI x.1 from rfl, mx_upd] at e30
      have P3 := mo_PS_w P2 e30
      have b3 := mo_PS_0 P3
      have bn3 := mo_PS_n P3
      have bw3 := mo_PS_o P3 (kx_rs rfl) (by decide) (by decide)
      have bi3 := mo_PS_o P3 (kx_ro rfl hin (by decide)) (by decide) (by decide)
      first | refine ri_aload_n C dX4_readSetting_31 rfl ?_ | refine ri_aload_nQ C dX4_readSetting_31 rfl ?_ | refine ri_aload_nN C dX4_readSetting_31 rfl ?_
      refine ri_callV C km_X4_takesSemicolon q3162 qs79 dX4_readSetting_32 (mt_X4_takesSemicolon htr b3 bi3 bn3 at2 hN7 hby) rfl rfl (kx_rcN C (by first | assumption | (repeat (first | assumption | exact kx_rs (by assumption) | exact kx_ne2 (by omega) | exact kx_ne1 (by omega) | refine kx_ro (by assumption) ?_ ?_ | exact kx_rs rfl | refine kx_ro rfl ?_ ?_))) rfl) ⟨⟨(Nat.le_of_ble_eq_true rfl), (Nat.le_of_ble_eq_true rfl)⟩, (Nat.le_of_ble_eq_true rfl), (Nat.le_of_ble_eq_true rfl), (Nat.le_of_ble_eq_true rfl)⟩ (fun v32 s32 h32 => ?_) (fun _ _ _ h => h.elim)
      obtain ⟨z4, p4, k4, m4, g4⟩ := h32
      have P4 := mo_PS_t P3 p4
      have K4 := mo_kp_t K2 k4
      rcases hq : pn_semi inp N x.2 with e | y
      · obtain ⟨rfl, mm⟩ := m4 e hq
        exact ri_iret C hQ dX4_readSetting_35 rfl (Nat.le_of_ble_eq_true rfl) (Nat.le_of_ble_eq_true rfl) ⟨_, _, _, P4, K4, fun j hj => mx_s_o (by omega), fun e' he => (by simp only [pn_rs, hr, hq] at he; injection he with he; subst he; exact ⟨rfl, mm⟩), fun x' hx => (by simp only [pn_rs, hr, hq] at hx; cases hx)⟩
      · obtain ⟨rfl, at4⟩ := g4 y hq
        exact ri_iret C hQ dX4_readSetting_35 rfl (Nat.le_of_ble_eq_true rfl) (Nat.le_of_ble_eq_true rfl) ⟨_, _, _, P4, K4, fun j hj => mx_s_o (by omega), fun e' he => (by simp only [pn_rs, hr, hq] at he; cases he), fun x' hx => (by simp only [pn_rs, hr, hq] at hx; injection hx with hx; subst hx; exact ⟨rfl, at4, rfl⟩)⟩
    · exact absurd h14 (by decide) --dead
set_option maxHeartbeats 1000000 in
theorem mt_X4_readSetupStatement {l : Launch} {G : kx_G} (htr : l.stackTraces = false) {σ : kx_H} {mo : Nat} {ad : Nat → Nat} {z : Nat → Int32} (h0 : σ (1, 0) = some (mo, .inr (3, mo_L ad z))) {inp : Nat → Nat} {N : Nat} (hin : σ (1, 11) = some (ad 10, kx_ai G 700 (mx_w inp))) {M : Nat → Int32} (hn : σ (1, 22) = some (ad 21, kx_ai G 6 M)) {u : Nat → Nat} (hw : σ (1, 1) = some (ad 0, kx_ai G 1417 (mx_w u))) {s0 : Nat} (hat : mo_at z inp N s0) (hN7 : N ≤ 700) (hby : ∀ k, k < N → inp k < 256) (hu : mx_ok u) : kx_SP l G yX4_readSetupStatement (ws_ yX4_readSetupStatement cX4_readSetupStatement 2 (some .boolean)) 8 0 0 [.ref mo] σ (fun v τ => ∃ z' M' u', mo_PS G (kx_up σ (1, 1) (ad 0, kx_ai G 1417 (mx_w u'))) mo ad z' M' τ ∧ mo_kp z z' ∧ (∀ j, 1417 ≤ j → u' j = u j) ∧ (∀ e, pn_st inp N u s0 = .inl e → v = some (.int (nI 0)) ∧ mo_er z' e) ∧ (∀ x, pn_st inp N u s0 = .inr x → v = some (.int (nI 1)) ∧ mo_at z' inp N x.2 ∧ u' = x.1)) kx_nx := by
  refine kx_body htr (by decide +kernel) (own := "RoseProverbsModel") (nm := "readSetupStatement") rfl rfl (Nat.le_of_ble_eq_true rfl) ?_
  intro p e s m args below meth c Q C hQ
  obtain ⟨hv11, hv14, h16, h17, h18, h19, hs0, hv15⟩ := hat
  have hat : mo_at z inp N s0 := ⟨hv11, hv14, h16, h17, h18, h19, hs0, hv15⟩
  have P0 := mo_PS_e hw h0 hn
  first | refine ri_aload_n C dX4_readSetupStatement_0 rfl ?_ | refine ri_aload_nQ C dX4_readSetupStatement_0 rfl ?_ | refine ri_aload_nN C dX4_readSetupStatement_0 rfl ?_
  refine ri_ldcS C 9 dX4_readSetupStatement_1 rfl rfl rfl ?_
  refine ri_callV C km_X4_isWord q3106 qs67 dX4_readSetupStatement_3 (mt_X4_isWord htr h0 hin hat hN7 hby (w := w_proverb) (kx_sgC 9 rfl) (kx_bl_of rfl (by decide)) (by decide)) rfl rfl (kx_rcN C (by first | assumption | (repeat (first | assumption | exact kx_rs (by assumption) | exact kx_ne2 (by omega) | exact kx_ne1 (by omega) | refine kx_ro (by assumption) ?_ ?_ | exact kx_rs rfl | refine kx_ro rfl ?_ ?_))) rfl) ⟨⟨(Nat.le_of_ble_eq_true rfl), (Nat.le_of_ble_eq_true rfl)⟩, (Nat.le_of_ble_eq_true rfl), (Nat.le_of_ble_eq_true rfl), (Nat.le_of_ble_eq_true rfl)⟩ (fun v3 s3 h3 => ?_) (fun _ _ _ h => h.elim)
  obtain ⟨rfl, rfl⟩ := h3
  first | refine ri_if_eqB C 14 dX4_readSetupStatement_6 rfl (fun h6 => ?_) (fun h6 => ?_) | refine ri_if_eqN C 14 dX4_readSetupStatement_6 rfl (by omega) (fun h6 => ?_) (fun h6 => ?_) | refine ri_if_eq C 14 dX4_readSetupStatement_6 rfl (fun h6 => ?_) (fun h6 => ?_)
  · first | refine ri_aload_n C dX4_readSetupStatement_14 rfl ?_ | refine ri_aload_nQ C dX4_readSetupStatement_14 rfl ?_ | refine ri_aload_nN C dX4_readSetupStatement_14 rfl ?_
    refine ri_callV C km_X4_settingHere q3148 qs77 dX4_readSetupStatement_15 (mt_X4_settingHere htr h0 hin hat hN7 hby) rfl rfl (kx_rcN C (by first | assumption | (repeat (first | assumption | exact kx_rs (by assumption) | exact kx_ne2 (by omega) | exact kx_ne1 (by omega) | refine kx_ro (by assumption) ?_ ?_ | exact kx_rs rfl | refine kx_ro rfl ?_ ?_))) rfl) ⟨⟨(Nat.le_of_ble_eq_true rfl), (Nat.le_of_ble_eq_true rfl)⟩, (Nat.le_of_ble_eq_true rfl), (Nat.le_of_ble_eq_true rfl), (Nat.le_of_ble_eq_true rfl)⟩ (fun v15 s15 h15 => ?_) (fun _ _ _ h => h.elim)
    obtain ⟨rfl, rfl⟩ := h15
    refine ri_istore_n C dX4_readSetupStatement_18 rfl (by decide) ?_
    refine ri_iload_n C dX4_readSetupStatement_19 rfl ?_
    refine ri_iconst C dX4_readSetupStatement_20 kc_im1 ?_
    refine ri_icmp_ne C 32 dX4_readSetupStatement_21 rfl (fun h21 => ?_) (fun h21 => ?_)
    · obtain ⟨b, hb⟩ : ∃ b, st_w inp N s0 = some b := (by cases ht : st_w inp N s0 with | none => rw [ht] at h21; exact absurd rfl h21 | some b => exact ⟨b, rfl⟩)
      have hb5 := st_w_r hb
      rw [show mx_o (st_w inp N s0) = nI b by rw [hb]; rfl]
      first | refine ri_aload_n C dX4_readSetupStatement_32 rfl ?_ | refine ri_aload_nQ C dX4_readSetupStatement_32 rfl ?_ | refine ri_aload_nN C dX4_readSetupStatement_32 rfl ?_
      refine ri_iload_n C dX4_readSetupStatement_33 rfl ?_
      refine ri_callV C km_X4_readSetting q3155 qs78 dX4_readSetupStatement_34 (mt_X4_readSetting htr h0 hin hn hw hat hN7 hby hb5) rfl rfl (kx_rcN C (by first | assumption | (repeat (first | assumption | exact kx_rs (by assumption) | exact kx_ne2 (by omega) | exact kx_ne1 (by omega) | refine kx_ro (by assumption) ?_ ?_ | exact kx_rs rfl | refine kx_ro rfl ?_ ?_))) rfl) ⟨⟨(Nat.le_of_ble_eq_true rfl), (Nat.le_of_ble_eq_true rfl)⟩, (Nat.le_of_ble_eq_true rfl), (Nat.le_of_ble_eq_true rfl), (Nat.le_of_ble_eq_true rfl)⟩ (fun v34 s34 h34 => ?_) (fun _ _ _ h => h.elim)
      obtain ⟨z2, M2, u2, p2, k2, w2, m2, g2⟩ := h34
      first
        | exact ri_iret C hQ dX4_readSetupStatement_37 rfl (Nat.le_of_ble_eq_true rfl) (Nat.le_of_ble_eq_true rfl) ⟨_, _, u, mo_PS_z P0 e26, mo_kp_t (mo_kp_z (by omega)) (mo_kp_z (by omega)), fun _ _ => rfl, fun e he => (by simp only [pn_st, h6, Bool.false_eq_true, if_false, hb] at he; injection he with he; subst he; exact ⟨rfl, ⟨rfl, rfl⟩⟩), fun x hx => (by simp only [pn_st, h6, Bool.false_eq_true, if_false, hb] at hx; cases hx)⟩
        | (have hst : pn_st inp N u s0 = pn_rs inp N u b s0 := by simp only [pn_st, h6, Bool.false_eq_true, if_false, hb]
           rw [← hst] at m2 g2
           rcases hr : pn_st inp N u s0 with e | x
           · obtain ⟨rfl, mm⟩ := m2 e hr
             exact ri_iret C hQ dX4_readSetupStatement_37 rfl (Nat.le_of_ble_eq_true rfl) (Nat.le_of_ble_eq_true rfl) ⟨z2, M2, u2, p2, k2, w2, fun e' he => (by rw [hr] at he; injection he with he; subst he; exact ⟨rfl, mm⟩), fun x' hx => (by rw [hr] at hx; cases hx)⟩
           · obtain ⟨rfl, at2, rfl⟩ := g2 x hr
             exact ri_iret C hQ dX4_readSetupStatement_37 rfl (Nat.le_of_ble_eq_true rfl) (Nat.le_of_ble_eq_true rfl) ⟨z2, M2, _, p2, k2, w2, fun e' he => (by rw [hr] at he; cases he), fun x' hx => (by rw [hr] at hx; injection hx with hx; subst hx; exact ⟨rfl, at2, rfl⟩)⟩)
    · have hb : st_w inp N s0 = none := (by cases ht : st_w inp N s0 with | none => rfl | some b => rw [ht] at h21; exact absurd h21 (nI_m1 (by have := st_w_r ht; omega)))
      first | refine ri_aload_n C dX4_readSetupStatement_24 rfl ?_ | refine ri_aload_nQ C dX4_readSetupStatement_24 rfl ?_ | refine ri_aload_nN C dX4_readSetupStatement_24 rfl ?_
      refine ri_iconst C dX4_readSetupStatement_25 kc_i1 ?_
      refine ri_callV C km_X4_failsAt q3116 qs69 dX4_readSetupStatement_26 (mt_X4_failsAt htr h0 hv14 h17) rfl rfl (kx_rcN C (by first | assumption | (repeat (first | assumption | exact kx_rs (by assumption) | exact kx_ne2 (by omega) | exact kx_ne1 (by omega) | refine kx_ro (by assumption) ?_ ?_ | exact kx_rs rfl | refine kx_ro rfl ?_ ?_))) rfl) ⟨⟨(Nat.le_of_ble_eq_true rfl), (Nat.le_of_ble_eq_true rfl)⟩, (Nat.le_of_ble_eq_true rfl), (Nat.le_of_ble_eq_true rfl), (Nat.le_of_ble_eq_true rfl)⟩ (fun v26 s26 h26 => ?_) (fun _ _ _ h => h.elim)
      obtain ⟨rfl, e26⟩ := h26
      refine ri_goto C 37 dX4_readSetupStatement_29 rfl ?_
      first
        | exact ri_iret C hQ dX4_readSetupStatement_37 rfl (Nat.le_of_ble_eq_true rfl) (Nat.le_of_ble_eq_true rfl) ⟨_, _, u, mo_PS_z P0 e26, mo_kp_t (mo_kp_z (by omega)) (mo_kp_z (by omega)), fun _ _ => rfl, fun e he => (by simp only [pn_st, h6, Bool.false_eq_true, if_false, hb] at he; injection he with he; subst he; exact ⟨rfl, ⟨rfl, rfl⟩⟩), fun x hx => (by simp only [pn_st, h6, Bool.false_eq_true, if_false, hb] at hx; cases hx)⟩
        | (have hst : pn_st inp N u s0 = pn_rs inp N u b s0 := by simp only [pn_st, h6, Bool.false_eq_true, if_false, hb]
           rw [← hst] at m2 g2
           rcases hr : pn_st inp N u s0 with e | x
           · obtain ⟨rfl, mm⟩ := m2 e hr
             exact ri_iret C hQ dX4_readSetupStatement_37 rfl (Nat.le_of_ble_eq_true rfl) (Nat.le_of_ble_eq_true rfl) ⟨z2, M2, u2, p2, k2, w2, fun e' he => (by rw [hr] at he; injection he with he; subst he; exact ⟨rfl, mm⟩), fun x' hx => (by rw [hr] at hx; cases hx)⟩
           · obtain ⟨rfl, at2, rfl⟩ := g2 x hr
             exact ri_iret C hQ dX4_readSetupStatement_37 rfl (Nat.le_of_ble_eq_true rfl) (Nat.le_of_ble_eq_true rfl) ⟨z2, M2, _, p2, k2, w2, fun e' he => (by rw [hr] at he; cases he), fun x' hx => (by rw [hr] at hx; injection hx with hx; subst hx; exact ⟨rfl, at2, rfl⟩)⟩)
  · first | refine ri_aload_n C dX4_readSetupStatement_9 rfl ?_ | refine ri_aload_nQ C dX4_readSetupStatement_9 rfl ?_ | refine ri_aload_nN C dX4_readSetupStatement_9 rfl ?_
    refine ri_callV C km_X4_readProverb q3112 qs68 dX4_readSetupStatement_10 (mt_X4_readProverb htr h0 hin hn hw hat hN7 hby hu) rfl rfl (kx_rcN C (by first | assumption | (repeat (first | assumption | exact kx_rs (by assumption) | exact kx_ne2 (by omega) | exact kx_ne1 (by omega) | refine kx_ro (by assumption) ?_ ?_ | exact kx_rs rfl | refine kx_ro rfl ?_ ?_))) rfl) ⟨⟨(Nat.le_of_ble_eq_true rfl), (Nat.le_of_ble_eq_true rfl)⟩, (Nat.le_of_ble_eq_true rfl), (Nat.le_of_ble_eq_true rfl), (Nat.le_of_ble_eq_true rfl)⟩ (fun v10 s10 h10 => ?_) (fun _ _ _ h => h.elim)
    obtain ⟨z2, M2, u2, p2, k2, w2, m2, g2⟩ := h10
    have hst : pn_st inp N u s0 = pn_rp inp N u s0 := by unfold pn_st; rw [if_pos h6]
    rw [← hst] at m2 g2
    rcases hr : pn_st inp N u s0 with e | x
    · obtain ⟨rfl, mm⟩ := m2 e hr
      exact ri_iret C hQ dX4_readSetupStatement_13 rfl (Nat.le_of_ble_eq_true rfl) (Nat.le_of_ble_eq_true rfl) ⟨z2, M2, u2, p2, k2, w2, fun e' he => (by rw [hr] at he; injection he with he; subst he; exact ⟨rfl, mm⟩), fun x' hx => (by rw [hr] at hx; cases hx)⟩
    · obtain ⟨rfl, at2, rfl⟩ := g2 x hr
      exact ri_iret C hQ dX4_readSetupStatement_13 rfl (Nat.le_of_ble_eq_true rfl) (Nat.le_of_ble_eq_true rfl) ⟨z2, M2, _, p2, k2, w2, fun e' he => (by rw [hr] at he; cases he), fun x' hx => (by rw [hr] at hx; injection hx with hx; subst hx; exact ⟨rfl, at2, rfl⟩)⟩
