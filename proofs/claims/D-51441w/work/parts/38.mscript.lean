/-! the reference: statements of a script -/
set_option maxRecDepth 100000
/-- the numbers of a script's statement of kind t -/
def pn_tr (inp : Nat → Nat) (N t s : Nat) : (Nat × Nat) ⊕ (List Nat × Nat) :=
  if t = 1 then pn_bind (pn_num inp N 0 15 (pt_n inp N s)) fun a s => pn_bind (pn_num inp N 0 4 s) fun b s => .inr ([a, b], s)
  else if t = 2 then pn_prov inp N (pt_n inp N s)
  else if t = 3 then pn_bind (pn_num inp N 0 23 (pt_n inp N s)) fun a s => .inr ([a], s)
  else if t = 4 then pn_bind (pn_num inp N 0 23 (pt_n inp N s)) fun a s => pn_bind (pn_num inp N 1 999 s) fun b s => .inr ([a, b], s)
  else match st_w inp N s with
    | none => .inl (0, 0)
    | some k => pn_bind (pn_num inp N 0 (mx_mst k) (pt_n inp N s)) fun a s => .inr ([a, k], s)
def dd_M (M : Nat → Int32) (l : List Nat) : Prop := ∀ j, j < l.length → M j = nI (l.getD j 0)
theorem dd_M_p {M : Nat → Int32} {a b c d e f : Nat} : dd_M (pn_up M [a, b, c, d, e, f]) [a, b, c, d, e, f] := fun j hj => pn_up_g hj
set_option maxHeartbeats 1000000 in
theorem mt_X4_takesRest {l : Launch} {G : kx_G} (htr : l.stackTraces = false) {σ : kx_H} {mo : Nat} {ad : Nat → Nat} {z : Nat → Int32} {t : Nat} (h0 : σ (1, 0) = some (mo, .inr (3, mo_L ad z))) {inp : Nat → Nat} {N : Nat} (hin : σ (1, 11) = some (ad 10, kx_ai G 700 (mx_w inp))) {M : Nat → Int32} (hn : σ (1, 22) = some (ad 21, kx_ai G 6 M)) {s0 : Nat} (hat : mo_at z inp N s0) (hN7 : N ≤ 700) (hby : ∀ k, k < N → inp k < 256) (ht : 1 ≤ t ∧ t ≤ 5) (h5 : t = 5 → ∃ k, st_w inp N s0 = some k) : kx_SP l G yX4_takesRest (ws_ yX4_takesRest cX4_takesRest 3 (some .boolean)) 7 0 0 [.ref mo, .int (nI t)] σ (fun v τ => ∃ z' M', mo_PS G σ mo ad z' M' τ ∧ mo_kp z z' ∧ (∀ e, pn_tr inp N t s0 = .inl e → v = some (.int (nI 0)) ∧ mo_er z' e) ∧ (∀ x, pn_tr inp N t s0 = .inr x → v = some (.int (nI 1)) ∧ mo_at z' inp N x.2 ∧ dd_M M' x.1)) kx_nx := by
  refine kx_body htr (by decide +kernel) (own := "RoseProverbsModel") (nm := "takesRest") rfl rfl (Nat.le_of_ble_eq_true rfl) ?_
  intro p e s m args below meth c Q C hQ
  have hm : ∀ k, mx_mst k < 1000 := fun k => by unfold mx_mst; split <;> decide
  obtain ⟨hv11, hv14, h16, h17, h18, h19, hs0, hv15⟩ := hat
  have hat : mo_at z inp N s0 := ⟨hv11, hv14, h16, h17, h18, h19, hs0, hv15⟩
  have P0 := mo_PS_i h0 hn
  first | refine ri_aload_n C dX4_takesRest_0 rfl ?_ | refine ri_aload_nQ C dX4_takesRest_0 rfl ?_ | refine ri_aload_nN C dX4_takesRest_0 rfl ?_
  refine ri_callV C km_X4_settingHere q3148 qs77 dX4_takesRest_1 (mt_X4_settingHere htr h0 hin hat hN7 hby) rfl rfl (kx_rcN C (by first | assumption | (repeat (first | assumption | exact kx_rs (by assumption) | exact kx_ne2 (by omega) | exact kx_ne1 (by omega) | refine kx_ro (by assumption) ?_ ?_ | exact kx_rs rfl | refine kx_ro rfl ?_ ?_))) rfl) ⟨⟨(Nat.le_of_ble_eq_true rfl), (Nat.le_of_ble_eq_true rfl)⟩, (Nat.le_of_ble_eq_true rfl), (Nat.le_of_ble_eq_true rfl), (Nat.le_of_ble_eq_true rfl)⟩ (fun v1 s1 h1 => ?_) (fun _ _ _ h => h.elim)
  obtain ⟨rfl, rfl⟩ := h1
  refine ri_istore_n C dX4_takesRest_4 rfl (by decide) ?_
  first | refine ri_aload_n C dX4_takesRest_5 rfl ?_ | refine ri_aload_nQ C dX4_takesRest_5 rfl ?_ | refine ri_aload_nN C dX4_takesRest_5 rfl ?_
  refine ri_getf C dX4_takesRest_6 fr_q2991_3 (by first | assumption | (repeat (first | assumption | exact kx_rs (by assumption) | exact kx_ne2 (by omega) | exact kx_ne1 (by omega) | refine kx_ro (by assumption) ?_ ?_ | exact kx_rs rfl | refine kx_ro rfl ?_ ?_))) (by rfl) ?_
  refine ri_iconst C dX4_takesRest_9 kc_i1 ?_
  refine ri_iload_n C dX4_takesRest_10 rfl ?_
  refine ri_iastore C dX4_takesRest_11 (by first | assumption | (repeat (first | assumption | exact kx_rs (by assumption) | exact kx_ne2 (by omega) | exact kx_ne1 (by omega) | refine kx_ro (by assumption) ?_ ?_ | exact kx_rs rfl | refine kx_ro rfl ?_ ?_))) rfl (by omega) (fun s11 e11 => ?_)
  have P1 := mo_PS_m P0 e11
  have b1 := mo_PS_0 P1
  have bn1 := mo_PS_n P1
  have bi1 := mo_PS_o P1 hin (by decide) (by decide)
  first | refine ri_aload_n C dX4_takesRest_12 rfl ?_ | refine ri_aload_nQ C dX4_takesRest_12 rfl ?_ | refine ri_aload_nN C dX4_takesRest_12 rfl ?_
  refine ri_callV C km_X4_advanceToken q3085 qs62 dX4_takesRest_13 (mt_X4_advanceToken htr b1 bi1 hv11 hN7 hby h16 (pt_e_N hs0).2) rfl rfl (kx_rcN C (by first | assumption | (repeat (first | assumption | exact kx_rs (by assumption) | exact kx_ne2 (by omega) | exact kx_ne1 (by omega) | refine kx_ro (by assumption) ?_ ?_ | exact kx_rs rfl | refine kx_ro rfl ?_ ?_))) rfl) ⟨⟨(Nat.le_of_ble_eq_true rfl), (Nat.le_of_ble_eq_true rfl)⟩, (Nat.le_of_ble_eq_true rfl), (Nat.le_of_ble_eq_true rfl), (Nat.le_of_ble_eq_true rfl)⟩ (fun v13 s13 h13 => ?_) (fun _ _ _ h => h.elim)
  obtain ⟨rfl, e13⟩ := h13
  have P2 := mo_PS_z P1 e13
  have at2 := mo_at_n hat
  have K2 : mo_kp z _ := mo_kp_a (inp := inp) (N := N) (p := pt_e inp N s0)
  have b2 := mo_PS_0 P2
  have bn2 := mo_PS_n P2
  have bi2 := mo_PS_o P2 hin (by decide) (by decide)
  refine ri_iload_n C dX4_takesRest_16 rfl ?_
  by_cases hs17_1 : t = 1
  · subst hs17_1
    refine ri_tabIn C 1 (31) 48 dX4_takesRest_17 (by decide) (by decide) rfl rfl ?_
    first | refine ri_aload_n C dX4_takesRest_48 rfl ?_ | refine ri_aload_nQ C dX4_takesRest_48 rfl ?_ | refine ri_aload_nN C dX4_takesRest_48 rfl ?_
    refine ri_iconst C dX4_takesRest_49 kc_i0 ?_
    refine ri_iconst C dX4_takesRest_50 kc_i0 ?_
    refine ri_bipush C dX4_takesRest_51 kc_b15 ?_
    refine ri_callV C km_X4_takes q3124 qs71 dX4_takesRest_53 (mt_X4_takes htr b2 bi2 bn2 at2 hN7 hby (by decide) (by decide)) rfl rfl (kx_rcN C (by first | assumption | (repeat (first | assumption | exact kx_rs (by assumption) | exact kx_ne2 (by omega) | exact kx_ne1 (by omega) | refine kx_ro (by assumption) ?_ ?_ | exact kx_rs rfl | refine kx_ro rfl ?_ ?_))) rfl) ⟨⟨(Nat.le_of_ble_eq_true rfl), (Nat.le_of_ble_eq_true rfl)⟩, (Nat.le_of_ble_eq_true rfl), (Nat.le_of_ble_eq_true rfl), (Nat.le_of_ble_eq_true rfl)⟩ (fun v53 s53 h53 => ?_) (fun _ _ _ h => h.elim)
    obtain ⟨z3, M3, p3, k3, m3, g3⟩ := h53
    have P3 := mo_PS_t P2 p3
    have K3 := mo_kp_t K2 k3
    have b3 := mo_PS_0 P3
    have bn3 := mo_PS_n P3
    have bi3 := mo_PS_o P3 hin (by decide) (by decide)
    rcases hr : pn_num inp N 0 15 (pt_n inp N s0) with e | x
    · obtain ⟨rfl, mm⟩ := m3 e hr
      have hw : pn_tr inp N 1 s0 = .inl e := by unfold pn_tr; rw [if_pos (show (1 : Nat) = 1 by rfl)]; exact pn_bind_l hr
      first | refine ri_if_eqB C 73 dX4_takesRest_56 rfl (fun h56 => ?_) (fun h56 => ?_) | refine ri_if_eqN C 73 dX4_takesRest_56 rfl (by omega) (fun h56 => ?_) (fun h56 => ?_) | refine ri_if_eq C 73 dX4_takesRest_56 rfl (fun h56 => ?_) (fun h56 => ?_)
      · refine ri_iconst C dX4_takesRest_73 kc_i0 ?_
        exact ri_iret C hQ dX4_takesRest_74 rfl (Nat.le_of_ble_eq_true rfl) (Nat.le_of_ble_eq_true rfl) ⟨z3, M3, P3, K3, fun e' he => (by rw [hw] at he; injection he with he; subst he; exact ⟨rfl, mm⟩), fun x hx => (by rw [hw] at hx; cases hx)⟩
      · exact absurd rfl h56 --dead
    · obtain ⟨rfl, at3, rfl⟩ := g3 x hr
      first | refine ri_if_eqB C 73 dX4_takesRest_56 rfl (fun h56 => ?_) (fun h56 => ?_) | refine ri_if_eqN C 73 dX4_takesRest_56 rfl (by omega) (fun h56 => ?_) (fun h56 => ?_) | refine ri_if_eq C 73 dX4_takesRest_56 rfl (fun h56 => ?_) (fun h56 => ?_)
      · exact absurd h56 (by decide) --dead
      · first | refine ri_aload_n C dX4_takesRest_59 rfl ?_ | refine ri_aload_nQ C dX4_takesRest_59 rfl ?_ | refine ri_aload_nN C dX4_takesRest_59 rfl ?_
        refine ri_iconst C dX4_takesRest_60 kc_i1 ?_
        refine ri_iconst C dX4_takesRest_61 kc_i0 ?_
        refine ri_iconst C dX4_takesRest_62 kc_i4 ?_
        refine ri_callV C km_X4_takes q3124 qs71 dX4_takesRest_63 (mt_X4_takes htr b3 bi3 bn3 at3 hN7 hby (by decide) (by decide)) rfl rfl (kx_rcN C (by first | assumption | (repeat (first | assumption | exact kx_rs (by assumption) | exact kx_ne2 (by omega) | exact kx_ne1 (by omega) | refine kx_ro (by assumption) ?_ ?_ | exact kx_rs rfl | refine kx_ro rfl ?_ ?_))) rfl) ⟨⟨(Nat.le_of_ble_eq_true rfl), (Nat.le_of_ble_eq_true rfl)⟩, (Nat.le_of_ble_eq_true rfl), (Nat.le_of_ble_eq_true rfl), (Nat.le_of_ble_eq_true rfl)⟩ (fun v63 s63 h63 => ?_) (fun _ _ _ h => h.elim)
        obtain ⟨z4, M4, p4, k4, m4, g4⟩ := h63
        have P4 := mo_PS_t P3 p4
        have K4 := mo_kp_t K3 k4
        have b4 := mo_PS_0 P4
        have bn4 := mo_PS_n P4
        have bi4 := mo_PS_o P4 hin (by decide) (by decide)
        rcases hq : pn_num inp N 0 4 x.2 with e | y
        · obtain ⟨rfl, mm⟩ := m4 e hq
          have hw : pn_tr inp N 1 s0 = .inl e := by unfold pn_tr; rw [if_pos (show (1 : Nat) = 1 by rfl)]; rw [pn_bind_r hr]; exact pn_bind_l hq
          first | refine ri_if_eqB C 73 dX4_takesRest_66 rfl (fun h66 => ?_) (fun h66 => ?_) | refine ri_if_eqN C 73 dX4_takesRest_66 rfl (by omega) (fun h66 => ?_) (fun h66 => ?_) | refine ri_if_eq C 73 dX4_takesRest_66 rfl (fun h66 => ?_) (fun h66 => ?_)
          · refine ri_iconst C dX4_takesRest_73 kc_i0 ?_
            exact ri_iret C hQ dX4_takesRest_74 rfl (Nat.le_of_ble_eq_true rfl) (Nat.le_of_ble_eq_true rfl) ⟨z4, M4, P4, K4, fun e' he => (by rw [hw] at he; injection he with he; subst he; exact ⟨rfl, mm⟩), fun x hx => (by rw [hw] at hx; cases hx)⟩
          · exact absurd rfl h66 --dead
        · obtain ⟨rfl, at4, rfl⟩ := g4 y hq
          have hw : pn_tr inp N 1 s0 = .inr ([x.1, y.1], y.2) := by unfold pn_tr; rw [if_pos (show (1 : Nat) = 1 by rfl)]; rw [pn_bind_r hr, pn_bind_r hq]
          first | refine ri_if_eqB C 73 dX4_takesRest_66 rfl (fun h66 => ?_) (fun h66 => ?_) | refine ri_if_eqN C 73 dX4_takesRest_66 rfl (by omega) (fun h66 => ?_) (fun h66 => ?_) | refine ri_if_eq C 73 dX4_takesRest_66 rfl (fun h66 => ?_) (fun h66 => ?_)
          · exact absurd h66 (by decide) --dead
          · refine ri_iconst C dX4_takesRest_69 kc_i1 ?_
            refine ri_goto C 74 dX4_takesRest_70 rfl ?_
            exact ri_iret C hQ dX4_takesRest_74 rfl (Nat.le_of_ble_eq_true rfl) (Nat.le_of_ble_eq_true rfl) ⟨z4, _, P4, K4, fun e' he => (by rw [hw] at he; cases he), fun x' hx => (by rw [hw] at hx; injection hx with hx; subst hx; exact ⟨rfl, at4, (fun j hj => by match j, hj with | 0, _ => rfl | 1, _ => rfl)⟩)⟩
  by_cases hs17_2 : t = 2
  · subst hs17_2
    refine ri_tabIn C 2 (58) 75 dX4_takesRest_17 (by decide) (by decide) rfl rfl ?_
    first | refine ri_aload_n C dX4_takesRest_75 rfl ?_ | refine ri_aload_nQ C dX4_takesRest_75 rfl ?_ | refine ri_aload_nN C dX4_takesRest_75 rfl ?_
    refine ri_callV C km_X4_takesProverb q3120 qs70 dX4_takesRest_76 (mt_X4_takesProverb htr b2 bi2 bn2 at2 hN7 hby) rfl rfl (kx_rcN C (by first | assumption | (repeat (first | assumption | exact kx_rs (by assumption) | exact kx_ne2 (by omega) | exact kx_ne1 (by omega) | refine kx_ro (by assumption) ?_ ?_ | exact kx_rs rfl | refine kx_ro rfl ?_ ?_))) rfl) ⟨⟨(Nat.le_of_ble_eq_true rfl), (Nat.le_of_ble_eq_true rfl)⟩, (Nat.le_of_ble_eq_true rfl), (Nat.le_of_ble_eq_true rfl), (Nat.le_of_ble_eq_true rfl)⟩ (fun v76 s76 h76 => ?_) (fun _ _ _ h => h.elim)
    obtain ⟨z3, M3, p3, k3, m3, g3⟩ := h76
    have P3 := mo_PS_t P2 p3
    have K3 := mo_kp_t K2 k3
    have hw : pn_tr inp N 2 s0 = pn_prov inp N (pt_n inp N s0) := by unfold pn_tr; rw [if_neg (show ¬ (2 : Nat) = 1 by decide)]; rw [if_pos (show (2 : Nat) = 2 by rfl)]
    rcases hr : pn_prov inp N (pt_n inp N s0) with e | x
    · obtain ⟨rfl, mm⟩ := m3 e hr
      rw [hr] at hw
      exact ri_iret C hQ dX4_takesRest_79 rfl (Nat.le_of_ble_eq_true rfl) (Nat.le_of_ble_eq_true rfl) ⟨z3, M3, P3, K3, fun e' he => (by rw [hw] at he; injection he with he; subst he; exact ⟨rfl, mm⟩), fun x hx => (by rw [hw] at hx; cases hx)⟩
    · obtain ⟨rfl, at3, rfl⟩ := g3 x hr
      obtain ⟨a, b, d, g, f, q, hl, -⟩ := pn_prov_b hr
      rw [hr] at hw
      exact ri_iret C hQ dX4_takesRest_79 rfl (Nat.le_of_ble_eq_true rfl) (Nat.le_of_ble_eq_true rfl) ⟨z3, _, P3, K3, fun e' he => (by rw [hw] at he; cases he), fun x' hx => (by rw [hw] at hx; injection hx with hx; subst hx; exact ⟨rfl, at3, (by rw [hl]; exact dd_M_p)⟩)⟩
  by_cases hs17_3 : t = 3
  · subst hs17_3
    refine ri_tabIn C 3 (63) 80 dX4_takesRest_17 (by decide) (by decide) rfl rfl ?_
    first | refine ri_aload_n C dX4_takesRest_80 rfl ?_ | refine ri_aload_nQ C dX4_takesRest_80 rfl ?_ | refine ri_aload_nN C dX4_takesRest_80 rfl ?_
    refine ri_iconst C dX4_takesRest_81 kc_i0 ?_
    refine ri_iconst C dX4_takesRest_82 kc_i0 ?_
    refine ri_bipush C dX4_takesRest_83 kc_b23 ?_
    refine ri_callV C km_X4_takes q3124 qs71 dX4_takesRest_85 (mt_X4_takes htr b2 bi2 bn2 at2 hN7 hby (by decide) (by decide)) rfl rfl (kx_rcN C (by first | assumption | (repeat (first | assumption | exact kx_rs (by assumption) | exact kx_ne2 (by omega) | exact kx_ne1 (by omega) | refine kx_ro (by assumption) ?_ ?_ | exact kx_rs rfl | refine kx_ro rfl ?_ ?_))) rfl) ⟨⟨(Nat.le_of_ble_eq_true rfl), (Nat.le_of_ble_eq_true rfl)⟩, (Nat.le_of_ble_eq_true rfl), (Nat.le_of_ble_eq_true rfl), (Nat.le_of_ble_eq_true rfl)⟩ (fun v85 s85 h85 => ?_) (fun _ _ _ h => h.elim)
    obtain ⟨z3, M3, p3, k3, m3, g3⟩ := h85
    have P3 := mo_PS_t P2 p3
    have K3 := mo_kp_t K2 k3
    have b3 := mo_PS_0 P3
    have bn3 := mo_PS_n P3
    have bi3 := mo_PS_o P3 hin (by decide) (by decide)
    rcases hr : pn_num inp N 0 23 (pt_n inp N s0) with e | x
    · obtain ⟨rfl, mm⟩ := m3 e hr
      have hw : pn_tr inp N 3 s0 = .inl e := by unfold pn_tr; rw [if_neg (show ¬ (3 : Nat) = 1 by decide)]; rw [if_neg (show ¬ (3 : Nat) = 2 by decide)]; rw [if_pos (show (3 : Nat) = 3 by rfl)]; exact pn_bind_l hr
      exact ri_iret C hQ dX4_takesRest_88 rfl (Nat.le_of_ble_eq_true rfl) (Nat.le_of_ble_eq_true rfl) ⟨z3, M3, P3, K3, fun e' he => (by rw [hw] at he; injection he with he; subst he; exact ⟨rfl, mm⟩), fun x hx => (by rw [hw] at hx; cases hx)⟩
    · obtain ⟨rfl, at3, rfl⟩ := g3 x hr
      have hw : pn_tr inp N 3 s0 = .inr ([x.1], x.2) := by unfold pn_tr; rw [if_neg (show ¬ (3 : Nat) = 1 by decide)]; rw [if_neg (show ¬ (3 : Nat) = 2 by decide)]; rw [if_pos (show (3 : Nat) = 3 by rfl)]; exact pn_bind_r hr
      exact ri_iret C hQ dX4_takesRest_88 rfl (Nat.le_of_ble_eq_true rfl) (Nat.le_of_ble_eq_true rfl) ⟨z3, _, P3, K3, fun e' he => (by rw [hw] at he; cases he), fun x' hx => (by rw [hw] at hx; injection hx with hx; subst hx; exact ⟨rfl, at3, (fun j hj => by match j, hj with | 0, _ => rfl)⟩)⟩
  by_cases hs17_4 : t = 4
  · subst hs17_4
    refine ri_tabIn C 4 (72) 89 dX4_takesRest_17 (by decide) (by decide) rfl rfl ?_
    first | refine ri_aload_n C dX4_takesRest_89 rfl ?_ | refine ri_aload_nQ C dX4_takesRest_89 rfl ?_ | refine ri_aload_nN C dX4_takesRest_89 rfl ?_
    refine ri_iconst C dX4_takesRest_90 kc_i0 ?_
    refine ri_iconst C dX4_takesRest_91 kc_i0 ?_
    refine ri_bipush C dX4_takesRest_92 kc_b23 ?_
    refine ri_callV C km_X4_takes q3124 qs71 dX4_takesRest_94 (mt_X4_takes htr b2 bi2 bn2 at2 hN7 hby (by decide) (by decide)) rfl rfl (kx_rcN C (by first | assumption | (repeat (first | assumption | exact kx_rs (by assumption) | exact kx_ne2 (by omega) | exact kx_ne1 (by omega) | refine kx_ro (by assumption) ?_ ?_ | exact kx_rs rfl | refine kx_ro rfl ?_ ?_))) rfl) ⟨⟨(Nat.le_of_ble_eq_true rfl), (Nat.le_of_ble_eq_true rfl)⟩, (Nat.le_of_ble_eq_true rfl), (Nat.le_of_ble_eq_true rfl), (Nat.le_of_ble_eq_true rfl)⟩ (fun v94 s94 h94 => ?_) (fun _ _ _ h => h.elim)
    obtain ⟨z3, M3, p3, k3, m3, g3⟩ := h94
    have P3 := mo_PS_t P2 p3
    have K3 := mo_kp_t K2 k3
    have b3 := mo_PS_0 P3
    have bn3 := mo_PS_n P3
    have bi3 := mo_PS_o P3 hin (by decide) (by decide)
    rcases hr : pn_num inp N 0 23 (pt_n inp N s0) with e | x
    · obtain ⟨rfl, mm⟩ := m3 e hr
      have hw : pn_tr inp N 4 s0 = .inl e := by unfold pn_tr; rw [if_neg (show ¬ (4 : Nat) = 1 by decide)]; rw [if_neg (show ¬ (4 : Nat) = 2 by decide)]; rw [if_neg (show ¬ (4 : Nat) = 3 by decide)]; rw [if_pos (show (4 : Nat) = 4 by rfl)]; exact pn_bind_l hr
      first | refine ri_if_eqB C 116 dX4_takesRest_97 rfl (fun h97 => ?_) (fun h97 => ?_) | refine ri_if_eqN C 116 dX4_takesRest_97 rfl (by omega) (fun h97 => ?_) (fun h97 => ?_) | refine ri_if_eq C 116 dX4_takesRest_97 rfl (fun h97 => ?_) (fun h97 => ?_)
      · refine ri_iconst C dX4_takesRest_116 kc_i0 ?_
        exact ri_iret C hQ dX4_takesRest_117 rfl (Nat.le_of_ble_eq_true rfl) (Nat.le_of_ble_eq_true rfl) ⟨z3, M3, P3, K3, fun e' he => (by rw [hw] at he; injection he with he; subst he; exact ⟨rfl, mm⟩), fun x hx => (by rw [hw] at hx; cases hx)⟩
      · exact absurd rfl h97 --dead
    · obtain ⟨rfl, at3, rfl⟩ := g3 x hr
      first | refine ri_if_eqB C 116 dX4_takesRest_97 rfl (fun h97 => ?_) (fun h97 => ?_) | refine ri_if_eqN C 116 dX4_takesRest_97 rfl (by omega) (fun h97 => ?_) (fun h97 => ?_) | refine ri_if_eq C 116 dX4_takesRest_97 rfl (fun h97 => ?_) (fun h97 => ?_)
      · exact absurd h97 (by decide) --dead
      · first | refine ri_aload_n C dX4_takesRest_100 rfl ?_ | refine ri_aload_nQ C dX4_takesRest_100 rfl ?_ | refine ri_aload_nN C dX4_takesRest_100 rfl ?_
        refine ri_iconst C dX4_takesRest_101 kc_i1 ?_
        refine ri_iconst C dX4_takesRest_102 kc_i1 ?_
        refine ri_sipush C dX4_takesRest_103 kc_s999 ?_
        refine ri_callV C km_X4_takes q3124 qs71 dX4_takesRest_106 (mt_X4_takes htr b3 bi3 bn3 at3 hN7 hby (by decide) (by decide)) rfl rfl (kx_rcN C (by first | assumption | (repeat (first | assumption | exact kx_rs (by assumption) | exact kx_ne2 (by omega) | exact kx_ne1 (by omega) | refine kx_ro (by assumption) ?_ ?_ | exact kx_rs rfl | refine kx_ro rfl ?_ ?_))) rfl) ⟨⟨(Nat.le_of_ble_eq_true rfl), (Nat.le_of_ble_eq_true rfl)⟩, (Nat.le_of_ble_eq_true rfl), (Nat.le_of_ble_eq_true rfl), (Nat.le_of_ble_eq_true rfl)⟩ (fun v106 s106 h106 => ?_) (fun _ _ _ h => h.elim)
        obtain ⟨z4, M4, p4, k4, m4, g4⟩ := h106
        have P4 := mo_PS_t P3 p4
        have K4 := mo_kp_t K3 k4
        have b4 := mo_PS_0 P4
        have bn4 := mo_PS_n P4
        have bi4 := mo_PS_o P4 hin (by decide) (by decide)
        rcases hq : pn_num inp N 1 999 x.2 with e | y
        · obtain ⟨rfl, mm⟩ := m4 e hq
          have hw : pn_tr inp N 4 s0 = .inl e := by unfold pn_tr; rw [if_neg (show ¬ (4 : Nat) = 1 by decide)]; rw [if_neg (show ¬ (4 : Nat) = 2 by decide)]; rw [if_neg (show ¬ (4 : Nat) = 3 by decide)]; rw [if_pos (show (4 : Nat) = 4 by rfl)]; rw [pn_bind_r hr]; exact pn_bind_l hq
          first | refine ri_if_eqB C 116 dX4_takesRest_109 rfl (fun h109 => ?_) (fun h109 => ?_) | refine ri_if_eqN C 116 dX4_takesRest_109 rfl (by omega) (fun h109 => ?_) (fun h109 => ?_) | refine ri_if_eq C 116 dX4_takesRest_109 rfl (fun h109 => ?_) (fun h109 => ?_)
          · refine ri_iconst C dX4_takesRest_116 kc_i0 ?_
            exact ri_iret C hQ dX4_takesRest_117 rfl (Nat.le_of_ble_eq_true rfl) (Nat.le_of_ble_eq_true rfl) ⟨z4, M4, P4, K4, fun e' he => (by rw [hw] at he; injection he with he; subst he; exact ⟨rfl, mm⟩), fun x hx => (by rw [hw] at hx; cases hx)⟩
          · exact absurd rfl h109 --dead
        · obtain ⟨rfl, at4, rfl⟩ := g4 y hq
          have hw : pn_tr inp N 4 s0 = .inr ([x.1, y.1], y.2) := by unfold pn_tr; rw [if_neg (show ¬ (4 : Nat) = 1 by decide)]; rw [if_neg (show ¬ (4 : Nat) = 2 by decide)]; rw [if_neg (show ¬ (4 : Nat) = 3 by decide)]; rw [if_pos (show (4 : Nat) = 4 by rfl)]; rw [pn_bind_r hr, pn_bind_r hq]
          first | refine ri_if_eqB C 116 dX4_takesRest_109 rfl (fun h109 => ?_) (fun h109 => ?_) | refine ri_if_eqN C 116 dX4_takesRest_109 rfl (by omega) (fun h109 => ?_) (fun h109 => ?_) | refine ri_if_eq C 116 dX4_takesRest_109 rfl (fun h109 => ?_) (fun h109 => ?_)
          · exact absurd h109 (by decide) --dead
          · refine ri_iconst C dX4_takesRest_112 kc_i1 ?_
            refine ri_goto C 117 dX4_takesRest_113 rfl ?_
            exact ri_iret C hQ dX4_takesRest_117 rfl (Nat.le_of_ble_eq_true rfl) (Nat.le_of_ble_eq_true rfl) ⟨z4, _, P4, K4, fun e' he => (by rw [hw] at he; cases he), fun x' hx => (by rw [hw] at hx; injection hx with hx; subst hx; exact ⟨rfl, at4, (fun j hj => by match j, hj with | 0, _ => rfl | 1, _ => rfl)⟩)⟩
  refine ri_tabOut C 118 dX4_takesRest_17 (by rw [nI_toInt (by omega)]; omega) rfl ?_
  obtain ⟨k, hk⟩ := h5 (by omega)
  have hkr := st_w_r hk
  have hmk : mx_o (st_w inp N s0) = nI k := by rw [hk]; rfl
  first | refine ri_aload_n C dX4_takesRest_118 rfl ?_ | refine ri_aload_nQ C dX4_takesRest_118 rfl ?_ | refine ri_aload_nN C dX4_takesRest_118 rfl ?_
  refine ri_iconst C dX4_takesRest_119 kc_i0 ?_
  refine ri_iconst C dX4_takesRest_120 kc_i0 ?_
  refine ri_iload_n C dX4_takesRest_121 rfl ?_
  rw [hmk]
  refine ri_callS C km_X4_mostOf q3159 dX4_takesRest_122 (mt_X4_mostOf htr (by omega)) rfl rfl ⟨⟨(Nat.le_of_ble_eq_true rfl), (Nat.le_of_ble_eq_true rfl)⟩, (Nat.le_of_ble_eq_true rfl), (Nat.le_of_ble_eq_true rfl), (Nat.le_of_ble_eq_true rfl)⟩ (fun v122 s122 h122 => ?_) (fun _ _ _ h => h.elim)
  obtain ⟨rfl, rfl⟩ := h122
  refine ri_callV C km_X4_takes q3124 qs71 dX4_takesRest_125 (mt_X4_takes htr b2 bi2 bn2 at2 hN7 hby ⟨by decide, hm k⟩ (by decide)) rfl rfl (kx_rcN C (by first | assumption | (repeat (first | assumption | exact kx_rs (by assumption) | exact kx_ne2 (by omega) | exact kx_ne1 (by omega) | refine kx_ro (by assumption) ?_ ?_ | exact kx_rs rfl | refine kx_ro rfl ?_ ?_))) rfl) ⟨⟨(Nat.le_of_ble_eq_true rfl), (Nat.le_of_ble_eq_true rfl)⟩, (Nat.le_of_ble_eq_true rfl), (Nat.le_of_ble_eq_true rfl), (Nat.le_of_ble_eq_true rfl)⟩ (fun v125 s125 h125 => ?_) (fun _ _ _ h => h.elim)
  obtain ⟨z3, M3, p3, k3, m3, g3⟩ := h125
  have P3 := mo_PS_t P2 p3
  have K3 := mo_kp_t K2 k3
  have b3 := mo_PS_0 P3
  have bn3 := mo_PS_n P3
  have bi3 := mo_PS_o P3 hin (by decide) (by decide)
  rcases hr : pn_num inp N 0 (mx_mst k) (pt_n inp N s0) with e | x
  · obtain ⟨rfl, mm⟩ := m3 e hr
    have hw : pn_tr inp N t s0 = .inl e := by unfold pn_tr; rw [if_neg hs17_1, if_neg hs17_2, if_neg hs17_3, if_neg hs17_4, hk]; simp only; exact pn_bind_l hr
    exact ri_iret C hQ dX4_takesRest_128 rfl (Nat.le_of_ble_eq_true rfl) (Nat.le_of_ble_eq_true rfl) ⟨z3, M3, P3, K3, fun e' he => (by rw [hw] at he; injection he with he; subst he; exact ⟨rfl, mm⟩), fun x hx => (by rw [hw] at hx; cases hx)⟩
  · obtain ⟨rfl, at3, rfl⟩ := g3 x hr
    have hw : pn_tr inp N t s0 = .inr ([x.1, k], x.2) := by unfold pn_tr; rw [if_neg hs17_1, if_neg hs17_2, if_neg hs17_3, if_neg hs17_4, hk]; simp only; exact pn_bind_r hr
    exact ri_iret C hQ dX4_takesRest_128 rfl (Nat.le_of_ble_eq_true rfl) (Nat.le_of_ble_eq_true rfl) ⟨z3, _, P3, K3, fun e' he => (by rw [hw] at he; cases he), fun x' hx => (by rw [hw] at hx; injection hx with hx; subst hx; exact ⟨rfl, at3, (fun j hj => by match j, hj with | 0, _ => rfl | 1, _ => exact hmk)⟩)⟩
