/-! the reference: a setup -/
set_option maxRecDepth 100000
theorem pt_n_ge {inp : Nat → Nat} {N s : Nat} (h : s ≤ N) : s ≤ pt_n inp N s := Nat.le_trans (pt_e_N h).1 (pt_s_N (pt_e_N h).2).1
theorem pt_n_gt {inp : Nat → Nat} {N s : Nat} (h : s ≤ N) (hk : pt_k inp N s = 3) : s < pt_n inp N s := by
  refine Nat.lt_of_lt_of_le (?_ : s < pt_e inp N s) (pt_s_N (pt_e_N h).2).1
  unfold pt_k at hk
  cases hb : pt_b inp N s with
  | none => rw [hb] at hk; simp at hk
  | some ch =>
    rw [hb] at hk
    simp only at hk
    cases ha : pt_al inp N s
    · cases hd : pt_di inp N s
      · rw [(pt_adv_o hb ha hd).1]; omega
      · rw [ha, hd] at hk; simp only [Bool.false_eq_true, if_false, if_true] at hk; split at hk <;> omega
    · rw [ha] at hk; simp only [if_true] at hk; split at hk <;> omega
theorem pn_num_s {inp : Nat → Nat} {N lo hi s : Nat} {x : Nat × Nat} (hs : s ≤ N) (h : pn_num inp N lo hi s = .inr x) : s ≤ x.2 ∧ x.2 ≤ N := by
  unfold pn_num at h
  split at h
  · split at h
    · injection h with h; subst h; exact ⟨pt_n_ge hs, pt_n_N hs⟩
    · cases h
  · cases h
theorem pn_semi_s {inp : Nat → Nat} {N s : Nat} {x : Nat × Nat} (hs : s ≤ N) (h : pn_semi inp N s = .inr x) : s < x.2 ∧ x.2 ≤ N := by
  unfold pn_semi at h
  split at h
  · rename_i g; injection h with h; subst h; exact ⟨pt_n_gt hs g, pt_n_N hs⟩
  · cases h
theorem pn_prov_s {inp : Nat → Nat} {N s : Nat} {y : List Nat × Nat} (hs : s ≤ N) (h : pn_prov inp N s = .inr y) : s ≤ y.2 ∧ y.2 ≤ N := by
  unfold pn_prov at h
  obtain ⟨x0, h0, h⟩ := pn_bind_i h
  obtain ⟨x1, h1, h⟩ := pn_bind_i h
  obtain ⟨x2, h2, h⟩ := pn_bind_i h
  obtain ⟨x3, h3, h⟩ := pn_bind_i h
  obtain ⟨x4, h4, h⟩ := pn_bind_i h
  obtain ⟨x5, h5, h⟩ := pn_bind_i h
  injection h with h
  subst h
  have a0 := pn_num_s hs h0
  have a1 := pn_num_s a0.2 h1
  have a2 := pn_num_s a1.2 h2
  have a3 := pn_num_s a2.2 h3
  have a4 := pn_num_s a3.2 h4
  have a5 := pn_num_s a4.2 h5
  exact ⟨by simp only; omega, a5.2⟩
theorem pn_st_s {inp : Nat → Nat} {N s : Nat} {u : Nat → Nat} {x : (Nat → Nat) × Nat} (hs : s ≤ N) (h : pn_st inp N u s = .inr x) : s < x.2 ∧ x.2 ≤ N := by
  unfold pn_st at h
  split at h
  · unfold pn_rp at h
    split at h
    · cases h
    · split at h
      · cases h
      · rename_i y hy
        have g := pn_prov_s (pt_n_N hs) hy
        have g2 := pt_n_ge (inp := inp) hs
        split at h
        · rename_i hk
          split at h
          · cases h
          · injection h with h; subst h
            have g3 := pt_n_gt g.2 hk
            exact ⟨by simp only; omega, pt_n_N g.2⟩
        · cases h
  · split at h
    · cases h
    · unfold pn_rs at h
      split at h
      · cases h
      · rename_i y hy
        have g := pn_num_s (pt_n_N hs) hy
        have g2 := pt_n_ge (inp := inp) hs
        split at h
        · cases h
        · rename_i w hw
          have g3 := pn_semi_s g.2 hw
          injection h with h; subst h
          exact ⟨by simp only; omega, g3.2⟩
theorem mx_ok_adds {u : Nat → Nat} {a b c d e f : Nat} (hu : mx_ok u) (hn : u 0 < 24) (ha : a < 16) (hb : b < 16) (hc : c < 12) (hd : d < 12) (he : e < 5) (hf : 1 ≤ f) (hf2 : f ≤ 999) : mx_ok (mx_adds u a b c d e f) := by
  obtain ⟨k0, k, k5, k6, k7⟩ := hu
  have o : ∀ i, 0 < i → i < 25 + 10 * u 0 → mx_adds u a b c d e f i = u i := fun i h1 h2 => mx_adds_o (by omega)
  refine ⟨by rw [mx_adds_0]; omega, fun q hq => ?_, by rw [o 5 (by omega) (by omega)]; exact k5, by rw [o 6 (by omega) (by omega)]; exact k6, by rw [o 7 (by omega) (by omega)]; exact k7⟩
  rw [mx_adds_0] at hq
  by_cases c1 : q = u 0
  · subst c1
    have r : ∀ j, mx_p (mx_adds u a b c d e f) (u 0) j = (mx_pp (mx_pp (mx_pp (mx_pp (mx_pp (mx_pp (mx_pp (mx_ad0 u 10) (u 0) 0 a) (u 0) 1 b) (u 0) 2 c) (u 0) 3 d) (u 0) 4 e) (u 0) 5 f) (u 0) 6 f) (25 + 10 * u 0 + j) := fun j => mx_s_o (by omega)
    have w : ∀ (v : Nat → Nat) (j j' x : Nat), j ≠ j' → mx_pp v (u 0) j' x (25 + 10 * u 0 + j) = v (25 + 10 * u 0 + j) := fun v j j' x h => mx_s_o (by omega)
    have t : ∀ (v : Nat → Nat) (j x : Nat), mx_pp v (u 0) j x (25 + 10 * u 0 + j) = x := fun v j x => mx_s_s
    have z9 : mx_ad0 u 10 (25 + 10 * u 0 + 9) = 0 := mx_s_s
    simp only [r, w, t, ne_eq, reduceCtorEq, not_false_eq_true, Nat.reduceEqDiff, z9]
    omega
  · have g : ∀ j, j < 10 → mx_p (mx_adds u a b c d e f) q j = mx_p u q j := fun j hj => o _ (by omega) (by omega)
    rw [g 0 (by omega), g 1 (by omega), g 2 (by omega), g 3 (by omega), g 4 (by omega), g 5 (by omega), g 6 (by omega), g 9 (by omega)]
    exact k q (by omega)
theorem mx_ok_set {u : Nat → Nat} {k x : Nat} (hu : mx_ok u) (hk : 5 ≤ k ∧ k ≤ 7) (hx : x ≤ mx_mst k) : mx_ok (mx_s u k x) := by
  obtain ⟨k0, h, k5, k6, k7⟩ := hu
  unfold mx_mst at hx
  have g : ∀ q j, mx_p (mx_s u k x) q j = mx_p u q j := fun q j => mx_s_o (by omega)
  have e : ∀ i, i ≠ k → mx_s u k x i = u i := fun i hi => mx_s_o hi
  refine ⟨by rw [e 0 (by omega)]; exact k0, fun q hq => ?_, ?_, ?_, ?_⟩
  · rw [e 0 (by omega)] at hq
    simp only [g]; exact h q hq
  · by_cases c : k = 5
    · subst c; rw [mx_s_s]; simpa using hx
    · rw [e 5 (by omega)]; exact k5
  · by_cases c : k = 6
    · subst c; rw [mx_s_s]; simpa using hx
    · rw [e 6 (by omega)]; exact k6
  · by_cases c : k = 7
    · subst c; rw [mx_s_s]; simpa using hx
    · rw [e 7 (by omega)]; exact k7
theorem mx_ok_st {inp : Nat → Nat} {N s : Nat} {u : Nat → Nat} {x : (Nat → Nat) × Nat} (hu : mx_ok u) (h : pn_st inp N u s = .inr x) : mx_ok x.1 := by
  unfold pn_st at h
  split at h
  · unfold pn_rp at h
    split at h
    · cases h
    · rename_i h24
      split at h
      · cases h
      · rename_i y hy
        obtain ⟨a, b, c, d, e, f, hl, h1, h2, h3, h4, h5, h6, h7⟩ := pn_prov_b hy
        split at h
        · split at h
          · cases h
          · injection h with h; subst h
            rw [hl]
            have := hu.1
            exact mx_ok_adds hu (by omega) (show a < 16 by omega) (show b < 16 by omega) (show c < 12 by omega) (show d < 12 by omega) (show e < 5 by omega) h6 h7
        · cases h
  · split at h
    · cases h
    · rename_i k hk
      unfold pn_rs at h
      split at h
      · cases h
      · rename_i y hy
        split at h
        · cases h
        · injection h with h; subst h
          exact mx_ok_set hu (st_w_r hk) (pn_num_b hy).2
/-- a setup -/
def pn_su (inp : Nat → Nat) (N : Nat) : Nat → (Nat → Nat) → Nat → (Nat × Nat) ⊕ (Nat → Nat)
  | 0, _, _ => .inl (0, 0)
  | f + 1, u, s => if pt_k inp N s = 0 then .inr u else match pn_st inp N u s with
    | .inl e => .inl e
    | .inr x => pn_su inp N f x.1 x.2
theorem pn_su_s {inp : Nat → Nat} {N f s : Nat} {u : Nat → Nat} : pn_su inp N (f + 1) u s = (if pt_k inp N s = 0 then .inr u else match pn_st inp N u s with
    | .inl e => .inl e
    | .inr x => pn_su inp N f x.1 x.2) := rfl
theorem mx_b0_ok {u : Nat → Nat} : mx_ok (mx_b0 u) := ⟨Nat.zero_le _, fun k hk => absurd hk (Nat.not_lt_zero k), Nat.zero_le _, (show 10 ≤ 50 by decide), (show 20 ≤ 50 by decide)⟩
theorem mo_PS_t2 {G : kx_G} {σ ρ τ : kx_H} {mo : Nat} {ad : Nat → Nat} {z z' : Nat → Int32} {M M' : Nat → Int32} {x y : Nat × va_E} (h : mo_PS G (kx_up σ (1, 1) x) mo ad z M ρ) (g : mo_PS G (kx_up ρ (1, 1) y) mo ad z' M' τ) : mo_PS G (kx_up σ (1, 1) y) mo ad z' M' τ := mo_PS_t (mo_PS_w h rfl) g
set_option maxHeartbeats 1000000 in
theorem mt_X4_readText {l : Launch} {G : kx_G} (htr : l.stackTraces = false) {σ : kx_H} {mo : Nat} {ad : Nat → Nat} {z : Nat → Int32} (h0 : σ (1, 0) = some (mo, .inr (3, mo_L ad z))) {inp : Nat → Nat} {N : Nat} (hin : σ (1, 11) = some (ad 10, kx_ai G 700 (mx_w inp))) {M : Nat → Int32} (hn : σ (1, 22) = some (ad 21, kx_ai G 6 M)) {u : Nat → Nat} (hw : σ (1, 1) = some (ad 0, kx_ai G 1417 (mx_w u))) {s0 : Nat} (hat : mo_at z inp N s0) (hN7 : N ≤ 700) (hby : ∀ k, k < N → inp k < 256) : kx_SP l G yX4_readText (ws_ yX4_readText cX4_readText 1 (some .boolean)) 9 0 0 [.ref mo] σ (fun v τ => ∃ z' M' u', mo_PS G (kx_up σ (1, 1) (ad 0, kx_ai G 1417 (mx_w u'))) mo ad z' M' τ ∧ mo_kp z z' ∧ (∀ j, 1417 ≤ j → u' j = u j) ∧ (∀ e, pn_su inp N 1000 (mx_b0 u) s0 = .inl e → v = some (.int (nI 0)) ∧ mo_er z' e) ∧ (∀ x, pn_su inp N 1000 (mx_b0 u) s0 = .inr x → v = some (.int (nI 1)) ∧ z' 14 = nI 0 ∧ z' 15 = -1 ∧ u' = x ∧ mx_ok x)) kx_nx := by
  refine kx_body htr (by decide +kernel) (own := "RoseProverbsModel") (nm := "readText") rfl rfl (Nat.le_of_ble_eq_true rfl) ?_
  intro p e s m args below meth c Q C hQ
  first | refine ri_aload_n C dX4_readText_0 rfl ?_ | refine ri_aload_nQ C dX4_readText_0 rfl ?_ | refine ri_aload_nN C dX4_readText_0 rfl ?_
  refine ri_callV C km_X4_begins q2958 qs57 dX4_readText_1 (mt_X4_begins htr h0 hw) rfl rfl (kx_rcN C (by first | assumption | (repeat (first | assumption | exact kx_rs (by assumption) | exact kx_ne2 (by omega) | exact kx_ne1 (by omega) | refine kx_ro (by assumption) ?_ ?_ | exact kx_rs rfl | refine kx_ro rfl ?_ ?_))) rfl) ⟨⟨(Nat.le_of_ble_eq_true rfl), (Nat.le_of_ble_eq_true rfl)⟩, (Nat.le_of_ble_eq_true rfl), (Nat.le_of_ble_eq_true rfl), (Nat.le_of_ble_eq_true rfl)⟩ (fun v1 s1 h1 => ?_) (fun _ _ _ h => h.elim)
  obtain ⟨rfl, e1⟩ := h1
  have P0 : mo_PS G (kx_up σ (1, 1) (ad 0, kx_ai G 1417 (mx_w (mx_b0 u)))) mo ad z M s1 := by rw [← e1]; exact mo_PS_i (kx_ro e1 h0 (by decide)) (kx_ro e1 hn (by decide))
  have LP : ∀ (wk i : Nat) (z1 : Nat → Int32) (M1 : Nat → Int32) (w : Nat → Nat) (sA : Nat) (τ : kx_H), i ≤ 1000 → 1000 < i + wk → (mo_PS G (kx_up σ (1, 1) (ad 0, kx_ai G 1417 (mx_w w))) mo ad z1 M1 τ ∧ mo_kp z z1 ∧ (∀ j, 1417 ≤ j → w j = u j) ∧ mo_at z1 inp N sA ∧ mx_ok w ∧ pn_su inp N 1000 (mx_b0 u) s0 = pn_su inp N (1000 - i) w sA ∧ N < sA + (1000 - i)) → kx_V G l p e (kx_rm 9 0 0) s m args below meth c 1 Q 4 [(0, .ref mo)] [] τ 0 0 := by
    intro wk
    induction wk with
    | zero => intro i z1 M1 w sA τ h1 h2; exact absurd h2 (by omega)
    | succ wk ih =>
      intro i z1 M1 w sA τ hi hwk hJ
      obtain ⟨P, K, hh, hat, hu, hs, hl⟩ := hJ
      obtain ⟨q11, q14, q16, q17, q18, q19, qs, q15⟩ := hat
      have hat : mo_at z1 inp N sA := ⟨q11, q14, q16, q17, q18, q19, qs, q15⟩
      have hkb : pt_k inp N sA < 5 := by unfold pt_k; split <;> (repeat (first | omega | split))
      have b1 := mo_PS_0 P
      have bn1 := mo_PS_n P
      have bw1 := mo_PS_o P (kx_rs rfl) (by decide) (by decide)
      have bi1 := mo_PS_o P (kx_ro rfl hin (by decide)) (by decide) (by decide)
      obtain ⟨f, hf⟩ : ∃ f, 1000 - i = f + 1 := ⟨1000 - i - 1, by omega⟩
      rw [hf] at hs
      replace hs := hs.trans pn_su_s
      first | refine ri_aload_n C dX4_readText_4 rfl ?_ | refine ri_aload_nQ C dX4_readText_4 rfl ?_ | refine ri_aload_nN C dX4_readText_4 rfl ?_
      refine ri_getf C dX4_readText_5 fr_q2989_3 (by first | assumption | (repeat (first | assumption | exact kx_rs (by assumption) | exact kx_ne2 (by omega) | exact kx_ne1 (by omega) | refine kx_ro (by assumption) ?_ ?_ | exact kx_rs rfl | refine kx_ro rfl ?_ ?_))) (by rfl) ?_
      rw [q19]
      first | refine ri_if_eqB C 20 dX4_readText_8 rfl (fun h8 => ?_) (fun h8 => ?_) | refine ri_if_eqN C 20 dX4_readText_8 rfl (by omega) (fun h8 => ?_) (fun h8 => ?_) | refine ri_if_eq C 20 dX4_readText_8 rfl (fun h8 => ?_) (fun h8 => ?_)
      · rw [if_pos h8] at hs
        refine ri_iconst C dX4_readText_20 kc_i1 ?_
        exact ri_iret C hQ dX4_readText_21 rfl (Nat.le_of_ble_eq_true rfl) (Nat.le_of_ble_eq_true rfl) ⟨z1, M1, w, P, K, hh, fun e' he => (by rw [hs] at he; cases he), fun x' hx => (by rw [hs] at hx; injection hx with hx; subst hx; exact ⟨rfl, q14, q15, rfl, hu⟩)⟩
      · first | refine ri_aload_n C dX4_readText_11 rfl ?_ | refine ri_aload_nQ C dX4_readText_11 rfl ?_ | refine ri_aload_nN C dX4_readText_11 rfl ?_
        refine ri_callV C km_X4_readSetupStatement q3101 qs66 dX4_readText_12 (mt_X4_readSetupStatement htr b1 bi1 bn1 bw1 hat hN7 hby hu) rfl rfl (kx_rcN C (by first | assumption | (repeat (first | assumption | exact kx_rs (by assumption) | exact kx_ne2 (by omega) | exact kx_ne1 (by omega) | refine kx_ro (by assumption) ?_ ?_ | exact kx_rs rfl | refine kx_ro rfl ?_ ?_))) rfl) ⟨⟨(Nat.le_of_ble_eq_true rfl), (Nat.le_of_ble_eq_true rfl)⟩, (Nat.le_of_ble_eq_true rfl), (Nat.le_of_ble_eq_true rfl), (Nat.le_of_ble_eq_true rfl)⟩ (fun v12 s12 h12 => ?_) (fun _ _ _ h => h.elim)
        obtain ⟨z2, M2, u2, p2, k2, w2, m2, g2⟩ := h12
        rcases hr : pn_st inp N w sA with e | x
        · obtain ⟨rfl, mm⟩ := m2 e hr
          first | refine ri_if_neB C 4 dX4_readText_15 rfl (fun h15 => ?_) (fun h15 => ?_) | refine ri_if_neN C 4 dX4_readText_15 rfl (by omega) (fun h15 => ?_) (fun h15 => ?_) | refine ri_if_ne C 4 dX4_readText_15 rfl (fun h15 => ?_) (fun h15 => ?_)
          · exact absurd rfl h15 --dead
          · refine ri_iconst C dX4_readText_18 kc_i0 ?_
            exact ri_iret C hQ dX4_readText_19 rfl (Nat.le_of_ble_eq_true rfl) (Nat.le_of_ble_eq_true rfl) ⟨z2, M2, u2, mo_PS_t2 P p2, mo_kp_t K k2, fun j hj => (w2 j hj).trans (hh j hj), fun e' he => (by rw [hs, if_neg h8, hr] at he; injection he with he; subst he; exact ⟨rfl, mm⟩), fun x' hx => (by rw [hs, if_neg h8, hr] at hx; cases hx)⟩
        · obtain ⟨rfl, at2, rfl⟩ := g2 x hr
          have hpr := pn_st_s qs hr
          first | refine ri_if_neB C 4 dX4_readText_15 rfl (fun h15 => ?_) (fun h15 => ?_) | refine ri_if_neN C 4 dX4_readText_15 rfl (by omega) (fun h15 => ?_) (fun h15 => ?_) | refine ri_if_ne C 4 dX4_readText_15 rfl (fun h15 => ?_) (fun h15 => ?_)
          · refine ri_lv2 (ih (i + 1) z2 M2 x.1 x.2 _ (by omega) (by omega) ⟨mo_PS_t2 P p2, mo_kp_t K k2, fun j hj => (w2 j hj).trans (hh j hj), at2, mx_ok_st hu hr, ?_, by omega⟩) ⟨rfl, trivial⟩
            rw [hs, if_neg h8, hr, show 1000 - (i + 1) = f by omega]
          · exact absurd h15 (by decide) --dead
  refine ri_lv2 (LP 1001 0 z M (mx_b0 u) s0 _ (by omega) (by omega) ⟨P0, mo_kp_r, fun j hj => (by unfold mx_b0; rw [if_neg (by omega), if_neg (by omega), if_neg (by omega)]), hat, mx_b0_ok, rfl, by omega⟩) ⟨rfl, trivial⟩
