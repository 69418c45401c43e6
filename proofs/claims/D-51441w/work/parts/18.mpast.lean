/-! the reference: days, again, past, aside -/
set_option maxRecDepth 100000
abbrev mx_mon (u : Nat → Nat) : Nat := u 2 / 30 % 12
def mx_day (u : Nat → Nat) (wi we : Nat) : Nat → Nat := mx_pass u wi we (mx_mon u)
def mx_rw (u : Nat → Nat) : Nat → Nat → Nat
  | 0 => u
  | n + 1 => mx_pp (mx_rw u n) n 6 (mx_p (mx_rw u n) n 5)
def mx_ag (wi we : Nat → Nat) (v : Nat → Nat) : Nat → Nat → Nat
  | 0 => v
  | d + 1 => mx_pass (mx_ag wi we v d) (wi d) (we d) (d / 30 % 12)
theorem mx_rw_i {u : Nat → Nat} {i : Nat} (h : i < 25 ∨ 265 ≤ i) : ∀ n, n ≤ 24 → mx_rw u n i = u i
  | 0, _ => rfl
  | n + 1, hn => by unfold mx_rw; exact (mx_s_o (by omega)).trans (mx_rw_i h n (by omega))
theorem mx_rw_p {u : Nat → Nat} {k j : Nat} (hj : j < 10) : ∀ n, (j ≠ 6 ∨ n ≤ k) → mx_p (mx_rw u n) k j = mx_p u k j
  | 0, _ => rfl
  | n + 1, h => by
    show mx_rw u (n + 1) (25 + 10 * k + j) = _
    unfold mx_rw
    exact (mx_s_o (by omega)).trans (mx_rw_p hj n (by omega))
theorem mx_rw_w {u : Nat → Nat} {k : Nat} : ∀ n, k < n → mx_p (mx_rw u n) k 6 = mx_p u k 5
  | 0, h => absurd h (Nat.not_lt_zero _)
  | n + 1, h => by
    show mx_rw u (n + 1) (25 + 10 * k + 6) = _
    unfold mx_rw
    by_cases e : k = n
    · subst e; exact mx_s_s.trans (mx_rw_p (by omega) k (by omega))
    · exact (mx_s_o (by omega)).trans (mx_rw_w n (by omega))
theorem mx_rw_es {u : Nat → Nat} {n : Nat} (hn : n ≤ 24) : mx_es u (mx_rw u n) := ⟨mx_rw_i (by omega) n hn, fun k j hk hj => mx_rw_p (by omega) n (by omega)⟩
theorem mx_rw_ok {u : Nat → Nat} (hu : mx_ok u) : ∀ n, n ≤ u 0 → mx_ok (mx_rw u n) := fun n hn => by
  obtain ⟨k0, h, k5, k6, k7⟩ := hu
  have e : ∀ i, i < 25 → mx_rw u n i = u i := fun i hi => mx_rw_i (Or.inl hi) n (by omega)
  refine ⟨by rw [e 0 (by omega)]; exact k0, fun q hq => ?_, by rw [e 5 (by omega)]; exact k5, by rw [e 6 (by omega)]; exact k6, by rw [e 7 (by omega)]; exact k7⟩
  rw [e 0 (by omega)] at hq
  have g : ∀ j, j < 10 → j ≠ 6 → mx_p (mx_rw u n) q j = mx_p u q j := fun j hj h6 => mx_rw_p hj n (Or.inl h6)
  rw [g 0 (by omega) (by omega), g 1 (by omega) (by omega), g 2 (by omega) (by omega), g 3 (by omega) (by omega), g 4 (by omega) (by omega), g 5 (by omega) (by omega), g 9 (by omega) (by omega)]
  have hh := h q hq
  have hw : 1 ≤ mx_p (mx_rw u n) q 6 ∧ mx_p (mx_rw u n) q 6 ≤ 999 := by
    by_cases c : q < n
    · rw [mx_rw_w n c]; omega
    · rw [mx_rw_p (by omega) n (by omega)]; omega
  exact ⟨hh.1, hh.2.1, hh.2.2.1, hh.2.2.2.1, hh.2.2.2.2.1, hh.2.2.2.2.2.1, hh.2.2.2.2.2.2.1, hw.1, hw.2, hh.2.2.2.2.2.2.2.2.2⟩
theorem mx_rw_le {B n : Nat} {u : Nat → Nat} (h : mx_le B u) (hn : n ≤ 24) : mx_le B (mx_rw u n) := fun i hi => by
  by_cases c : i < 25
  · rw [mx_rw_i (Or.inl c) n hn]; exact h i hi
  · have e := mx_rw_p (u := u) (k := (i - 25) / 10) (j := (i - 25) % 10) (by omega) n (by omega)
    have ei : 25 + 10 * ((i - 25) / 10) + (i - 25) % 10 = i := by omega
    unfold mx_p at e
    rw [ei] at e
    rw [e]; exact h i hi
theorem mx_ag_f {wi we v : Nat → Nat} {B : Nat} (h : mx_ok v) (hB : mx_le B v) : ∀ d, mx_ok (mx_ag wi we v d) ∧ mx_ag wi we v d 0 = v 0 ∧ mx_ag wi we v d 2 = v 2 + d ∧ mx_le (B + 100 * d) (mx_ag wi we v d) ∧ mx_es v (mx_ag wi we v d)
  | 0 => ⟨h, rfl, rfl, hB, rfl, fun _ _ _ _ => rfl⟩
  | d + 1 => by
    obtain ⟨a, b, c, e, f⟩ := mx_ag_f (wi := wi) (we := we) h hB d
    refine ⟨mx_pass_ok a, (mx_pass_o a.1 (by omega)).trans b, ?_, mx_le_m (mx_pass_le a.1 e) (by omega), mx_es_t f (mx_pass_es a.1)⟩
    show mx_pass _ _ _ _ 2 = _
    rw [mx_pass_d a.1, c]; omega
theorem mx_year_9 {u : Nat → Nat} {o : Option Nat} {we : Nat} : mx_year u o we 9 = u 9 + (decide (o = some we)).toNat := by
  have h1 : mx_cn (mx_cn u 0 1) (mx_its o we) 1 9 = u 9 + (decide (o = some we)).toNat := by
    cases o with
    | none => exact (mx_cn_i (show 9 ≠ 8 + 3 by decide)).trans (mx_cn_i (by decide))
    | some b =>
      by_cases e : b = we
      · subst e
        simp only [mx_its, if_true, decide_true]
        exact (mx_s_s).trans (congrArg (· + 1) (mx_cn_i (by decide)))
      · simp only [mx_its, if_neg e, Option.some.injEq, e, decide_false]
        exact (mx_cn_i (by decide)).trans (mx_cn_i (by decide))
  unfold mx_year mx_inc
  split
  · rw [mx_s_o (by omega), mx_s_o (by omega)]; exact h1
  · exact h1
theorem mx_pass_9 {u : Nat → Nat} {wi we mo : Nat} (hu : u 0 ≤ 24) : mx_pass u wi we mo 9 = u 9 + (decide (mx_told u wi mo = some we)).toNat := by
  unfold mx_pass
  unfold mx_inc
  rw [mx_s_o (by omega), mx_year_9, mx_cn_i (by omega), mx_R_o (by omega) (by omega) (by omega) _ hu, mx_M_i (by omega)]
/-- on how many days what was told came -/
def mx_hits (wi we v : Nat → Nat) : Nat → Nat := mx_cnt (fun d => decide (mx_told (mx_ag wi we v d) (wi d) (d / 30 % 12) = some (we d)))
theorem mx_ag_o {wi we v : Nat → Nat} (h : mx_ok v) : ∀ d, mx_ag wi we v d 0 ≤ 24 ∧ mx_ok (mx_ag wi we v d)
  | 0 => ⟨h.1, h⟩
  | d + 1 => have a := (mx_ag_o h d).2; ⟨(mx_pass_ok a).1, mx_pass_ok a⟩
theorem mx_ag_9 {wi we v : Nat → Nat} (h : mx_ok v) : ∀ d, mx_ag wi we v d 9 = v 9 + mx_hits wi we v d
  | 0 => rfl
  | d + 1 => by
    show mx_pass _ _ _ _ 9 = _
    rw [mx_pass_9 (mx_ag_o h d).1, mx_ag_9 h d]; exact Nat.add_assoc _ _ _
set_option maxHeartbeats 1000000 in
theorem mt_X4_passes {l : Launch} {G : kx_G} (htr : l.stackTraces = false) {σ : kx_H} {mo : Nat} {ad : Nat → Nat} {z : Nat → Int32} {u : Nat → Nat} {wi we : Nat} (h0 : σ (1, 0) = some (mo, .inr (3, mo_L ad z))) (hw : σ (1, 1) = some (ad 0, kx_ai G 1417 (mx_w u))) (hu : mx_ok u) (hp : wi < 16) (hwe : we < 5) {B : Nat} (hB : mx_le B u) (hb : B < 900000000) (hd : u 2 < 50000) : kx_SP l G yX4_passes (ws_ yX4_passes cX4_passes 3 (some .int)) 9 0 0 [.ref mo, .int (nI wi), .int (nI we)] σ (fun v τ => v = some (.int (mx_o (mx_told u wi (mx_mon u)))) ∧ τ = kx_up σ (1, 1) (ad 0, kx_ai G 1417 (mx_w (mx_day u wi we)))) kx_nx := by
  refine kx_body htr (by decide +kernel) (own := "RoseProverbsModel") (nm := "passes") rfl rfl (Nat.le_of_ble_eq_true rfl) ?_
  intro p e s m args below meth c Q C hQ
  first | refine ri_aload_n C dX4_passes_0 rfl ?_ | refine ri_aload_nQ C dX4_passes_0 rfl ?_ | refine ri_aload_nN C dX4_passes_0 rfl ?_
  refine ri_iload_n C dX4_passes_1 rfl ?_
  refine ri_iload_n C dX4_passes_2 rfl ?_
  first | refine ri_aload_n C dX4_passes_3 rfl ?_ | refine ri_aload_nQ C dX4_passes_3 rfl ?_ | refine ri_aload_nN C dX4_passes_3 rfl ?_
  first | refine ri_aload_n C dX4_passes_4 rfl ?_ | refine ri_aload_nQ C dX4_passes_4 rfl ?_ | refine ri_aload_nN C dX4_passes_4 rfl ?_
  refine ri_getf C dX4_passes_5 fr_q2970_3 (by first | assumption | (repeat (first | assumption | exact kx_rs (by assumption) | exact kx_ne2 (by omega) | exact kx_ne1 (by omega) | refine kx_ro (by assumption) ?_ ?_ | exact kx_rs rfl | refine kx_ro rfl ?_ ?_))) (by rfl) ?_
  refine ri_iconst C dX4_passes_8 kc_i2 ?_
  first | refine ri_ialoadN C dX4_passes_9 (by first | assumption | (repeat (first | assumption | exact kx_rs (by assumption) | exact kx_ne2 (by omega) | exact kx_ne1 (by omega) | refine kx_ro (by assumption) ?_ ?_ | exact kx_rs rfl | refine kx_ro rfl ?_ ?_))) rfl (by omega) ?_ | refine ri_iaload C dX4_passes_9 (by first | assumption | (repeat (first | assumption | exact kx_rs (by assumption) | exact kx_ne2 (by omega) | exact kx_ne1 (by omega) | refine kx_ro (by assumption) ?_ ?_ | exact kx_rs rfl | refine kx_ro rfl ?_ ?_))) rfl (by omega) ?_
  refine ri_callV C km_X4_monthOf q3205 qs88 dX4_passes_10 (mt_X4_monthOf htr (by omega)) rfl rfl (kx_rcN C (by first | assumption | (repeat (first | assumption | exact kx_rs (by assumption) | exact kx_ne2 (by omega) | exact kx_ne1 (by omega) | refine kx_ro (by assumption) ?_ ?_ | exact kx_rs rfl | refine kx_ro rfl ?_ ?_))) rfl) ⟨⟨(Nat.le_of_ble_eq_true rfl), (Nat.le_of_ble_eq_true rfl)⟩, (Nat.le_of_ble_eq_true rfl), (Nat.le_of_ble_eq_true rfl), (Nat.le_of_ble_eq_true rfl)⟩ (fun v10 s10 h10 => ?_) (fun _ _ _ h => h.elim)
  obtain ⟨rfl, rfl⟩ := h10
  refine ri_callV C km_X4_passesIn q3209 qs89 dX4_passes_13 (mt_X4_passesIn htr h0 hw hu hp (Nat.mod_lt _ (by decide)) hwe hB hb hd) rfl rfl (kx_rcN C (by first | assumption | (repeat (first | assumption | exact kx_rs (by assumption) | exact kx_ne2 (by omega) | exact kx_ne1 (by omega) | refine kx_ro (by assumption) ?_ ?_ | exact kx_rs rfl | refine kx_ro rfl ?_ ?_))) rfl) ⟨⟨(Nat.le_of_ble_eq_true rfl), (Nat.le_of_ble_eq_true rfl)⟩, (Nat.le_of_ble_eq_true rfl), (Nat.le_of_ble_eq_true rfl), (Nat.le_of_ble_eq_true rfl)⟩ (fun v13 s13 h13 => ?_) (fun _ _ _ h => h.elim)
  obtain ⟨rfl, e13⟩ := h13
  exact ri_iret C hQ dX4_passes_16 rfl (Nat.le_of_ble_eq_true rfl) (Nat.le_of_ble_eq_true rfl) ⟨rfl, e13⟩
set_option maxHeartbeats 1000000 in
theorem mt_X4_passesNow {l : Launch} {G : kx_G} (htr : l.stackTraces = false) {σ : kx_H} {mo : Nat} {ad : Nat → Nat} {z : Nat → Int32} {u : Nat → Nat} {wi we : Nat} (h0 : σ (1, 0) = some (mo, .inr (3, mo_L ad z))) (hw : σ (1, 1) = some (ad 0, kx_ai G 1417 (mx_w u))) {L : Nat → Int32} (hl : σ (1, 6) = some (ad 5, kx_ai G 2160 L)) (hu : mx_ok u) (hp : wi < 16) (hwe : we < 5) {B : Nat} (hB : mx_le B u) (hb : B < 900000000) (hd : u 2 < 720) : kx_SP l G yX4_passesNow (ws_ yX4_passesNow cX4_passesNow 5 (some .int)) 10 0 0 [.ref mo, .int (nI wi), .int (nI we)] σ (fun v τ => v = some (.int (mx_o (mx_told u wi (mx_mon u)))) ∧ τ = kx_up (kx_up σ (1, 1) (ad 0, kx_ai G 1417 (mx_w (mx_day u wi we)))) (1, 6) (ad 5, kx_ai G 2160 (upd (upd (upd L (3 * u 2) (nI wi)) (3 * u 2 + 1) (nI we)) (3 * u 2 + 2) (mx_o (mx_told u wi (mx_mon u)))))) kx_nx := by
  refine kx_body htr (by decide +kernel) (own := "RoseProverbsModel") (nm := "passesNow") rfl rfl (Nat.le_of_ble_eq_true rfl) ?_
  intro p e s m args below meth c Q C hQ
  refine ri_iconst C dX4_passesNow_0 kc_i3 ?_
  first | refine ri_aload_n C dX4_passesNow_1 rfl ?_ | refine ri_aload_nQ C dX4_passesNow_1 rfl ?_ | refine ri_aload_nN C dX4_passesNow_1 rfl ?_
  refine ri_getf C dX4_passesNow_2 fr_q2970_3 (by first | assumption | (repeat (first | assumption | exact kx_rs (by assumption) | exact kx_ne2 (by omega) | exact kx_ne1 (by omega) | refine kx_ro (by assumption) ?_ ?_ | exact kx_rs rfl | refine kx_ro rfl ?_ ?_))) (by rfl) ?_
  refine ri_iconst C dX4_passesNow_5 kc_i2 ?_
  first | refine ri_ialoadN C dX4_passesNow_6 (by first | assumption | (repeat (first | assumption | exact kx_rs (by assumption) | exact kx_ne2 (by omega) | exact kx_ne1 (by omega) | refine kx_ro (by assumption) ?_ ?_ | exact kx_rs rfl | refine kx_ro rfl ?_ ?_))) rfl (by omega) ?_ | refine ri_iaload C dX4_passesNow_6 (by first | assumption | (repeat (first | assumption | exact kx_rs (by assumption) | exact kx_ne2 (by omega) | exact kx_ne1 (by omega) | refine kx_ro (by assumption) ?_ ?_ | exact kx_rs rfl | refine kx_ro rfl ?_ ?_))) rfl (by omega) ?_
  first | refine ri_imulN C dX4_passesNow_7 ?_ | refine ri_imul C dX4_passesNow_7 ?_
  refine ri_istore_n C dX4_passesNow_8 rfl (by decide) ?_
  first | refine ri_aload_n C dX4_passesNow_9 rfl ?_ | refine ri_aload_nQ C dX4_passesNow_9 rfl ?_ | refine ri_aload_nN C dX4_passesNow_9 rfl ?_
  refine ri_iload_n C dX4_passesNow_10 rfl ?_
  refine ri_iload_n C dX4_passesNow_11 rfl ?_
  refine ri_callV C km_X4_passes q3201 qs87 dX4_passesNow_12 (mt_X4_passes htr h0 hw hu hp hwe hB hb (by omega)) rfl rfl (kx_rcN C (by first | assumption | (repeat (first | assumption | exact kx_rs (by assumption) | exact kx_ne2 (by omega) | exact kx_ne1 (by omega) | refine kx_ro (by assumption) ?_ ?_ | exact kx_rs rfl | refine kx_ro rfl ?_ ?_))) rfl) ⟨⟨(Nat.le_of_ble_eq_true rfl), (Nat.le_of_ble_eq_true rfl)⟩, (Nat.le_of_ble_eq_true rfl), (Nat.le_of_ble_eq_true rfl), (Nat.le_of_ble_eq_true rfl)⟩ (fun v12 s12 h12 => ?_) (fun _ _ _ h => h.elim)
  obtain ⟨rfl, e12⟩ := h12
  refine ri_istore C dX4_passesNow_15 rfl (by decide) ?_
  first | refine ri_aload_n C dX4_passesNow_17 rfl ?_ | refine ri_aload_nQ C dX4_passesNow_17 rfl ?_ | refine ri_aload_nN C dX4_passesNow_17 rfl ?_
  refine ri_getf C dX4_passesNow_18 fr_q2975_3 (by first | assumption | (repeat (first | assumption | exact kx_rs (by assumption) | exact kx_ne2 (by omega) | exact kx_ne1 (by omega) | refine kx_ro (by assumption) ?_ ?_ | exact kx_rs rfl | refine kx_ro rfl ?_ ?_))) (by rfl) ?_
  refine ri_iload_n C dX4_passesNow_21 rfl ?_
  refine ri_iload_n C dX4_passesNow_22 rfl ?_
  refine ri_iastore C dX4_passesNow_23 (by first | assumption | (repeat (first | assumption | exact kx_rs (by assumption) | exact kx_ne2 (by omega) | exact kx_ne1 (by omega) | refine kx_ro (by assumption) ?_ ?_ | exact kx_rs rfl | refine kx_ro rfl ?_ ?_))) rfl (by omega) (fun s23 e23 => ?_)
  first | refine ri_aload_n C dX4_passesNow_24 rfl ?_ | refine ri_aload_nQ C dX4_passesNow_24 rfl ?_ | refine ri_aload_nN C dX4_passesNow_24 rfl ?_
  refine ri_getf C dX4_passesNow_25 fr_q2975_3 (by first | assumption | (repeat (first | assumption | exact kx_rs (by assumption) | exact kx_ne2 (by omega) | exact kx_ne1 (by omega) | refine kx_ro (by assumption) ?_ ?_ | exact kx_rs rfl | refine kx_ro rfl ?_ ?_))) (by rfl) ?_
  refine ri_iload_n C dX4_passesNow_28 rfl ?_
  refine ri_iconst C dX4_passesNow_29 kc_i1 ?_
  first | refine ri_iaddN C dX4_passesNow_30 ?_ | refine ri_iadd C dX4_passesNow_30 ?_
  refine ri_iload_n C dX4_passesNow_31 rfl ?_
  refine ri_iastore C dX4_passesNow_32 (by first | assumption | (repeat (first | assumption | exact kx_rs (by assumption) | exact kx_ne2 (by omega) | exact kx_ne1 (by omega) | refine kx_ro (by assumption) ?_ ?_ | exact kx_rs rfl | refine kx_ro rfl ?_ ?_))) rfl (by omega) (fun s32 e32 => ?_)
  first | refine ri_aload_n C dX4_passesNow_33 rfl ?_ | refine ri_aload_nQ C dX4_passesNow_33 rfl ?_ | refine ri_aload_nN C dX4_passesNow_33 rfl ?_
  refine ri_getf C dX4_passesNow_34 fr_q2975_3 (by first | assumption | (repeat (first | assumption | exact kx_rs (by assumption) | exact kx_ne2 (by omega) | exact kx_ne1 (by omega) | refine kx_ro (by assumption) ?_ ?_ | exact kx_rs rfl | refine kx_ro rfl ?_ ?_))) (by rfl) ?_
  refine ri_iload_n C dX4_passesNow_37 rfl ?_
  refine ri_iconst C dX4_passesNow_38 kc_i2 ?_
  first | refine ri_iaddN C dX4_passesNow_39 ?_ | refine ri_iadd C dX4_passesNow_39 ?_
  refine ri_iload C dX4_passesNow_40 rfl ?_
  refine ri_iastore C dX4_passesNow_42 (by first | assumption | (repeat (first | assumption | exact kx_rs (by assumption) | exact kx_ne2 (by omega) | exact kx_ne1 (by omega) | refine kx_ro (by assumption) ?_ ?_ | exact kx_rs rfl | refine kx_ro rfl ?_ ?_))) rfl (by omega) (fun s42 e42 => ?_)
  refine ri_iload C dX4_passesNow_43 rfl ?_
  exact ri_iret C hQ dX4_passesNow_45 rfl (Nat.le_of_ble_eq_true rfl) (Nat.le_of_ble_eq_true rfl) ⟨rfl, by rw [e42, e32, e23, e12]; simp only [kx_up_u]⟩
set_option maxHeartbeats 1000000 in
theorem mt_X4_again {l : Launch} {G : kx_G} (htr : l.stackTraces = false) {σ : kx_H} {mo : Nat} {ad : Nat → Nat} {z : Nat → Int32} {u : Nat → Nat} (h0 : σ (1, 0) = some (mo, .inr (3, mo_L ad z))) (hw : σ (1, 1) = some (ad 0, kx_ai G 1417 (mx_w u))) {L : Nat → Int32} (hl : σ (1, 6) = some (ad 5, kx_ai G 2160 L)) (hu : mx_ok u) {wi we : Nat → Nat} (hg : ∀ d, d < u 2 → L (3 * d) = nI (wi d) ∧ wi d < 16 ∧ L (3 * d + 1) = nI (we d) ∧ we d < 5) {B : Nat} (hB : mx_le B u) (hb : B < 800000000) (hd : u 2 ≤ 720) : kx_SP l G yX4_again (ws_ yX4_again cX4_again 5 (some .int)) 10 0 0 [.ref mo] σ (fun v τ => v = some (.int (nI (mx_hits wi we (mx_rw u (u 0)) (u 2)))) ∧ τ = kx_up σ (1, 1) (ad 0, kx_ai G 1417 (mx_w (mx_ag wi we (mx_rw u (u 0)) (u 2))))) kx_nx := by
  refine kx_body htr (by decide +kernel) (own := "RoseProverbsModel") (nm := "again") rfl rfl (Nat.le_of_ble_eq_true rfl) ?_
  intro p e s m args below meth c Q C hQ
  have gn := hu.1
  have hro := mx_rw_ok hu (u 0) (Nat.le_refl _)
  have hrl := mx_rw_le hB gn
  have LR : ∀ (wk i : Nat) (τ : kx_H), i ≤ u 2 → u 2 < i + wk → τ = kx_up σ (1, 1) (ad 0, kx_ai G 1417 (mx_w (mx_ag wi we (mx_rw u (u 0)) i))) → kx_V G l p e (kx_rm 10 0 0) s m args below meth c 5 Q 48 [(0, .ref mo), (1, .int (nI (u 2))), (2, .int (nI (u 9))), (3, .int (nI i))] [] τ 0 0 := by
    intro wk
    induction wk with
    | zero => intro i τ h1 h2; exact absurd h2 (by omega)
    | succ wk ih =>
      intro i τ hi hwk hI
      have hv := mx_ag_f (wi := wi) (we := we) hro hrl i
      have h9 := mx_ag_9 (wi := wi) (we := we) hro i
      generalize qv : mx_ag wi we (mx_rw u (u 0)) i = v at *
      obtain ⟨o1, o2, o3, o4, o5⟩ := hv
      have h9' : mx_rw u (u 0) 9 = u 9 := mx_rw_i (by omega) _ gn
      have h2' : mx_rw u (u 0) 2 = u 2 := mx_rw_i (by omega) _ gn
      have b0 := kx_ro hI h0 (kx_ne2 (by omega))
      have bw := kx_rs hI
      have bl := kx_ro hI hl (kx_ne2 (by omega))
      have hgi := hg i
      have hgn : mx_hits wi we (mx_rw u (u 0)) i ≤ i := mx_cnt_le
      refine ri_iload_n C dX4_again_48 rfl ?_
      refine ri_iload_n C dX4_again_49 rfl ?_
      first | refine ri_icmp_geN C 88 dX4_again_50 rfl (by omega) (by omega) (fun h50 => ?_) (fun h50 => ?_) | refine ri_icmp_ge C 88 dX4_again_50 rfl (fun h50 => ?_) (fun h50 => ?_)
      · obtain rfl : i = u 2 := by omega
        first | refine ri_aload_n C dX4_again_88 rfl ?_ | refine ri_aload_nQ C dX4_again_88 rfl ?_ | refine ri_aload_nN C dX4_again_88 rfl ?_
        refine ri_getf C dX4_again_89 fr_q2970_3 (by first | assumption | (repeat (first | assumption | exact kx_rs (by assumption) | exact kx_ne2 (by omega) | exact kx_ne1 (by omega) | refine kx_ro (by assumption) ?_ ?_ | exact kx_rs rfl | refine kx_ro rfl ?_ ?_))) (by rfl) ?_
        refine ri_bipush C dX4_again_92 kc_b9 ?_
        first | refine ri_ialoadN C dX4_again_94 (by first | assumption | (repeat (first | assumption | exact kx_rs (by assumption) | exact kx_ne2 (by omega) | exact kx_ne1 (by omega) | refine kx_ro (by assumption) ?_ ?_ | exact kx_rs rfl | refine kx_ro rfl ?_ ?_))) rfl (by omega) ?_ | refine ri_iaload C dX4_again_94 (by first | assumption | (repeat (first | assumption | exact kx_rs (by assumption) | exact kx_ne2 (by omega) | exact kx_ne1 (by omega) | refine kx_ro (by assumption) ?_ ?_ | exact kx_rs rfl | refine kx_ro rfl ?_ ?_))) rfl (by omega) ?_
        refine ri_iload_n C dX4_again_95 rfl ?_
        first | refine ri_isubN C dX4_again_96 (by omega) ?_ | refine ri_isub C dX4_again_96 ?_
        exact ri_iret C hQ dX4_again_97 rfl (Nat.le_of_ble_eq_true rfl) (Nat.le_of_ble_eq_true rfl) ⟨by rw [show v 9 - u 9 = mx_hits wi we (mx_rw u (u 0)) (u 2) by omega], by rw [qv]; exact hI⟩
      · obtain ⟨g1, g2, g3, g4⟩ := hgi (by omega)
        first | refine ri_aload_n C dX4_again_53 rfl ?_ | refine ri_aload_nQ C dX4_again_53 rfl ?_ | refine ri_aload_nN C dX4_again_53 rfl ?_
        first | refine ri_aload_n C dX4_again_54 rfl ?_ | refine ri_aload_nQ C dX4_again_54 rfl ?_ | refine ri_aload_nN C dX4_again_54 rfl ?_
        refine ri_getf C dX4_again_55 fr_q2975_3 (by first | assumption | (repeat (first | assumption | exact kx_rs (by assumption) | exact kx_ne2 (by omega) | exact kx_ne1 (by omega) | refine kx_ro (by assumption) ?_ ?_ | exact kx_rs rfl | refine kx_ro rfl ?_ ?_))) (by rfl) ?_
        refine ri_iconst C dX4_again_58 kc_i3 ?_
        refine ri_iload_n C dX4_again_59 rfl ?_
        first | refine ri_imulN C dX4_again_60 ?_ | refine ri_imul C dX4_again_60 ?_
        refine ri_iaload C dX4_again_61 bl rfl (by omega) ?_
        rw [g1]
        first | refine ri_aload_n C dX4_again_62 rfl ?_ | refine ri_aload_nQ C dX4_again_62 rfl ?_ | refine ri_aload_nN C dX4_again_62 rfl ?_
        refine ri_getf C dX4_again_63 fr_q2975_3 (by first | assumption | (repeat (first | assumption | exact kx_rs (by assumption) | exact kx_ne2 (by omega) | exact kx_ne1 (by omega) | refine kx_ro (by assumption) ?_ ?_ | exact kx_rs rfl | refine kx_ro rfl ?_ ?_))) (by rfl) ?_
        refine ri_iconst C dX4_again_66 kc_i3 ?_
        refine ri_iload_n C dX4_again_67 rfl ?_
        first | refine ri_imulN C dX4_again_68 ?_ | refine ri_imul C dX4_again_68 ?_
        refine ri_iconst C dX4_again_69 kc_i1 ?_
        first | refine ri_iaddN C dX4_again_70 ?_ | refine ri_iadd C dX4_again_70 ?_
        refine ri_iaload C dX4_again_71 bl rfl (by omega) ?_
        rw [g3]
        first | refine ri_aload_n C dX4_again_72 rfl ?_ | refine ri_aload_nQ C dX4_again_72 rfl ?_ | refine ri_aload_nN C dX4_again_72 rfl ?_
        refine ri_iload_n C dX4_again_73 rfl ?_
        refine ri_callV C km_X4_monthOf q3205 qs88 dX4_again_74 (mt_X4_monthOf htr (by omega)) rfl rfl (kx_rcN C (by first | assumption | (repeat (first | assumption | exact kx_rs (by assumption) | exact kx_ne2 (by omega) | exact kx_ne1 (by omega) | refine kx_ro (by assumption) ?_ ?_ | exact kx_rs rfl | refine kx_ro rfl ?_ ?_))) rfl) ⟨⟨(Nat.le_of_ble_eq_true rfl), (Nat.le_of_ble_eq_true rfl)⟩, (Nat.le_of_ble_eq_true rfl), (Nat.le_of_ble_eq_true rfl), (Nat.le_of_ble_eq_true rfl)⟩ (fun v74 s74 h74 => ?_) (fun _ _ _ h => h.elim)
        obtain ⟨rfl, rfl⟩ := h74
        refine ri_callV C km_X4_passesIn q3209 qs89 dX4_again_77 (mt_X4_passesIn htr b0 bw o1 g2 (Nat.mod_lt _ (by decide)) g4 o4 (by omega) (by omega)) rfl rfl (kx_rcN C (by first | assumption | (repeat (first | assumption | exact kx_rs (by assumption) | exact kx_ne2 (by omega) | exact kx_ne1 (by omega) | refine kx_ro (by assumption) ?_ ?_ | exact kx_rs rfl | refine kx_ro rfl ?_ ?_))) rfl) ⟨⟨(Nat.le_of_ble_eq_true rfl), (Nat.le_of_ble_eq_true rfl)⟩, (Nat.le_of_ble_eq_true rfl), (Nat.le_of_ble_eq_true rfl), (Nat.le_of_ble_eq_true rfl)⟩ (fun v77 s77 h77 => ?_) (fun _ _ _ h => h.elim)
        obtain ⟨rfl, e77⟩ := h77
        refine ri_istore C dX4_again_80 rfl (by decide) ?_
        first | refine ri_iincN C dX4_again_82 rfl rfl (by decide) ?_ | refine ri_iinc C dX4_again_82 rfl rfl rfl (by decide) ?_
        refine ri_goto C 48 dX4_again_85 rfl ?_
        refine ri_lv2 (ih (i + 1) _ (by omega) (by omega) ?_) ⟨rfl, rfl, rfl, rfl, trivial⟩
        rw [show mx_ag wi we (mx_rw u (u 0)) (i + 1) = mx_pass (mx_ag wi we (mx_rw u (u 0)) i) (wi i) (we i) (i / 30 % 12) from rfl, qv, e77, hI, kx_up_u]
  have LP : ∀ (wk i : Nat) (τ : kx_H), i ≤ u 0 → u 0 < i + wk → τ = kx_up σ (1, 1) (ad 0, kx_ai G 1417 (mx_w (mx_rw u i))) → kx_V G l p e (kx_rm 10 0 0) s m args below meth c 5 Q 9 [(0, .ref mo), (1, .int (nI (u 2))), (2, .int (nI i))] [] τ 0 0 := by
    intro wk
    induction wk with
    | zero => intro i τ h1 h2; exact absurd h2 (by omega)
    | succ wk ih =>
      intro i τ hi hwk hI
      have v0 : mx_rw u i 0 = u 0 := mx_rw_i (by omega) i (by omega)
      generalize qv : mx_rw u i = v at *
      have b0 := kx_ro hI h0 (kx_ne2 (by omega))
      have bw := kx_rs hI
      refine ri_iload_n C dX4_again_9 rfl ?_
      first | refine ri_aload_n C dX4_again_10 rfl ?_ | refine ri_aload_nQ C dX4_again_10 rfl ?_ | refine ri_aload_nN C dX4_again_10 rfl ?_
      refine ri_getf C dX4_again_11 fr_q2970_3 (by first | assumption | (repeat (first | assumption | exact kx_rs (by assumption) | exact kx_ne2 (by omega) | exact kx_ne1 (by omega) | refine kx_ro (by assumption) ?_ ?_ | exact kx_rs rfl | refine kx_ro rfl ?_ ?_))) (by rfl) ?_
      refine ri_iconst C dX4_again_14 kc_i0 ?_
      first | refine ri_ialoadN C dX4_again_15 (by first | assumption | (repeat (first | assumption | exact kx_rs (by assumption) | exact kx_ne2 (by omega) | exact kx_ne1 (by omega) | refine kx_ro (by assumption) ?_ ?_ | exact kx_rs rfl | refine kx_ro rfl ?_ ?_))) rfl (by omega) ?_ | refine ri_iaload C dX4_again_15 (by first | assumption | (repeat (first | assumption | exact kx_rs (by assumption) | exact kx_ne2 (by omega) | exact kx_ne1 (by omega) | refine kx_ro (by assumption) ?_ ?_ | exact kx_rs rfl | refine kx_ro rfl ?_ ?_))) rfl (by omega) ?_
      first | refine ri_icmp_geN C 38 dX4_again_16 rfl (by omega) (by omega) (fun h16 => ?_) (fun h16 => ?_) | refine ri_icmp_ge C 38 dX4_again_16 rfl (fun h16 => ?_) (fun h16 => ?_)
      · obtain rfl : i = u 0 := by omega
        first | refine ri_aload_n C dX4_again_38 rfl ?_ | refine ri_aload_nQ C dX4_again_38 rfl ?_ | refine ri_aload_nN C dX4_again_38 rfl ?_
        refine ri_getf C dX4_again_39 fr_q2970_3 (by first | assumption | (repeat (first | assumption | exact kx_rs (by assumption) | exact kx_ne2 (by omega) | exact kx_ne1 (by omega) | refine kx_ro (by assumption) ?_ ?_ | exact kx_rs rfl | refine kx_ro rfl ?_ ?_))) (by rfl) ?_
        refine ri_bipush C dX4_again_42 kc_b9 ?_
        first | refine ri_ialoadN C dX4_again_44 (by first | assumption | (repeat (first | assumption | exact kx_rs (by assumption) | exact kx_ne2 (by omega) | exact kx_ne1 (by omega) | refine kx_ro (by assumption) ?_ ?_ | exact kx_rs rfl | refine kx_ro rfl ?_ ?_))) rfl (by omega) ?_ | refine ri_iaload C dX4_again_44 (by first | assumption | (repeat (first | assumption | exact kx_rs (by assumption) | exact kx_ne2 (by omega) | exact kx_ne1 (by omega) | refine kx_ro (by assumption) ?_ ?_ | exact kx_rs rfl | refine kx_ro rfl ?_ ?_))) rfl (by omega) ?_
        refine ri_istore_n C dX4_again_45 rfl (by decide) ?_
        refine ri_iconst C dX4_again_46 kc_i0 ?_
        refine ri_istore_n C dX4_again_47 rfl (by decide) ?_
        refine ri_lv2 (LR (u 2 + 1) 0 _ (by omega) (by omega) ?_) ⟨rfl, rfl, ?_, rfl, trivial⟩
        · rw [show mx_ag wi we (mx_rw u (u 0)) 0 = mx_rw u (u 0) from rfl, qv]; exact hI
        · show some (Value.int (nI (v 9))) = _
          rw [← qv, mx_rw_i (by omega) _ gn]
      · first | refine ri_aload_n C dX4_again_19 rfl ?_ | refine ri_aload_nQ C dX4_again_19 rfl ?_ | refine ri_aload_nN C dX4_again_19 rfl ?_
        refine ri_iload_n C dX4_again_20 rfl ?_
        refine ri_bipush C dX4_again_21 kc_b6 ?_
        first | refine ri_aload_n C dX4_again_23 rfl ?_ | refine ri_aload_nQ C dX4_again_23 rfl ?_ | refine ri_aload_nN C dX4_again_23 rfl ?_
        refine ri_iload_n C dX4_again_24 rfl ?_
        refine ri_iconst C dX4_again_25 kc_i5 ?_
        refine ri_callV C km_X4_of q3140 qs75 dX4_again_26 (mt_X4_of htr b0 bw (by omega)) rfl rfl (kx_rcN C (by first | assumption | (repeat (first | assumption | exact kx_rs (by assumption) | exact kx_ne2 (by omega) | exact kx_ne1 (by omega) | refine kx_ro (by assumption) ?_ ?_ | exact kx_rs rfl | refine kx_ro rfl ?_ ?_))) rfl) ⟨⟨(Nat.le_of_ble_eq_true rfl), (Nat.le_of_ble_eq_true rfl)⟩, (Nat.le_of_ble_eq_true rfl), (Nat.le_of_ble_eq_true rfl), (Nat.le_of_ble_eq_true rfl)⟩ (fun v26 s26 h26 => ?_) (fun _ _ _ h => h.elim)
        obtain ⟨rfl, rfl⟩ := h26
        refine ri_callV C km_X4_puts q2966 qs59 dX4_again_29 (mt_X4_puts htr b0 bw (by omega)) rfl rfl (kx_rcN C (by first | assumption | (repeat (first | assumption | exact kx_rs (by assumption) | exact kx_ne2 (by omega) | exact kx_ne1 (by omega) | refine kx_ro (by assumption) ?_ ?_ | exact kx_rs rfl | refine kx_ro rfl ?_ ?_))) rfl) ⟨⟨(Nat.le_of_ble_eq_true rfl), (Nat.le_of_ble_eq_true rfl)⟩, (Nat.le_of_ble_eq_true rfl), (Nat.le_of_ble_eq_true rfl), (Nat.le_of_ble_eq_true rfl)⟩ (fun v29 s29 h29 => ?_) (fun _ _ _ h => h.elim)
        obtain ⟨rfl, e29⟩ := h29
        first | refine ri_iincN C dX4_again_32 rfl rfl (by decide) ?_ | refine ri_iinc C dX4_again_32 rfl rfl rfl (by decide) ?_
        refine ri_goto C 9 dX4_again_35 rfl ?_
        refine ri_lv2 (ih (i + 1) _ (by omega) (by omega) ?_) ⟨rfl, rfl, rfl, trivial⟩
        rw [mx_rw, qv, e29, hI, kx_up_u]
  first | refine ri_aload_n C dX4_again_0 rfl ?_ | refine ri_aload_nQ C dX4_again_0 rfl ?_ | refine ri_aload_nN C dX4_again_0 rfl ?_
  refine ri_getf C dX4_again_1 fr_q2970_3 (by first | assumption | (repeat (first | assumption | exact kx_rs (by assumption) | exact kx_ne2 (by omega) | exact kx_ne1 (by omega) | refine kx_ro (by assumption) ?_ ?_ | exact kx_rs rfl | refine kx_ro rfl ?_ ?_))) (by rfl) ?_
  refine ri_iconst C dX4_again_4 kc_i2 ?_
  first | refine ri_ialoadN C dX4_again_5 (by first | assumption | (repeat (first | assumption | exact kx_rs (by assumption) | exact kx_ne2 (by omega) | exact kx_ne1 (by omega) | refine kx_ro (by assumption) ?_ ?_ | exact kx_rs rfl | refine kx_ro rfl ?_ ?_))) rfl (by omega) ?_ | refine ri_iaload C dX4_again_5 (by first | assumption | (repeat (first | assumption | exact kx_rs (by assumption) | exact kx_ne2 (by omega) | exact kx_ne1 (by omega) | refine kx_ro (by assumption) ?_ ?_ | exact kx_rs rfl | refine kx_ro rfl ?_ ?_))) rfl (by omega) ?_
  refine ri_istore_n C dX4_again_6 rfl (by decide) ?_
  refine ri_iconst C dX4_again_7 kc_i0 ?_
  refine ri_istore_n C dX4_again_8 rfl (by decide) ?_
  refine ri_lv2 (LP (u 0 + 1) 0 _ (by omega) (by omega) ?_) ⟨rfl, rfl, rfl, trivial⟩
  rw [mx_rw]; exact (kx_up_i hw).symm
