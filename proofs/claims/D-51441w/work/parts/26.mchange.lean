/-! the reference: changes -/
set_option maxRecDepth 100000
theorem mo_e2 {σ ρ τ : kx_H} {mo : Nat} {ad : Nat → Nat} {z : Nat → Int32} {k : Nat} {a b : Int32} (h : τ = kx_up ρ (1, 0) (mo, .inr (3, mo_L ad (mo_z (mo_z z k a) k b)))) (g : ρ = kx_up σ (1, 0) (mo, .inr (3, mo_L ad (mo_z z k a)))) : τ = kx_up σ (1, 0) (mo, .inr (3, mo_L ad (mo_z z k b))) := by rw [h, g, kx_up_u, mo_z_z]
def mo_rem (G : kx_G) (σ : kx_H) (mo : Nat) (ad : Nat → Nat) (z : Nat → Int32) (u : Nat → Nat) (P : Nat → Int32) (pm : Nat) (ρ : kx_H) : Prop :=
  ∃ P', ρ = kx_up (kx_up σ (1, 5) (ad 4, kx_ai G 11336 P')) (1, 0) (mo, .inr (3, mo_L ad (mo_z z 7 (nI (mo_pn pm))))) ∧ mx_r P' (1417 * (mo_pn pm - 1)) u ∧ ∀ k j, k + 1 < mo_pn pm → j < 1417 → P' (1417 * k + j) = P (1417 * (k + (if pm = 8 then 1 else 0)) + j)
def mx_i1 (x : Int32) : Bool := decide (1 ≤ x.toInt ∧ x.toInt ≤ 999)
theorem mx_i1_t {x : Int32} (h : mx_i1 x = true) : ∃ k, 1 ≤ k ∧ k ≤ 999 ∧ x = nI k := by
  unfold mx_i1 at h
  rw [decide_eq_true_eq] at h
  refine ⟨x.toInt.toNat, by omega, by omega, ?_⟩
  apply Int32.toInt_inj.mp
  rw [nI_toInt (by omega)]
  omega
theorem mx_i1_0 {x : Int32} : decide (nI 1 ≤ x ∧ x ≤ nI 999) = mx_i1 x := by
  unfold mx_i1
  refine decide_eq_decide.mpr ?_
  rw [Int32.le_iff_toInt_le, Int32.le_iff_toInt_le, nI_toInt (by omega), nI_toInt (by omega)]
  omega
def an_day (u : Nat → Nat) (x y : Int32) : Nat × Int32 := an_c (mx_ix x 16) 1 (an_c (mx_ix y 5) 2 (an_c (decide (u 2 < 720)) 3 (0, mx_o (mx_told u (mx_n x) (mx_mon u)))))
def an_new (u : Nat → Nat) (a b c d e f : Int32) : Nat × Int32 := an_c (mx_ix a 16 && mx_ix c 12) 1 (an_c (mx_ix b 16 && mx_ix d 12) 1 (an_c (mx_ix e 5) 2 (an_c (mx_i1 f) 2 (an_c (decide (u 0 < 24) && !mx_any (mx_like u (mx_n a) (mx_n b) (mx_n c) (mx_n d) (mx_n e)) (u 0)) 3 (0, nI (u 0))))))
def mx_new (u : Nat → Nat) (a b c d e f : Nat) : Nat → Nat := mx_adds (mx_cn u 6 1) a b c d e f
def mx_fg (u : Nat → Nat) (k : Nat) : Nat → Nat := mx_cn (mx_pp u k 9 1) 7 1
def an_forget (u : Nat → Nat) (q : Int32) : Nat × Int32 := an_c (mx_ix q (u 0)) 1 (an_c (mx_live u (mx_n q)) 2 (0, nI (mx_lm (mx_fg u (mx_n q)))))
def an_weigh (u : Nat → Nat) (q x : Int32) : Nat × Int32 := an_c (mx_ix q (u 0)) 1 (an_c (mx_i1 x) 2 (0, nI (mx_p u (mx_n q) 6)))
def mx_i5 (x : Int32) : Bool := decide (5 ≤ x.toInt ∧ x.toInt ≤ 7)
def mx_mst (k : Nat) : Nat := if k = 5 then 2 else 50
theorem mx_i5_t {x : Int32} (h : mx_i5 x = true) : ∃ k, 5 ≤ k ∧ k ≤ 7 ∧ x = nI k := by
  unfold mx_i5 at h
  rw [decide_eq_true_eq] at h
  refine ⟨x.toInt.toNat, by omega, by omega, ?_⟩
  apply Int32.toInt_inj.mp
  rw [nI_toInt (by omega)]
  omega
theorem mx_i5_0 {x : Int32} : decide (nI 5 ≤ x ∧ x ≤ nI 7) = mx_i5 x := by
  unfold mx_i5
  refine decide_eq_decide.mpr ?_
  rw [Int32.le_iff_toInt_le, Int32.le_iff_toInt_le, nI_toInt (by omega), nI_toInt (by omega)]
  omega
def an_set (u : Nat → Nat) (x y : Int32) : Nat × Int32 := an_c (mx_i5 x) 1 (an_c (mx_ix y (mx_mst (mx_n x) + 1)) 1 (0, nI (u (mx_n x))))
theorem mx_es_cn {u : Nat → Nat} {a n : Nat} (ha : a < 9) : mx_es u (mx_cn u a n) := ⟨mx_cn_i (by omega), fun k j _ _ => mx_cn_i (by omega)⟩
theorem mx_eq_cn {u : Nat → Nat} {a n : Nat} (ha : a < 9) : mx_eq u (mx_cn u a n) := ⟨mx_cn_i (by omega), mx_cn_i (by omega), mx_cn_i (by omega), mx_cn_i (by omega), fun i _ _ => mx_cn_i (by omega)⟩
set_option maxHeartbeats 1000000 in
theorem mt_X4_day {l : Launch} {G : kx_G} (htr : l.stackTraces = false) {σ : kx_H} {mo : Nat} {ad : Nat → Nat} {z : Nat → Int32} {u : Nat → Nat} {x y : Int32} (h0 : σ (1, 0) = some (mo, .inr (3, mo_L ad z))) (hw : σ (1, 1) = some (ad 0, kx_ai G 1417 (mx_w u))) {L : Nat → Int32} (hl : σ (1, 6) = some (ad 5, kx_ai G 2160 L)) {P : Nat → Int32} {pm : Nat} (hp : σ (1, 5) = some (ad 4, kx_ai G 11336 P)) (hz : z 7 = nI pm) (hpm : pm ≤ 8) (hu : mx_ok u) {B : Nat} (hB : mx_le B u) (hb : B < 900000000) (hd : u 2 ≤ 720) : kx_SP l G yX4_day (ws_ yX4_day cX4_day 3 (some .int)) 11 0 0 [.ref mo, .int x, .int y] σ (fun v τ => v = some (.int (an_day u x y).2) ∧ ((an_day u x y).1 = 0 → ∃ ρ, mo_rem G (kx_up σ (1, 0) (mo, .inr (3, mo_L ad (mo_z z 9 (nI 0))))) mo ad (mo_z z 9 (nI 0)) u P pm ρ ∧ τ = kx_up (kx_up ρ (1, 1) (ad 0, kx_ai G 1417 (mx_w (mx_day u (mx_n x) (mx_n y))))) (1, 6) (ad 5, kx_ai G 2160 (upd (upd (upd L (3 * u 2) x) (3 * u 2 + 1) y) (3 * u 2 + 2) (mx_o (mx_told u (mx_n x) (mx_mon u)))))) ∧ ((an_day u x y).1 ≠ 0 → τ = kx_up σ (1, 0) (mo, .inr (3, mo_L ad (mo_z z 9 (nI (an_day u x y).1)))))) kx_nx := by
  refine kx_body htr (by decide +kernel) (own := "RoseProverbsModel") (nm := "day") rfl rfl (Nat.le_of_ble_eq_true rfl) ?_
  intro p e s m args below meth c Q C hQ
  first | refine ri_aload_n C dX4_day_0 rfl ?_ | refine ri_aload_nQ C dX4_day_0 rfl ?_ | refine ri_aload_nN C dX4_day_0 rfl ?_
  refine ri_iconst C dX4_day_1 kc_i0 ?_
  refine ri_putf C dX4_day_2 fd_q2979_3 (fun h => nomatch h) (by first | assumption | (repeat (first | assumption | exact kx_rs (by assumption) | exact kx_ne2 (by omega) | exact kx_ne1 (by omega) | refine kx_ro (by assumption) ?_ ?_ | exact kx_rs rfl | refine kx_ro rfl ?_ ?_))) (Nat.le_of_ble_eq_true rfl) (by rfl) (by rfl) mo_set9 (fun s2 e2 => ?_)
  first | refine ri_aload_n C dX4_day_5 rfl ?_ | refine ri_aload_nQ C dX4_day_5 rfl ?_ | refine ri_aload_nN C dX4_day_5 rfl ?_
  refine ri_iload_n C dX4_day_6 rfl ?_
  refine ri_callV C km_X4_noPoint q3354 qs115 dX4_day_7 (mt_X4_noPoint htr (by first | assumption | (repeat (first | assumption | exact kx_rs (by assumption) | exact kx_ne2 (by omega) | exact kx_ne1 (by omega) | refine kx_ro (by assumption) ?_ ?_ | exact kx_rs rfl | refine kx_ro rfl ?_ ?_)))) rfl rfl (kx_rcN C (by first | assumption | (repeat (first | assumption | exact kx_rs (by assumption) | exact kx_ne2 (by omega) | exact kx_ne1 (by omega) | refine kx_ro (by assumption) ?_ ?_ | exact kx_rs rfl | refine kx_ro rfl ?_ ?_))) rfl) ⟨⟨(Nat.le_of_ble_eq_true rfl), (Nat.le_of_ble_eq_true rfl)⟩, (Nat.le_of_ble_eq_true rfl), (Nat.le_of_ble_eq_true rfl), (Nat.le_of_ble_eq_true rfl)⟩ (fun v7 s7 h7 => ?_) (fun _ _ _ h => h.elim)
  obtain ⟨rfl, e7⟩ := h7
  first | refine ri_if_neB C 46 dX4_day_10 rfl (fun h10 => ?_) (fun h10 => ?_) | refine ri_if_neN C 46 dX4_day_10 rfl (by omega) (fun h10 => ?_) (fun h10 => ?_) | refine ri_if_ne C 46 dX4_day_10 rfl (fun h10 => ?_) (fun h10 => ?_)
  · have c1 : mx_ix x 16 = false := kx_bn_t h10
    rw [c1, cond_false] at e7
    refine ri_iconst C dX4_day_46 kc_i0 ?_
    exact ri_iret C hQ dX4_day_47 rfl (Nat.le_of_ble_eq_true rfl) (Nat.le_of_ble_eq_true rfl) (by first | (refine ⟨by simp only [an_day, an_c, c1, c2, Bool.and_true, Bool.and_false, Bool.true_and, Bool.false_and, Bool.not_true, Bool.not_false, cond_true, cond_false] <;> rfl, fun h => ?_, fun _ => ?_⟩; (simp only [an_day, an_c, c1, c2, Bool.and_true, Bool.and_false, Bool.true_and, Bool.false_and, Bool.not_true, Bool.not_false, cond_true, cond_false] at h; exact absurd h (by decide)); (simp only [an_day, an_c, c1, c2, Bool.and_true, Bool.and_false, Bool.true_and, Bool.false_and, Bool.not_true, Bool.not_false, cond_true, cond_false]; first | assumption | exact mo_e2 (by assumption) (by assumption))) | (refine ⟨by simp only [an_day, an_c, c1, Bool.and_true, Bool.and_false, Bool.true_and, Bool.false_and, Bool.not_true, Bool.not_false, cond_true, cond_false] <;> rfl, fun h => ?_, fun _ => ?_⟩; (simp only [an_day, an_c, c1, Bool.and_true, Bool.and_false, Bool.true_and, Bool.false_and, Bool.not_true, Bool.not_false, cond_true, cond_false] at h; exact absurd h (by decide)); (simp only [an_day, an_c, c1, Bool.and_true, Bool.and_false, Bool.true_and, Bool.false_and, Bool.not_true, Bool.not_false, cond_true, cond_false]; first | assumption | exact mo_e2 (by assumption) (by assumption))))
  · have c1 : mx_ix x 16 = true := kx_bn_f h10
    rw [c1, cond_true] at e7
    subst e7
    obtain ⟨k1, hk1, rfl⟩ := mx_ix_t c1
    have nk1 : mx_n (nI k1) = k1 := mx_n_nI (by omega)
    first | refine ri_aload_n C dX4_day_13 rfl ?_ | refine ri_aload_nQ C dX4_day_13 rfl ?_ | refine ri_aload_nN C dX4_day_13 rfl ?_
    refine ri_iload_n C dX4_day_14 rfl ?_
    refine ri_callV C km_X4_noWeather q3370 qs116 dX4_day_15 (mt_X4_noWeather htr (by first | assumption | (repeat (first | assumption | exact kx_rs (by assumption) | exact kx_ne2 (by omega) | exact kx_ne1 (by omega) | refine kx_ro (by assumption) ?_ ?_ | exact kx_rs rfl | refine kx_ro rfl ?_ ?_)))) rfl rfl (kx_rcN C (by first | assumption | (repeat (first | assumption | exact kx_rs (by assumption) | exact kx_ne2 (by omega) | exact kx_ne1 (by omega) | refine kx_ro (by assumption) ?_ ?_ | exact kx_rs rfl | refine kx_ro rfl ?_ ?_))) rfl) ⟨⟨(Nat.le_of_ble_eq_true rfl), (Nat.le_of_ble_eq_true rfl)⟩, (Nat.le_of_ble_eq_true rfl), (Nat.le_of_ble_eq_true rfl), (Nat.le_of_ble_eq_true rfl)⟩ (fun v15 s15 h15 => ?_) (fun _ _ _ h => h.elim)
    obtain ⟨rfl, e15⟩ := h15
    first | refine ri_if_neB C 46 dX4_day_18 rfl (fun h18 => ?_) (fun h18 => ?_) | refine ri_if_neN C 46 dX4_day_18 rfl (by omega) (fun h18 => ?_) (fun h18 => ?_) | refine ri_if_ne C 46 dX4_day_18 rfl (fun h18 => ?_) (fun h18 => ?_)
    · have c2 : mx_ix y 5 = false := kx_bn_t h18
      rw [c2, cond_false] at e15
      refine ri_iconst C dX4_day_46 kc_i0 ?_
      exact ri_iret C hQ dX4_day_47 rfl (Nat.le_of_ble_eq_true rfl) (Nat.le_of_ble_eq_true rfl) (by first | (refine ⟨by simp only [an_day, an_c, c1, c2, Bool.and_true, Bool.and_false, Bool.true_and, Bool.false_and, Bool.not_true, Bool.not_false, cond_true, cond_false] <;> rfl, fun h => ?_, fun _ => ?_⟩; (simp only [an_day, an_c, c1, c2, Bool.and_true, Bool.and_false, Bool.true_and, Bool.false_and, Bool.not_true, Bool.not_false, cond_true, cond_false] at h; exact absurd h (by decide)); (simp only [an_day, an_c, c1, c2, Bool.and_true, Bool.and_false, Bool.true_and, Bool.false_and, Bool.not_true, Bool.not_false, cond_true, cond_false]; first | assumption | exact mo_e2 (by assumption) (by assumption))) | (refine ⟨by simp only [an_day, an_c, c1, Bool.and_true, Bool.and_false, Bool.true_and, Bool.false_and, Bool.not_true, Bool.not_false, cond_true, cond_false] <;> rfl, fun h => ?_, fun _ => ?_⟩; (simp only [an_day, an_c, c1, Bool.and_true, Bool.and_false, Bool.true_and, Bool.false_and, Bool.not_true, Bool.not_false, cond_true, cond_false] at h; exact absurd h (by decide)); (simp only [an_day, an_c, c1, Bool.and_true, Bool.and_false, Bool.true_and, Bool.false_and, Bool.not_true, Bool.not_false, cond_true, cond_false]; first | assumption | exact mo_e2 (by assumption) (by assumption))))
    · have c2 : mx_ix y 5 = true := kx_bn_f h18
      rw [c2, cond_true] at e15
      subst e15
      obtain ⟨k2, hk2, rfl⟩ := mx_ix_t c2
      have nk2 : mx_n (nI k2) = k2 := mx_n_nI (by omega)
      cases c3 : decide (u 2 < 720)
      · have c4 := of_decide_eq_false c3
        first | refine ri_aload_n C dX4_day_21 rfl ?_ | refine ri_aload_nQ C dX4_day_21 rfl ?_ | refine ri_aload_nN C dX4_day_21 rfl ?_
        first | refine ri_aload_n C dX4_day_22 rfl ?_ | refine ri_aload_nQ C dX4_day_22 rfl ?_ | refine ri_aload_nN C dX4_day_22 rfl ?_
        refine ri_getf C dX4_day_23 fr_q2970_3 (by first | assumption | (repeat (first | assumption | exact kx_rs (by assumption) | exact kx_ne2 (by omega) | exact kx_ne1 (by omega) | refine kx_ro (by assumption) ?_ ?_ | exact kx_rs rfl | refine kx_ro rfl ?_ ?_))) (by rfl) ?_
        refine ri_iconst C dX4_day_26 kc_i2 ?_
        first | refine ri_ialoadN C dX4_day_27 (by first | assumption | (repeat (first | assumption | exact kx_rs (by assumption) | exact kx_ne2 (by omega) | exact kx_ne1 (by omega) | refine kx_ro (by assumption) ?_ ?_ | exact kx_rs rfl | refine kx_ro rfl ?_ ?_))) rfl (by omega) ?_ | refine ri_iaload C dX4_day_27 (by first | assumption | (repeat (first | assumption | exact kx_rs (by assumption) | exact kx_ne2 (by omega) | exact kx_ne1 (by omega) | refine kx_ro (by assumption) ?_ ?_ | exact kx_rs rfl | refine kx_ro rfl ?_ ?_))) rfl (by omega) ?_
        refine ri_sipush C dX4_day_28 kc_s720 ?_
        first | refine ri_icmp_neN C 38 dX4_day_31 rfl (by omega) (by omega) (fun h31 => ?_) (fun h31 => ?_) | refine ri_icmp_ne C 38 dX4_day_31 rfl (fun h31 => ?_) (fun h31 => ?_)
        · exact absurd (show u 2 = 720 by omega) h31 --dead
        · refine ri_iconst C dX4_day_34 kc_i1 ?_
          refine ri_goto C 39 dX4_day_35 rfl ?_
          refine ri_iconst C dX4_day_39 kc_i3 ?_
          refine ri_callV C km_X4_fails q3303 qs106 dX4_day_40 (mt_X4_fails htr (b := true) (by first | assumption | (repeat (first | assumption | exact kx_rs (by assumption) | exact kx_ne2 (by omega) | exact kx_ne1 (by omega) | refine kx_ro (by assumption) ?_ ?_ | exact kx_rs rfl | refine kx_ro rfl ?_ ?_)))) rfl rfl (kx_rcN C (by first | assumption | (repeat (first | assumption | exact kx_rs (by assumption) | exact kx_ne2 (by omega) | exact kx_ne1 (by omega) | refine kx_ro (by assumption) ?_ ?_ | exact kx_rs rfl | refine kx_ro rfl ?_ ?_))) rfl) ⟨⟨(Nat.le_of_ble_eq_true rfl), (Nat.le_of_ble_eq_true rfl)⟩, (Nat.le_of_ble_eq_true rfl), (Nat.le_of_ble_eq_true rfl), (Nat.le_of_ble_eq_true rfl)⟩ (fun v40 s40 h40 => ?_) (fun _ _ _ h => h.elim)
          obtain ⟨rfl, e40⟩ := h40
          rw [cond_true] at e40
          first | refine ri_if_eqB C 48 dX4_day_43 rfl (fun h43 => ?_) (fun h43 => ?_) | refine ri_if_eqN C 48 dX4_day_43 rfl (by omega) (fun h43 => ?_) (fun h43 => ?_) | refine ri_if_eq C 48 dX4_day_43 rfl (fun h43 => ?_) (fun h43 => ?_)
          · exact absurd h43 (by decide) --dead
          · refine ri_iconst C dX4_day_46 kc_i0 ?_
            exact ri_iret C hQ dX4_day_47 rfl (Nat.le_of_ble_eq_true rfl) (Nat.le_of_ble_eq_true rfl) (by (refine ⟨by simp only [an_day, an_c, c1, c2, c3, Bool.and_true, Bool.and_false, Bool.true_and, Bool.false_and, Bool.not_true, Bool.not_false, cond_true, cond_false] <;> rfl, fun h => ?_, fun _ => ?_⟩; (simp only [an_day, an_c, c1, c2, c3, Bool.and_true, Bool.and_false, Bool.true_and, Bool.false_and, Bool.not_true, Bool.not_false, cond_true, cond_false] at h; exact absurd h (by decide)); (simp only [an_day, an_c, c1, c2, c3, Bool.and_true, Bool.and_false, Bool.true_and, Bool.false_and, Bool.not_true, Bool.not_false, cond_true, cond_false]; first | assumption | exact mo_e2 (by assumption) (by assumption))))
      · have c4 := of_decide_eq_true c3
        first | refine ri_aload_n C dX4_day_21 rfl ?_ | refine ri_aload_nQ C dX4_day_21 rfl ?_ | refine ri_aload_nN C dX4_day_21 rfl ?_
        first | refine ri_aload_n C dX4_day_22 rfl ?_ | refine ri_aload_nQ C dX4_day_22 rfl ?_ | refine ri_aload_nN C dX4_day_22 rfl ?_
        refine ri_getf C dX4_day_23 fr_q2970_3 (by first | assumption | (repeat (first | assumption | exact kx_rs (by assumption) | exact kx_ne2 (by omega) | exact kx_ne1 (by omega) | refine kx_ro (by assumption) ?_ ?_ | exact kx_rs rfl | refine kx_ro rfl ?_ ?_))) (by rfl) ?_
        refine ri_iconst C dX4_day_26 kc_i2 ?_
        first | refine ri_ialoadN C dX4_day_27 (by first | assumption | (repeat (first | assumption | exact kx_rs (by assumption) | exact kx_ne2 (by omega) | exact kx_ne1 (by omega) | refine kx_ro (by assumption) ?_ ?_ | exact kx_rs rfl | refine kx_ro rfl ?_ ?_))) rfl (by omega) ?_ | refine ri_iaload C dX4_day_27 (by first | assumption | (repeat (first | assumption | exact kx_rs (by assumption) | exact kx_ne2 (by omega) | exact kx_ne1 (by omega) | refine kx_ro (by assumption) ?_ ?_ | exact kx_rs rfl | refine kx_ro rfl ?_ ?_))) rfl (by omega) ?_
        refine ri_sipush C dX4_day_28 kc_s720 ?_
        first | refine ri_icmp_neN C 38 dX4_day_31 rfl (by omega) (by omega) (fun h31 => ?_) (fun h31 => ?_) | refine ri_icmp_ne C 38 dX4_day_31 rfl (fun h31 => ?_) (fun h31 => ?_)
        · refine ri_iconst C dX4_day_38 kc_i0 ?_
          refine ri_iconst C dX4_day_39 kc_i3 ?_
          refine ri_callV C km_X4_fails q3303 qs106 dX4_day_40 (mt_X4_fails htr (b := false) (by first | assumption | (repeat (first | assumption | exact kx_rs (by assumption) | exact kx_ne2 (by omega) | exact kx_ne1 (by omega) | refine kx_ro (by assumption) ?_ ?_ | exact kx_rs rfl | refine kx_ro rfl ?_ ?_)))) rfl rfl (kx_rcN C (by first | assumption | (repeat (first | assumption | exact kx_rs (by assumption) | exact kx_ne2 (by omega) | exact kx_ne1 (by omega) | refine kx_ro (by assumption) ?_ ?_ | exact kx_rs rfl | refine kx_ro rfl ?_ ?_))) rfl) ⟨⟨(Nat.le_of_ble_eq_true rfl), (Nat.le_of_ble_eq_true rfl)⟩, (Nat.le_of_ble_eq_true rfl), (Nat.le_of_ble_eq_true rfl), (Nat.le_of_ble_eq_true rfl)⟩ (fun v40 s40 h40 => ?_) (fun _ _ _ h => h.elim)
          obtain ⟨rfl, e40⟩ := h40
          rw [cond_false] at e40
          subst e40
          first | refine ri_if_eqB C 48 dX4_day_43 rfl (fun h43 => ?_) (fun h43 => ?_) | refine ri_if_eqN C 48 dX4_day_43 rfl (by omega) (fun h43 => ?_) (fun h43 => ?_) | refine ri_if_eq C 48 dX4_day_43 rfl (fun h43 => ?_) (fun h43 => ?_)
          · first | refine ri_aload_n C dX4_day_48 rfl ?_ | refine ri_aload_nQ C dX4_day_48 rfl ?_ | refine ri_aload_nN C dX4_day_48 rfl ?_
            refine ri_callV C km_X4_remembers q3189 qs84 dX4_day_49 (mt_X4_remembers htr (by first | assumption | (repeat (first | assumption | exact kx_rs (by assumption) | exact kx_ne2 (by omega) | exact kx_ne1 (by omega) | refine kx_ro (by assumption) ?_ ?_ | exact kx_rs rfl | refine kx_ro rfl ?_ ?_))) (by first | assumption | (repeat (first | assumption | exact kx_rs (by assumption) | exact kx_ne2 (by omega) | exact kx_ne1 (by omega) | refine kx_ro (by assumption) ?_ ?_ | exact kx_rs rfl | refine kx_ro rfl ?_ ?_))) (by first | assumption | (repeat (first | assumption | exact kx_rs (by assumption) | exact kx_ne2 (by omega) | exact kx_ne1 (by omega) | refine kx_ro (by assumption) ?_ ?_ | exact kx_rs rfl | refine kx_ro rfl ?_ ?_))) (z := mo_z z 9 (nI 0)) (pm := pm) hz hpm) rfl rfl (kx_rcN C (by first | assumption | (repeat (first | assumption | exact kx_rs (by assumption) | exact kx_ne2 (by omega) | exact kx_ne1 (by omega) | refine kx_ro (by assumption) ?_ ?_ | exact kx_rs rfl | refine kx_ro rfl ?_ ?_))) rfl) ⟨⟨(Nat.le_of_ble_eq_true rfl), (Nat.le_of_ble_eq_true rfl)⟩, (Nat.le_of_ble_eq_true rfl), (Nat.le_of_ble_eq_true rfl), (Nat.le_of_ble_eq_true rfl)⟩ (fun v49 s49 h49 => ?_) (fun _ _ _ h => h.elim)
            obtain ⟨rfl, P1, eR, r1, r2⟩ := h49
            first | refine ri_aload_n C dX4_day_52 rfl ?_ | refine ri_aload_nQ C dX4_day_52 rfl ?_ | refine ri_aload_nN C dX4_day_52 rfl ?_
            refine ri_iload_n C dX4_day_53 rfl ?_
            refine ri_iload_n C dX4_day_54 rfl ?_
            refine ri_callV C km_X4_passesNow q3197 qs86 dX4_day_55 (mt_X4_passesNow htr (by first | assumption | (repeat (first | assumption | exact kx_rs (by assumption) | exact kx_ne2 (by omega) | exact kx_ne1 (by omega) | refine kx_ro (by assumption) ?_ ?_ | exact kx_rs rfl | refine kx_ro rfl ?_ ?_))) (by first | assumption | (repeat (first | assumption | exact kx_rs (by assumption) | exact kx_ne2 (by omega) | exact kx_ne1 (by omega) | refine kx_ro (by assumption) ?_ ?_ | exact kx_rs rfl | refine kx_ro rfl ?_ ?_))) (by first | assumption | (repeat (first | assumption | exact kx_rs (by assumption) | exact kx_ne2 (by omega) | exact kx_ne1 (by omega) | refine kx_ro (by assumption) ?_ ?_ | exact kx_rs rfl | refine kx_ro rfl ?_ ?_))) hu hk1 hk2 hB hb (by omega)) rfl rfl (kx_rcN C (by first | assumption | (repeat (first | assumption | exact kx_rs (by assumption) | exact kx_ne2 (by omega) | exact kx_ne1 (by omega) | refine kx_ro (by assumption) ?_ ?_ | exact kx_rs rfl | refine kx_ro rfl ?_ ?_))) rfl) ⟨⟨(Nat.le_of_ble_eq_true rfl), (Nat.le_of_ble_eq_true rfl)⟩, (Nat.le_of_ble_eq_true rfl), (Nat.le_of_ble_eq_true rfl), (Nat.le_of_ble_eq_true rfl)⟩ (fun v55 s55 h55 => ?_) (fun _ _ _ h => h.elim)
            obtain ⟨rfl, e55⟩ := h55
            exact ri_iret C hQ dX4_day_58 rfl (Nat.le_of_ble_eq_true rfl) (Nat.le_of_ble_eq_true rfl) (by refine ⟨by simp only [an_day, an_c, c1, c2, c3, nk1, nk2, Bool.and_true, Bool.and_false, Bool.true_and, Bool.false_and, Bool.not_true, Bool.not_false, cond_true, cond_false] <;> rfl, fun _ => ⟨_, ⟨P1, eR.trans (by rw [e2]), r1, r2⟩, by simp only [nk1, nk2]; exact e55⟩, fun h => ?_⟩; simp only [an_day, an_c, c1, c2, c3, nk1, nk2, Bool.and_true, Bool.and_false, Bool.true_and, Bool.false_and, Bool.not_true, Bool.not_false, cond_true, cond_false] at h; exact absurd rfl h)
          · exact absurd h43 (by decide) --dead
        · exact absurd h31 (by omega) --dead
set_option maxHeartbeats 1000000 in
theorem mt_X4_weigh {l : Launch} {G : kx_G} (htr : l.stackTraces = false) {σ : kx_H} {mo : Nat} {ad : Nat → Nat} {z : Nat → Int32} {u : Nat → Nat} {q x : Int32} (h0 : σ (1, 0) = some (mo, .inr (3, mo_L ad z))) (hw : σ (1, 1) = some (ad 0, kx_ai G 1417 (mx_w u))) {P : Nat → Int32} {pm : Nat} (hp : σ (1, 5) = some (ad 4, kx_ai G 11336 P)) (hz : z 7 = nI pm) (hpm : pm ≤ 8) (gn : u 0 ≤ 24) : kx_SP l G yX4_weigh (ws_ yX4_weigh cX4_weigh 3 (some .int)) 5 0 0 [.ref mo, .int q, .int x] σ (fun v τ => v = some (.int (an_weigh u q x).2) ∧ ((an_weigh u q x).1 = 0 → ∃ ρ, mo_rem G (kx_up σ (1, 0) (mo, .inr (3, mo_L ad (mo_z z 9 (nI 0))))) mo ad (mo_z z 9 (nI 0)) u P pm ρ ∧ τ = kx_up ρ (1, 1) (ad 0, kx_ai G 1417 (mx_w (mx_pp u (mx_n q) 6 (mx_n x))))) ∧ ((an_weigh u q x).1 ≠ 0 → τ = kx_up σ (1, 0) (mo, .inr (3, mo_L ad (mo_z z 9 (nI (an_weigh u q x).1)))))) kx_nx := by
  refine kx_body htr (by decide +kernel) (own := "RoseProverbsModel") (nm := "weigh") rfl rfl (Nat.le_of_ble_eq_true rfl) ?_
  intro p e s m args below meth c Q C hQ
  first | refine ri_aload_n C dX4_weigh_0 rfl ?_ | refine ri_aload_nQ C dX4_weigh_0 rfl ?_ | refine ri_aload_nN C dX4_weigh_0 rfl ?_
  refine ri_iconst C dX4_weigh_1 kc_i0 ?_
  refine ri_putf C dX4_weigh_2 fd_q2979_3 (fun h => nomatch h) (by first | assumption | (repeat (first | assumption | exact kx_rs (by assumption) | exact kx_ne2 (by omega) | exact kx_ne1 (by omega) | refine kx_ro (by assumption) ?_ ?_ | exact kx_rs rfl | refine kx_ro rfl ?_ ?_))) (Nat.le_of_ble_eq_true rfl) (by rfl) (by rfl) mo_set9 (fun s2 e2 => ?_)
  first | refine ri_aload_n C dX4_weigh_5 rfl ?_ | refine ri_aload_nQ C dX4_weigh_5 rfl ?_ | refine ri_aload_nN C dX4_weigh_5 rfl ?_
  refine ri_iload_n C dX4_weigh_6 rfl ?_
  refine ri_callV C km_X4_noProverb q3342 qs113 dX4_weigh_7 (mt_X4_noProverb htr (by first | assumption | (repeat (first | assumption | exact kx_rs (by assumption) | exact kx_ne2 (by omega) | exact kx_ne1 (by omega) | refine kx_ro (by assumption) ?_ ?_ | exact kx_rs rfl | refine kx_ro rfl ?_ ?_))) (by first | assumption | (repeat (first | assumption | exact kx_rs (by assumption) | exact kx_ne2 (by omega) | exact kx_ne1 (by omega) | refine kx_ro (by assumption) ?_ ?_ | exact kx_rs rfl | refine kx_ro rfl ?_ ?_))) (by omega)) rfl rfl (kx_rcN C (by first | assumption | (repeat (first | assumption | exact kx_rs (by assumption) | exact kx_ne2 (by omega) | exact kx_ne1 (by omega) | refine kx_ro (by assumption) ?_ ?_ | exact kx_rs rfl | refine kx_ro rfl ?_ ?_))) rfl) ⟨⟨(Nat.le_of_ble_eq_true rfl), (Nat.le_of_ble_eq_true rfl)⟩, (Nat.le_of_ble_eq_true rfl), (Nat.le_of_ble_eq_true rfl), (Nat.le_of_ble_eq_true rfl)⟩ (fun v7 s7 h7 => ?_) (fun _ _ _ h => h.elim)
  obtain ⟨rfl, e7⟩ := h7
  first | refine ri_if_neB C 37 dX4_weigh_10 rfl (fun h10 => ?_) (fun h10 => ?_) | refine ri_if_neN C 37 dX4_weigh_10 rfl (by omega) (fun h10 => ?_) (fun h10 => ?_) | refine ri_if_ne C 37 dX4_weigh_10 rfl (fun h10 => ?_) (fun h10 => ?_)
  · have c1 : mx_ix q (u 0) = false := kx_bn_t h10
    rw [c1, cond_false] at e7
    refine ri_iconst C dX4_weigh_37 kc_i0 ?_
    exact ri_iret C hQ dX4_weigh_38 rfl (Nat.le_of_ble_eq_true rfl) (Nat.le_of_ble_eq_true rfl) (by (refine ⟨by simp only [an_weigh, an_c, c1, Bool.and_true, Bool.and_false, Bool.true_and, Bool.false_and, Bool.not_true, Bool.not_false, cond_true, cond_false] <;> rfl, fun h => ?_, fun _ => ?_⟩; (simp only [an_weigh, an_c, c1, Bool.and_true, Bool.and_false, Bool.true_and, Bool.false_and, Bool.not_true, Bool.not_false, cond_true, cond_false] at h; exact absurd h (by decide)); (simp only [an_weigh, an_c, c1, Bool.and_true, Bool.and_false, Bool.true_and, Bool.false_and, Bool.not_true, Bool.not_false, cond_true, cond_false]; first | assumption | exact mo_e2 (by assumption) (by assumption))))
  · have c1 : mx_ix q (u 0) = true := kx_bn_f h10
    rw [c1, cond_true] at e7
    subst e7
    obtain ⟨k1, hk1, rfl⟩ := mx_ix_t c1
    have nk1 : mx_n (nI k1) = k1 := mx_n_nI (by omega)
    first | refine ri_aload_n C dX4_weigh_13 rfl ?_ | refine ri_aload_nQ C dX4_weigh_13 rfl ?_ | refine ri_aload_nN C dX4_weigh_13 rfl ?_
    refine ri_iload_n C dX4_weigh_14 rfl ?_
    refine ri_iconst C dX4_weigh_15 kc_i1 ?_
    refine ri_sipush C dX4_weigh_16 kc_s999 ?_
    cases c2 : mx_i1 x
    · refine ri_callS C km_X4_inRange q3071 dX4_weigh_19 (mt_X4_inRange htr) rfl rfl ⟨⟨(Nat.le_of_ble_eq_true rfl), (Nat.le_of_ble_eq_true rfl)⟩, (Nat.le_of_ble_eq_true rfl), (Nat.le_of_ble_eq_true rfl), (Nat.le_of_ble_eq_true rfl)⟩ (fun v19 s19 h19 => ?_) (fun _ _ _ h => h.elim)
      obtain ⟨rfl, rfl⟩ := h19
      rw [mx_i1_0, c2]
      first | refine ri_if_neB C 29 dX4_weigh_22 rfl (fun h22 => ?_) (fun h22 => ?_) | refine ri_if_neN C 29 dX4_weigh_22 rfl (by omega) (fun h22 => ?_) (fun h22 => ?_) | refine ri_if_ne C 29 dX4_weigh_22 rfl (fun h22 => ?_) (fun h22 => ?_)
      · exact absurd h22 (by decide) --dead
      · refine ri_iconst C dX4_weigh_25 kc_i1 ?_
        refine ri_goto C 30 dX4_weigh_26 rfl ?_
        refine ri_iconst C dX4_weigh_30 kc_i2 ?_
        refine ri_callV C km_X4_fails q3303 qs106 dX4_weigh_31 (mt_X4_fails htr (b := true) (by first | assumption | (repeat (first | assumption | exact kx_rs (by assumption) | exact kx_ne2 (by omega) | exact kx_ne1 (by omega) | refine kx_ro (by assumption) ?_ ?_ | exact kx_rs rfl | refine kx_ro rfl ?_ ?_)))) rfl rfl (kx_rcN C (by first | assumption | (repeat (first | assumption | exact kx_rs (by assumption) | exact kx_ne2 (by omega) | exact kx_ne1 (by omega) | refine kx_ro (by assumption) ?_ ?_ | exact kx_rs rfl | refine kx_ro rfl ?_ ?_))) rfl) ⟨⟨(Nat.le_of_ble_eq_true rfl), (Nat.le_of_ble_eq_true rfl)⟩, (Nat.le_of_ble_eq_true rfl), (Nat.le_of_ble_eq_true rfl), (Nat.le_of_ble_eq_true rfl)⟩ (fun v31 s31 h31 => ?_) (fun _ _ _ h => h.elim)
        obtain ⟨rfl, e31⟩ := h31
        rw [cond_true] at e31
        first | refine ri_if_eqB C 39 dX4_weigh_34 rfl (fun h34 => ?_) (fun h34 => ?_) | refine ri_if_eqN C 39 dX4_weigh_34 rfl (by omega) (fun h34 => ?_) (fun h34 => ?_) | refine ri_if_eq C 39 dX4_weigh_34 rfl (fun h34 => ?_) (fun h34 => ?_)
        · exact absurd h34 (by decide) --dead
        · refine ri_iconst C dX4_weigh_37 kc_i0 ?_
          exact ri_iret C hQ dX4_weigh_38 rfl (Nat.le_of_ble_eq_true rfl) (Nat.le_of_ble_eq_true rfl) (by (refine ⟨by simp only [an_weigh, an_c, c1, c2, nk1, Bool.and_true, Bool.and_false, Bool.true_and, Bool.false_and, Bool.not_true, Bool.not_false, cond_true, cond_false] <;> rfl, fun h => ?_, fun _ => ?_⟩; (simp only [an_weigh, an_c, c1, c2, nk1, Bool.and_true, Bool.and_false, Bool.true_and, Bool.false_and, Bool.not_true, Bool.not_false, cond_true, cond_false] at h; exact absurd h (by decide)); (simp only [an_weigh, an_c, c1, c2, nk1, Bool.and_true, Bool.and_false, Bool.true_and, Bool.false_and, Bool.not_true, Bool.not_false, cond_true, cond_false]; first | assumption | exact mo_e2 (by assumption) (by assumption))))
    · obtain ⟨k2, h2a, h2b, rfl⟩ := mx_i1_t c2
      have nk2 : mx_n (nI k2) = k2 := mx_n_nI (by omega)
      refine ri_callS C km_X4_inRange q3071 dX4_weigh_19 (mt_X4_inRange htr) rfl rfl ⟨⟨(Nat.le_of_ble_eq_true rfl), (Nat.le_of_ble_eq_true rfl)⟩, (Nat.le_of_ble_eq_true rfl), (Nat.le_of_ble_eq_true rfl), (Nat.le_of_ble_eq_true rfl)⟩ (fun v19 s19 h19 => ?_) (fun _ _ _ h => h.elim)
      obtain ⟨rfl, rfl⟩ := h19
      rw [mx_i1_0, c2]
      first | refine ri_if_neB C 29 dX4_weigh_22 rfl (fun h22 => ?_) (fun h22 => ?_) | refine ri_if_neN C 29 dX4_weigh_22 rfl (by omega) (fun h22 => ?_) (fun h22 => ?_) | refine ri_if_ne C 29 dX4_weigh_22 rfl (fun h22 => ?_) (fun h22 => ?_)
      · refine ri_iconst C dX4_weigh_29 kc_i0 ?_
        refine ri_iconst C dX4_weigh_30 kc_i2 ?_
        refine ri_callV C km_X4_fails q3303 qs106 dX4_weigh_31 (mt_X4_fails htr (b := false) (by first | assumption | (repeat (first | assumption | exact kx_rs (by assumption) | exact kx_ne2 (by omega) | exact kx_ne1 (by omega) | refine kx_ro (by assumption) ?_ ?_ | exact kx_rs rfl | refine kx_ro rfl ?_ ?_)))) rfl rfl (kx_rcN C (by first | assumption | (repeat (first | assumption | exact kx_rs (by assumption) | exact kx_ne2 (by omega) | exact kx_ne1 (by omega) | refine kx_ro (by assumption) ?_ ?_ | exact kx_rs rfl | refine kx_ro rfl ?_ ?_))) rfl) ⟨⟨(Nat.le_of_ble_eq_true rfl), (Nat.le_of_ble_eq_true rfl)⟩, (Nat.le_of_ble_eq_true rfl), (Nat.le_of_ble_eq_true rfl), (Nat.le_of_ble_eq_true rfl)⟩ (fun v31 s31 h31 => ?_) (fun _ _ _ h => h.elim)
        obtain ⟨rfl, e31⟩ := h31
        rw [cond_false] at e31
        subst e31
        first | refine ri_if_eqB C 39 dX4_weigh_34 rfl (fun h34 => ?_) (fun h34 => ?_) | refine ri_if_eqN C 39 dX4_weigh_34 rfl (by omega) (fun h34 => ?_) (fun h34 => ?_) | refine ri_if_eq C 39 dX4_weigh_34 rfl (fun h34 => ?_) (fun h34 => ?_)
        · first | refine ri_aload_n C dX4_weigh_39 rfl ?_ | refine ri_aload_nQ C dX4_weigh_39 rfl ?_ | refine ri_aload_nN C dX4_weigh_39 rfl ?_
          refine ri_callV C km_X4_remembers q3189 qs84 dX4_weigh_40 (mt_X4_remembers htr (by first | assumption | (repeat (first | assumption | exact kx_rs (by assumption) | exact kx_ne2 (by omega) | exact kx_ne1 (by omega) | refine kx_ro (by assumption) ?_ ?_ | exact kx_rs rfl | refine kx_ro rfl ?_ ?_))) (by first | assumption | (repeat (first | assumption | exact kx_rs (by assumption) | exact kx_ne2 (by omega) | exact kx_ne1 (by omega) | refine kx_ro (by assumption) ?_ ?_ | exact kx_rs rfl | refine kx_ro rfl ?_ ?_))) (by first | assumption | (repeat (first | assumption | exact kx_rs (by assumption) | exact kx_ne2 (by omega) | exact kx_ne1 (by omega) | refine kx_ro (by assumption) ?_ ?_ | exact kx_rs rfl | refine kx_ro rfl ?_ ?_))) (z := mo_z z 9 (nI 0)) (pm := pm) hz hpm) rfl rfl (kx_rcN C (by first | assumption | (repeat (first | assumption | exact kx_rs (by assumption) | exact kx_ne2 (by omega) | exact kx_ne1 (by omega) | refine kx_ro (by assumption) ?_ ?_ | exact kx_rs rfl | refine kx_ro rfl ?_ ?_))) rfl) ⟨⟨(Nat.le_of_ble_eq_true rfl), (Nat.le_of_ble_eq_true rfl)⟩, (Nat.le_of_ble_eq_true rfl), (Nat.le_of_ble_eq_true rfl), (Nat.le_of_ble_eq_true rfl)⟩ (fun v40 s40 h40 => ?_) (fun _ _ _ h => h.elim)
          obtain ⟨rfl, P1, eR, r1, r2⟩ := h40
          first | refine ri_aload_n C dX4_weigh_43 rfl ?_ | refine ri_aload_nQ C dX4_weigh_43 rfl ?_ | refine ri_aload_nN C dX4_weigh_43 rfl ?_
          refine ri_iload_n C dX4_weigh_44 rfl ?_
          refine ri_iload_n C dX4_weigh_45 rfl ?_
          refine ri_callV C km_X4_weighs q3283 qs104 dX4_weigh_46 (mt_X4_weighs htr (by first | assumption | (repeat (first | assumption | exact kx_rs (by assumption) | exact kx_ne2 (by omega) | exact kx_ne1 (by omega) | refine kx_ro (by assumption) ?_ ?_ | exact kx_rs rfl | refine kx_ro rfl ?_ ?_))) (by first | assumption | (repeat (first | assumption | exact kx_rs (by assumption) | exact kx_ne2 (by omega) | exact kx_ne1 (by omega) | refine kx_ro (by assumption) ?_ ?_ | exact kx_rs rfl | refine kx_ro rfl ?_ ?_))) (by omega)) rfl rfl (kx_rcN C (by first | assumption | (repeat (first | assumption | exact kx_rs (by assumption) | exact kx_ne2 (by omega) | exact kx_ne1 (by omega) | refine kx_ro (by assumption) ?_ ?_ | exact kx_rs rfl | refine kx_ro rfl ?_ ?_))) rfl) ⟨⟨(Nat.le_of_ble_eq_true rfl), (Nat.le_of_ble_eq_true rfl)⟩, (Nat.le_of_ble_eq_true rfl), (Nat.le_of_ble_eq_true rfl), (Nat.le_of_ble_eq_true rfl)⟩ (fun v46 s46 h46 => ?_) (fun _ _ _ h => h.elim)
          obtain ⟨rfl, e46⟩ := h46
          exact ri_iret C hQ dX4_weigh_49 rfl (Nat.le_of_ble_eq_true rfl) (Nat.le_of_ble_eq_true rfl) (by refine ⟨by simp only [an_weigh, an_c, c1, c2, nk1, nk2, Bool.and_true, Bool.and_false, Bool.true_and, Bool.false_and, Bool.not_true, Bool.not_false, cond_true, cond_false] <;> rfl, fun _ => ⟨_, ⟨P1, eR.trans (by rw [e2]), r1, r2⟩, by simp only [nk1, nk2]; exact e46⟩, fun h => ?_⟩; simp only [an_weigh, an_c, c1, c2, nk1, nk2, Bool.and_true, Bool.and_false, Bool.true_and, Bool.false_and, Bool.not_true, Bool.not_false, cond_true, cond_false] at h; exact absurd rfl h)
        · exact absurd h34 (by decide) --dead
      · exact absurd h22 (by decide) --dead
set_option maxHeartbeats 1000000 in
theorem mt_X4_forget {l : Launch} {G : kx_G} (htr : l.stackTraces = false) {σ : kx_H} {mo : Nat} {ad : Nat → Nat} {z : Nat → Int32} {u : Nat → Nat} {q : Int32} (h0 : σ (1, 0) = some (mo, .inr (3, mo_L ad z))) (hw : σ (1, 1) = some (ad 0, kx_ai G 1417 (mx_w u))) {P : Nat → Int32} {pm : Nat} (hp : σ (1, 5) = some (ad 4, kx_ai G 11336 P)) (hz : z 7 = nI pm) (hpm : pm ≤ 8) (hu : mx_ok u) : kx_SP l G yX4_forget (ws_ yX4_forget cX4_forget 2 (some .int)) 9 0 0 [.ref mo, .int q] σ (fun v τ => v = some (.int (an_forget u q).2) ∧ ((an_forget u q).1 = 0 → ∃ ρ, mo_rem G (kx_up σ (1, 0) (mo, .inr (3, mo_L ad (mo_z z 9 (nI 0))))) mo ad (mo_z z 9 (nI 0)) u P pm ρ ∧ τ = kx_up ρ (1, 1) (ad 0, kx_ai G 1417 (mx_w (mx_fg u (mx_n q))))) ∧ ((an_forget u q).1 ≠ 0 → τ = kx_up σ (1, 0) (mo, .inr (3, mo_L ad (mo_z z 9 (nI (an_forget u q).1)))))) kx_nx := by
  refine kx_body htr (by decide +kernel) (own := "RoseProverbsModel") (nm := "forget") rfl rfl (Nat.le_of_ble_eq_true rfl) ?_
  intro p e s m args below meth c Q C hQ
  have gn := hu.1
  first | refine ri_aload_n C dX4_forget_0 rfl ?_ | refine ri_aload_nQ C dX4_forget_0 rfl ?_ | refine ri_aload_nN C dX4_forget_0 rfl ?_
  refine ri_iconst C dX4_forget_1 kc_i0 ?_
  refine ri_putf C dX4_forget_2 fd_q2979_3 (fun h => nomatch h) (by first | assumption | (repeat (first | assumption | exact kx_rs (by assumption) | exact kx_ne2 (by omega) | exact kx_ne1 (by omega) | refine kx_ro (by assumption) ?_ ?_ | exact kx_rs rfl | refine kx_ro rfl ?_ ?_))) (Nat.le_of_ble_eq_true rfl) (by rfl) (by rfl) mo_set9 (fun s2 e2 => ?_)
  first | refine ri_aload_n C dX4_forget_5 rfl ?_ | refine ri_aload_nQ C dX4_forget_5 rfl ?_ | refine ri_aload_nN C dX4_forget_5 rfl ?_
  refine ri_iload_n C dX4_forget_6 rfl ?_
  refine ri_callV C km_X4_noProverb q3342 qs113 dX4_forget_7 (mt_X4_noProverb htr (by first | assumption | (repeat (first | assumption | exact kx_rs (by assumption) | exact kx_ne2 (by omega) | exact kx_ne1 (by omega) | refine kx_ro (by assumption) ?_ ?_ | exact kx_rs rfl | refine kx_ro rfl ?_ ?_))) (by first | assumption | (repeat (first | assumption | exact kx_rs (by assumption) | exact kx_ne2 (by omega) | exact kx_ne1 (by omega) | refine kx_ro (by assumption) ?_ ?_ | exact kx_rs rfl | refine kx_ro rfl ?_ ?_))) (by omega)) rfl rfl (kx_rcN C (by first | assumption | (repeat (first | assumption | exact kx_rs (by assumption) | exact kx_ne2 (by omega) | exact kx_ne1 (by omega) | refine kx_ro (by assumption) ?_ ?_ | exact kx_rs rfl | refine kx_ro rfl ?_ ?_))) rfl) ⟨⟨(Nat.le_of_ble_eq_true rfl), (Nat.le_of_ble_eq_true rfl)⟩, (Nat.le_of_ble_eq_true rfl), (Nat.le_of_ble_eq_true rfl), (Nat.le_of_ble_eq_true rfl)⟩ (fun v7 s7 h7 => ?_) (fun _ _ _ h => h.elim)
  obtain ⟨rfl, e7⟩ := h7
  first | refine ri_if_neB C 34 dX4_forget_10 rfl (fun h10 => ?_) (fun h10 => ?_) | refine ri_if_neN C 34 dX4_forget_10 rfl (by omega) (fun h10 => ?_) (fun h10 => ?_) | refine ri_if_ne C 34 dX4_forget_10 rfl (fun h10 => ?_) (fun h10 => ?_)
  · have c1 : mx_ix q (u 0) = false := kx_bn_t h10
    rw [c1, cond_false] at e7
    refine ri_iconst C dX4_forget_34 kc_i0 ?_
    exact ri_iret C hQ dX4_forget_35 rfl (Nat.le_of_ble_eq_true rfl) (Nat.le_of_ble_eq_true rfl) (by (refine ⟨by simp only [an_forget, an_c, c1, Bool.and_true, Bool.and_false, Bool.true_and, Bool.false_and, Bool.not_true, Bool.not_false, cond_true, cond_false] <;> rfl, fun h => ?_, fun _ => ?_⟩; (simp only [an_forget, an_c, c1, Bool.and_true, Bool.and_false, Bool.true_and, Bool.false_and, Bool.not_true, Bool.not_false, cond_true, cond_false] at h; exact absurd h (by decide)); (simp only [an_forget, an_c, c1, Bool.and_true, Bool.and_false, Bool.true_and, Bool.false_and, Bool.not_true, Bool.not_false, cond_true, cond_false]; first | assumption | exact mo_e2 (by assumption) (by assumption))))
  · have c1 : mx_ix q (u 0) = true := kx_bn_f h10
    rw [c1, cond_true] at e7
    subst e7
    obtain ⟨k1, hk1, rfl⟩ := mx_ix_t c1
    have nk1 : mx_n (nI k1) = k1 := mx_n_nI (by omega)
    have gk := hu.2.1 k1 hk1
    cases c2 : mx_live u k1
    · first | refine ri_aload_n C dX4_forget_13 rfl ?_ | refine ri_aload_nQ C dX4_forget_13 rfl ?_ | refine ri_aload_nN C dX4_forget_13 rfl ?_
      first | refine ri_aload_n C dX4_forget_14 rfl ?_ | refine ri_aload_nQ C dX4_forget_14 rfl ?_ | refine ri_aload_nN C dX4_forget_14 rfl ?_
      refine ri_iload_n C dX4_forget_15 rfl ?_
      refine ri_callV C km_X4_isLive q3144 qs76 dX4_forget_16 (mt_X4_isLive htr (by first | assumption | (repeat (first | assumption | exact kx_rs (by assumption) | exact kx_ne2 (by omega) | exact kx_ne1 (by omega) | refine kx_ro (by assumption) ?_ ?_ | exact kx_rs rfl | refine kx_ro rfl ?_ ?_))) (by first | assumption | (repeat (first | assumption | exact kx_rs (by assumption) | exact kx_ne2 (by omega) | exact kx_ne1 (by omega) | refine kx_ro (by assumption) ?_ ?_ | exact kx_rs rfl | refine kx_ro rfl ?_ ?_))) (by omega) (by omega)) rfl rfl (kx_rcN C (by first | assumption | (repeat (first | assumption | exact kx_rs (by assumption) | exact kx_ne2 (by omega) | exact kx_ne1 (by omega) | refine kx_ro (by assumption) ?_ ?_ | exact kx_rs rfl | refine kx_ro rfl ?_ ?_))) rfl) ⟨⟨(Nat.le_of_ble_eq_true rfl), (Nat.le_of_ble_eq_true rfl)⟩, (Nat.le_of_ble_eq_true rfl), (Nat.le_of_ble_eq_true rfl), (Nat.le_of_ble_eq_true rfl)⟩ (fun v16 s16 h16 => ?_) (fun _ _ _ h => h.elim)
      obtain ⟨rfl, rfl⟩ := h16
      rw [c2]
      first | refine ri_if_neB C 26 dX4_forget_19 rfl (fun h19 => ?_) (fun h19 => ?_) | refine ri_if_neN C 26 dX4_forget_19 rfl (by omega) (fun h19 => ?_) (fun h19 => ?_) | refine ri_if_ne C 26 dX4_forget_19 rfl (fun h19 => ?_) (fun h19 => ?_)
      · exact absurd h19 (by decide) --dead
      · refine ri_iconst C dX4_forget_22 kc_i1 ?_
        refine ri_goto C 27 dX4_forget_23 rfl ?_
        refine ri_iconst C dX4_forget_27 kc_i2 ?_
        refine ri_callV C km_X4_fails q3303 qs106 dX4_forget_28 (mt_X4_fails htr (b := true) (by first | assumption | (repeat (first | assumption | exact kx_rs (by assumption) | exact kx_ne2 (by omega) | exact kx_ne1 (by omega) | refine kx_ro (by assumption) ?_ ?_ | exact kx_rs rfl | refine kx_ro rfl ?_ ?_)))) rfl rfl (kx_rcN C (by first | assumption | (repeat (first | assumption | exact kx_rs (by assumption) | exact kx_ne2 (by omega) | exact kx_ne1 (by omega) | refine kx_ro (by assumption) ?_ ?_ | exact kx_rs rfl | refine kx_ro rfl ?_ ?_))) rfl) ⟨⟨(Nat.le_of_ble_eq_true rfl), (Nat.le_of_ble_eq_true rfl)⟩, (Nat.le_of_ble_eq_true rfl), (Nat.le_of_ble_eq_true rfl), (Nat.le_of_ble_eq_true rfl)⟩ (fun v28 s28 h28 => ?_) (fun _ _ _ h => h.elim)
        obtain ⟨rfl, e28⟩ := h28
        rw [cond_true] at e28
        first | refine ri_if_eqB C 36 dX4_forget_31 rfl (fun h31 => ?_) (fun h31 => ?_) | refine ri_if_eqN C 36 dX4_forget_31 rfl (by omega) (fun h31 => ?_) (fun h31 => ?_) | refine ri_if_eq C 36 dX4_forget_31 rfl (fun h31 => ?_) (fun h31 => ?_)
        · exact absurd h31 (by decide) --dead
        · refine ri_iconst C dX4_forget_34 kc_i0 ?_
          exact ri_iret C hQ dX4_forget_35 rfl (Nat.le_of_ble_eq_true rfl) (Nat.le_of_ble_eq_true rfl) (by (refine ⟨by simp only [an_forget, an_c, c1, c2, nk1, Bool.and_true, Bool.and_false, Bool.true_and, Bool.false_and, Bool.not_true, Bool.not_false, cond_true, cond_false] <;> rfl, fun h => ?_, fun _ => ?_⟩; (simp only [an_forget, an_c, c1, c2, nk1, Bool.and_true, Bool.and_false, Bool.true_and, Bool.false_and, Bool.not_true, Bool.not_false, cond_true, cond_false] at h; exact absurd h (by decide)); (simp only [an_forget, an_c, c1, c2, nk1, Bool.and_true, Bool.and_false, Bool.true_and, Bool.false_and, Bool.not_true, Bool.not_false, cond_true, cond_false]; first | assumption | exact mo_e2 (by assumption) (by assumption))))
    · first | refine ri_aload_n C dX4_forget_13 rfl ?_ | refine ri_aload_nQ C dX4_forget_13 rfl ?_ | refine ri_aload_nN C dX4_forget_13 rfl ?_
      first | refine ri_aload_n C dX4_forget_14 rfl ?_ | refine ri_aload_nQ C dX4_forget_14 rfl ?_ | refine ri_aload_nN C dX4_forget_14 rfl ?_
      refine ri_iload_n C dX4_forget_15 rfl ?_
      refine ri_callV C km_X4_isLive q3144 qs76 dX4_forget_16 (mt_X4_isLive htr (by first | assumption | (repeat (first | assumption | exact kx_rs (by assumption) | exact kx_ne2 (by omega) | exact kx_ne1 (by omega) | refine kx_ro (by assumption) ?_ ?_ | exact kx_rs rfl | refine kx_ro rfl ?_ ?_))) (by first | assumption | (repeat (first | assumption | exact kx_rs (by assumption) | exact kx_ne2 (by omega) | exact kx_ne1 (by omega) | refine kx_ro (by assumption) ?_ ?_ | exact kx_rs rfl | refine kx_ro rfl ?_ ?_))) (by omega) (by omega)) rfl rfl (kx_rcN C (by first | assumption | (repeat (first | assumption | exact kx_rs (by assumption) | exact kx_ne2 (by omega) | exact kx_ne1 (by omega) | refine kx_ro (by assumption) ?_ ?_ | exact kx_rs rfl | refine kx_ro rfl ?_ ?_))) rfl) ⟨⟨(Nat.le_of_ble_eq_true rfl), (Nat.le_of_ble_eq_true rfl)⟩, (Nat.le_of_ble_eq_true rfl), (Nat.le_of_ble_eq_true rfl), (Nat.le_of_ble_eq_true rfl)⟩ (fun v16 s16 h16 => ?_) (fun _ _ _ h => h.elim)
      obtain ⟨rfl, rfl⟩ := h16
      rw [c2]
      first | refine ri_if_neB C 26 dX4_forget_19 rfl (fun h19 => ?_) (fun h19 => ?_) | refine ri_if_neN C 26 dX4_forget_19 rfl (by omega) (fun h19 => ?_) (fun h19 => ?_) | refine ri_if_ne C 26 dX4_forget_19 rfl (fun h19 => ?_) (fun h19 => ?_)
      · refine ri_iconst C dX4_forget_26 kc_i0 ?_
        refine ri_iconst C dX4_forget_27 kc_i2 ?_
        refine ri_callV C km_X4_fails q3303 qs106 dX4_forget_28 (mt_X4_fails htr (b := false) (by first | assumption | (repeat (first | assumption | exact kx_rs (by assumption) | exact kx_ne2 (by omega) | exact kx_ne1 (by omega) | refine kx_ro (by assumption) ?_ ?_ | exact kx_rs rfl | refine kx_ro rfl ?_ ?_)))) rfl rfl (kx_rcN C (by first | assumption | (repeat (first | assumption | exact kx_rs (by assumption) | exact kx_ne2 (by omega) | exact kx_ne1 (by omega) | refine kx_ro (by assumption) ?_ ?_ | exact kx_rs rfl | refine kx_ro rfl ?_ ?_))) rfl) ⟨⟨(Nat.le_of_ble_eq_true rfl), (Nat.le_of_ble_eq_true rfl)⟩, (Nat.le_of_ble_eq_true rfl), (Nat.le_of_ble_eq_true rfl), (Nat.le_of_ble_eq_true rfl)⟩ (fun v28 s28 h28 => ?_) (fun _ _ _ h => h.elim)
        obtain ⟨rfl, e28⟩ := h28
        rw [cond_false] at e28
        subst e28
        first | refine ri_if_eqB C 36 dX4_forget_31 rfl (fun h31 => ?_) (fun h31 => ?_) | refine ri_if_eqN C 36 dX4_forget_31 rfl (by omega) (fun h31 => ?_) (fun h31 => ?_) | refine ri_if_eq C 36 dX4_forget_31 rfl (fun h31 => ?_) (fun h31 => ?_)
        · first | refine ri_aload_n C dX4_forget_36 rfl ?_ | refine ri_aload_nQ C dX4_forget_36 rfl ?_ | refine ri_aload_nN C dX4_forget_36 rfl ?_
          refine ri_callV C km_X4_remembers q3189 qs84 dX4_forget_37 (mt_X4_remembers htr (by first | assumption | (repeat (first | assumption | exact kx_rs (by assumption) | exact kx_ne2 (by omega) | exact kx_ne1 (by omega) | refine kx_ro (by assumption) ?_ ?_ | exact kx_rs rfl | refine kx_ro rfl ?_ ?_))) (by first | assumption | (repeat (first | assumption | exact kx_rs (by assumption) | exact kx_ne2 (by omega) | exact kx_ne1 (by omega) | refine kx_ro (by assumption) ?_ ?_ | exact kx_rs rfl | refine kx_ro rfl ?_ ?_))) (by first | assumption | (repeat (first | assumption | exact kx_rs (by assumption) | exact kx_ne2 (by omega) | exact kx_ne1 (by omega) | refine kx_ro (by assumption) ?_ ?_ | exact kx_rs rfl | refine kx_ro rfl ?_ ?_))) (z := mo_z z 9 (nI 0)) (pm := pm) hz hpm) rfl rfl (kx_rcN C (by first | assumption | (repeat (first | assumption | exact kx_rs (by assumption) | exact kx_ne2 (by omega) | exact kx_ne1 (by omega) | refine kx_ro (by assumption) ?_ ?_ | exact kx_rs rfl | refine kx_ro rfl ?_ ?_))) rfl) ⟨⟨(Nat.le_of_ble_eq_true rfl), (Nat.le_of_ble_eq_true rfl)⟩, (Nat.le_of_ble_eq_true rfl), (Nat.le_of_ble_eq_true rfl), (Nat.le_of_ble_eq_true rfl)⟩ (fun v37 s37 h37 => ?_) (fun _ _ _ h => h.elim)
          obtain ⟨rfl, P1, eR, r1, r2⟩ := h37
          first | refine ri_aload_n C dX4_forget_40 rfl ?_ | refine ri_aload_nQ C dX4_forget_40 rfl ?_ | refine ri_aload_nN C dX4_forget_40 rfl ?_
          refine ri_iload_n C dX4_forget_41 rfl ?_
          refine ri_callV C km_X4_forgets q3275 qs102 dX4_forget_42 (mt_X4_forgets htr (by first | assumption | (repeat (first | assumption | exact kx_rs (by assumption) | exact kx_ne2 (by omega) | exact kx_ne1 (by omega) | refine kx_ro (by assumption) ?_ ?_ | exact kx_rs rfl | refine kx_ro rfl ?_ ?_))) (by first | assumption | (repeat (first | assumption | exact kx_rs (by assumption) | exact kx_ne2 (by omega) | exact kx_ne1 (by omega) | refine kx_ro (by assumption) ?_ ?_ | exact kx_rs rfl | refine kx_ro rfl ?_ ?_))) (by omega) (mx_ok_e (mx_eq_cn (by omega)) (mx_ok_p9 hu))) rfl rfl (kx_rcN C (by first | assumption | (repeat (first | assumption | exact kx_rs (by assumption) | exact kx_ne2 (by omega) | exact kx_ne1 (by omega) | refine kx_ro (by assumption) ?_ ?_ | exact kx_rs rfl | refine kx_ro rfl ?_ ?_))) rfl) ⟨⟨(Nat.le_of_ble_eq_true rfl), (Nat.le_of_ble_eq_true rfl)⟩, (Nat.le_of_ble_eq_true rfl), (Nat.le_of_ble_eq_true rfl), (Nat.le_of_ble_eq_true rfl)⟩ (fun v42 s42 h42 => ?_) (fun _ _ _ h => h.elim)
          obtain ⟨rfl, e42⟩ := h42
          exact ri_iret C hQ dX4_forget_45 rfl (Nat.le_of_ble_eq_true rfl) (Nat.le_of_ble_eq_true rfl) (by refine ⟨by simp only [an_forget, an_c, c1, c2, nk1, mx_fg, Bool.and_true, Bool.and_false, Bool.true_and, Bool.false_and, Bool.not_true, Bool.not_false, cond_true, cond_false] <;> rfl, fun _ => ⟨_, ⟨P1, eR.trans (by rw [e2]), r1, r2⟩, by simp only [nk1]; exact e42⟩, fun h => ?_⟩; simp only [an_forget, an_c, c1, c2, nk1, mx_fg, Bool.and_true, Bool.and_false, Bool.true_and, Bool.false_and, Bool.not_true, Bool.not_false, cond_true, cond_false] at h; exact absurd rfl h)
        · exact absurd h31 (by decide) --dead
      · exact absurd h19 (by decide) --dead
set_option maxHeartbeats 1000000 in
theorem mt_X4_mostOf {l : Launch} {G : kx_G} (htr : l.stackTraces = false) {σ : kx_H} {k : Nat} (hk : k < 1000) : kx_SP l G yX4_mostOf (ws_ yX4_mostOf cX4_mostOf 1 (some .int)) 1 0 0 [.int (nI k)] σ (fun v τ => v = some (.int (nI (mx_mst k))) ∧ τ = σ) kx_nx := by
  refine kx_body htr (by decide +kernel) (own := "RoseProverbsModel") (nm := "mostOf") rfl rfl (Nat.le_of_ble_eq_true rfl) ?_
  intro p e s m args below meth c Q C hQ
  refine ri_iload_n C dX4_mostOf_0 rfl ?_
  refine ri_iconst C dX4_mostOf_1 kc_i5 ?_
  first | refine ri_icmp_neN C 9 dX4_mostOf_2 rfl (by omega) (by omega) (fun h2 => ?_) (fun h2 => ?_) | refine ri_icmp_ne C 9 dX4_mostOf_2 rfl (fun h2 => ?_) (fun h2 => ?_)
  · refine ri_bipush C dX4_mostOf_9 kc_b50 ?_
    exact ri_iret C hQ dX4_mostOf_11 rfl (Nat.le_of_ble_eq_true rfl) (Nat.le_of_ble_eq_true rfl) (by refine ⟨congrArg (fun z => some (Value.int z)) ?_, rfl⟩; unfold mx_mst; first | rw [if_pos (by omega)] | rw [if_neg (by omega)])
  · refine ri_iconst C dX4_mostOf_5 kc_i2 ?_
    refine ri_goto C 11 dX4_mostOf_6 rfl ?_
    exact ri_iret C hQ dX4_mostOf_11 rfl (Nat.le_of_ble_eq_true rfl) (Nat.le_of_ble_eq_true rfl) (by refine ⟨congrArg (fun z => some (Value.int z)) ?_, rfl⟩; unfold mx_mst; first | rw [if_pos (by omega)] | rw [if_neg (by omega)])
set_option maxHeartbeats 1000000 in
theorem mt_X4_set {l : Launch} {G : kx_G} (htr : l.stackTraces = false) {σ : kx_H} {mo : Nat} {ad : Nat → Nat} {z : Nat → Int32} {u : Nat → Nat} {x y : Int32} (h0 : σ (1, 0) = some (mo, .inr (3, mo_L ad z))) (hw : σ (1, 1) = some (ad 0, kx_ai G 1417 (mx_w u))) {P : Nat → Int32} {pm : Nat} (hp : σ (1, 5) = some (ad 4, kx_ai G 11336 P)) (hz : z 7 = nI pm) (hpm : pm ≤ 8) : kx_SP l G yX4_set (ws_ yX4_set cX4_set 3 (some .int)) 5 0 0 [.ref mo, .int x, .int y] σ (fun v τ => v = some (.int (an_set u x y).2) ∧ ((an_set u x y).1 = 0 → ∃ ρ, mo_rem G (kx_up σ (1, 0) (mo, .inr (3, mo_L ad (mo_z z 9 (nI 0))))) mo ad (mo_z z 9 (nI 0)) u P pm ρ ∧ τ = kx_up ρ (1, 1) (ad 0, kx_ai G 1417 (mx_w (mx_s u (mx_n x) (mx_n y))))) ∧ ((an_set u x y).1 ≠ 0 → τ = kx_up σ (1, 0) (mo, .inr (3, mo_L ad (mo_z z 9 (nI (an_set u x y).1)))))) kx_nx := by
  refine kx_body htr (by decide +kernel) (own := "RoseProverbsModel") (nm := "set") rfl rfl (Nat.le_of_ble_eq_true rfl) ?_
  intro p e s m args below meth c Q C hQ
  first | refine ri_aload_n C dX4_set_0 rfl ?_ | refine ri_aload_nQ C dX4_set_0 rfl ?_ | refine ri_aload_nN C dX4_set_0 rfl ?_
  refine ri_iconst C dX4_set_1 kc_i0 ?_
  refine ri_putf C dX4_set_2 fd_q2979_3 (fun h => nomatch h) (by first | assumption | (repeat (first | assumption | exact kx_rs (by assumption) | exact kx_ne2 (by omega) | exact kx_ne1 (by omega) | refine kx_ro (by assumption) ?_ ?_ | exact kx_rs rfl | refine kx_ro rfl ?_ ?_))) (Nat.le_of_ble_eq_true rfl) (by rfl) (by rfl) mo_set9 (fun s2 e2 => ?_)
  first | refine ri_aload_n C dX4_set_5 rfl ?_ | refine ri_aload_nQ C dX4_set_5 rfl ?_ | refine ri_aload_nN C dX4_set_5 rfl ?_
  refine ri_iload_n C dX4_set_6 rfl ?_
  refine ri_iconst C dX4_set_7 kc_i5 ?_
  refine ri_bipush C dX4_set_8 kc_b7 ?_
  cases c1 : mx_i5 x
  · refine ri_callS C km_X4_inRange q3071 dX4_set_10 (mt_X4_inRange htr) rfl rfl ⟨⟨(Nat.le_of_ble_eq_true rfl), (Nat.le_of_ble_eq_true rfl)⟩, (Nat.le_of_ble_eq_true rfl), (Nat.le_of_ble_eq_true rfl), (Nat.le_of_ble_eq_true rfl)⟩ (fun v10 s10 h10 => ?_) (fun _ _ _ h => h.elim)
    obtain ⟨rfl, rfl⟩ := h10
    rw [mx_i5_0, c1]
    first | refine ri_if_neB C 20 dX4_set_13 rfl (fun h13 => ?_) (fun h13 => ?_) | refine ri_if_neN C 20 dX4_set_13 rfl (by omega) (fun h13 => ?_) (fun h13 => ?_) | refine ri_if_ne C 20 dX4_set_13 rfl (fun h13 => ?_) (fun h13 => ?_)
    · exact absurd h13 (by decide) --dead
    · refine ri_iconst C dX4_set_16 kc_i1 ?_
      refine ri_goto C 21 dX4_set_17 rfl ?_
      refine ri_iconst C dX4_set_21 kc_i1 ?_
      refine ri_callV C km_X4_fails q3303 qs106 dX4_set_22 (mt_X4_fails htr (b := true) (by first | assumption | (repeat (first | assumption | exact kx_rs (by assumption) | exact kx_ne2 (by omega) | exact kx_ne1 (by omega) | refine kx_ro (by assumption) ?_ ?_ | exact kx_rs rfl | refine kx_ro rfl ?_ ?_)))) rfl rfl (kx_rcN C (by first | assumption | (repeat (first | assumption | exact kx_rs (by assumption) | exact kx_ne2 (by omega) | exact kx_ne1 (by omega) | refine kx_ro (by assumption) ?_ ?_ | exact kx_rs rfl | refine kx_ro rfl ?_ ?_))) rfl) ⟨⟨(Nat.le_of_ble_eq_true rfl), (Nat.le_of_ble_eq_true rfl)⟩, (Nat.le_of_ble_eq_true rfl), (Nat.le_of_ble_eq_true rfl), (Nat.le_of_ble_eq_true rfl)⟩ (fun v22 s22 h22 => ?_) (fun _ _ _ h => h.elim)
      obtain ⟨rfl, e22⟩ := h22
      rw [cond_true] at e22
      first | refine ri_if_neB C 53 dX4_set_25 rfl (fun h25 => ?_) (fun h25 => ?_) | refine ri_if_neN C 53 dX4_set_25 rfl (by omega) (fun h25 => ?_) (fun h25 => ?_) | refine ri_if_ne C 53 dX4_set_25 rfl (fun h25 => ?_) (fun h25 => ?_)
      · refine ri_iconst C dX4_set_53 kc_i0 ?_
        exact ri_iret C hQ dX4_set_54 rfl (Nat.le_of_ble_eq_true rfl) (Nat.le_of_ble_eq_true rfl) (by (refine ⟨by simp only [an_set, an_c, c1, Bool.and_true, Bool.and_false, Bool.true_and, Bool.false_and, Bool.not_true, Bool.not_false, cond_true, cond_false] <;> rfl, fun h => ?_, fun _ => ?_⟩; (simp only [an_set, an_c, c1, Bool.and_true, Bool.and_false, Bool.true_and, Bool.false_and, Bool.not_true, Bool.not_false, cond_true, cond_false] at h; exact absurd h (by decide)); (simp only [an_set, an_c, c1, Bool.and_true, Bool.and_false, Bool.true_and, Bool.false_and, Bool.not_true, Bool.not_false, cond_true, cond_false]; first | assumption | exact mo_e2 (by assumption) (by assumption))))
      · exact absurd h25 (by decide) --dead
  · obtain ⟨k1, h1a, h1b, rfl⟩ := mx_i5_t c1
    have nk1 : mx_n (nI k1) = k1 := mx_n_nI (by omega)
    have hm1 : mx_mst k1 < 100 := by unfold mx_mst; split <;> omega
    refine ri_callS C km_X4_inRange q3071 dX4_set_10 (mt_X4_inRange htr) rfl rfl ⟨⟨(Nat.le_of_ble_eq_true rfl), (Nat.le_of_ble_eq_true rfl)⟩, (Nat.le_of_ble_eq_true rfl), (Nat.le_of_ble_eq_true rfl), (Nat.le_of_ble_eq_true rfl)⟩ (fun v10 s10 h10 => ?_) (fun _ _ _ h => h.elim)
    obtain ⟨rfl, rfl⟩ := h10
    rw [mx_i5_0, c1]
    first | refine ri_if_neB C 20 dX4_set_13 rfl (fun h13 => ?_) (fun h13 => ?_) | refine ri_if_neN C 20 dX4_set_13 rfl (by omega) (fun h13 => ?_) (fun h13 => ?_) | refine ri_if_ne C 20 dX4_set_13 rfl (fun h13 => ?_) (fun h13 => ?_)
    · refine ri_iconst C dX4_set_20 kc_i0 ?_
      refine ri_iconst C dX4_set_21 kc_i1 ?_
      refine ri_callV C km_X4_fails q3303 qs106 dX4_set_22 (mt_X4_fails htr (b := false) (by first | assumption | (repeat (first | assumption | exact kx_rs (by assumption) | exact kx_ne2 (by omega) | exact kx_ne1 (by omega) | refine kx_ro (by assumption) ?_ ?_ | exact kx_rs rfl | refine kx_ro rfl ?_ ?_)))) rfl rfl (kx_rcN C (by first | assumption | (repeat (first | assumption | exact kx_rs (by assumption) | exact kx_ne2 (by omega) | exact kx_ne1 (by omega) | refine kx_ro (by assumption) ?_ ?_ | exact kx_rs rfl | refine kx_ro rfl ?_ ?_))) rfl) ⟨⟨(Nat.le_of_ble_eq_true rfl), (Nat.le_of_ble_eq_true rfl)⟩, (Nat.le_of_ble_eq_true rfl), (Nat.le_of_ble_eq_true rfl), (Nat.le_of_ble_eq_true rfl)⟩ (fun v22 s22 h22 => ?_) (fun _ _ _ h => h.elim)
      obtain ⟨rfl, e22⟩ := h22
      rw [cond_false] at e22
      subst e22
      first | refine ri_if_neB C 53 dX4_set_25 rfl (fun h25 => ?_) (fun h25 => ?_) | refine ri_if_neN C 53 dX4_set_25 rfl (by omega) (fun h25 => ?_) (fun h25 => ?_) | refine ri_if_ne C 53 dX4_set_25 rfl (fun h25 => ?_) (fun h25 => ?_)
      · exact absurd h25 (by decide) --dead
      · first | refine ri_aload_n C dX4_set_28 rfl ?_ | refine ri_aload_nQ C dX4_set_28 rfl ?_ | refine ri_aload_nN C dX4_set_28 rfl ?_
        refine ri_iload_n C dX4_set_29 rfl ?_
        refine ri_iconst C dX4_set_30 kc_i0 ?_
        refine ri_iload_n C dX4_set_31 rfl ?_
        refine ri_callS C km_X4_mostOf q3159 dX4_set_32 (mt_X4_mostOf htr (by omega)) rfl rfl ⟨⟨(Nat.le_of_ble_eq_true rfl), (Nat.le_of_ble_eq_true rfl)⟩, (Nat.le_of_ble_eq_true rfl), (Nat.le_of_ble_eq_true rfl), (Nat.le_of_ble_eq_true rfl)⟩ (fun v32 s32 h32 => ?_) (fun _ _ _ h => h.elim)
        obtain ⟨rfl, rfl⟩ := h32
        cases c2 : mx_ix y (mx_mst k1 + 1)
        · refine ri_callS C km_X4_inRange q3071 dX4_set_35 (mt_X4_inRange htr) rfl rfl ⟨⟨(Nat.le_of_ble_eq_true rfl), (Nat.le_of_ble_eq_true rfl)⟩, (Nat.le_of_ble_eq_true rfl), (Nat.le_of_ble_eq_true rfl), (Nat.le_of_ble_eq_true rfl)⟩ (fun v35 s35 h35 => ?_) (fun _ _ _ h => h.elim)
          obtain ⟨rfl, rfl⟩ := h35
          rw [mx_ix_0 (by omega), c2]
          first | refine ri_if_neB C 45 dX4_set_38 rfl (fun h38 => ?_) (fun h38 => ?_) | refine ri_if_neN C 45 dX4_set_38 rfl (by omega) (fun h38 => ?_) (fun h38 => ?_) | refine ri_if_ne C 45 dX4_set_38 rfl (fun h38 => ?_) (fun h38 => ?_)
          · exact absurd h38 (by decide) --dead
          · refine ri_iconst C dX4_set_41 kc_i1 ?_
            refine ri_goto C 46 dX4_set_42 rfl ?_
            refine ri_iconst C dX4_set_46 kc_i1 ?_
            refine ri_callV C km_X4_fails q3303 qs106 dX4_set_47 (mt_X4_fails htr (b := true) (by first | assumption | (repeat (first | assumption | exact kx_rs (by assumption) | exact kx_ne2 (by omega) | exact kx_ne1 (by omega) | refine kx_ro (by assumption) ?_ ?_ | exact kx_rs rfl | refine kx_ro rfl ?_ ?_)))) rfl rfl (kx_rcN C (by first | assumption | (repeat (first | assumption | exact kx_rs (by assumption) | exact kx_ne2 (by omega) | exact kx_ne1 (by omega) | refine kx_ro (by assumption) ?_ ?_ | exact kx_rs rfl | refine kx_ro rfl ?_ ?_))) rfl) ⟨⟨(Nat.le_of_ble_eq_true rfl), (Nat.le_of_ble_eq_true rfl)⟩, (Nat.le_of_ble_eq_true rfl), (Nat.le_of_ble_eq_true rfl), (Nat.le_of_ble_eq_true rfl)⟩ (fun v47 s47 h47 => ?_) (fun _ _ _ h => h.elim)
            obtain ⟨rfl, e47⟩ := h47
            rw [cond_true] at e47
            first | refine ri_if_eqB C 55 dX4_set_50 rfl (fun h50 => ?_) (fun h50 => ?_) | refine ri_if_eqN C 55 dX4_set_50 rfl (by omega) (fun h50 => ?_) (fun h50 => ?_) | refine ri_if_eq C 55 dX4_set_50 rfl (fun h50 => ?_) (fun h50 => ?_)
            · exact absurd h50 (by decide) --dead
            · refine ri_iconst C dX4_set_53 kc_i0 ?_
              exact ri_iret C hQ dX4_set_54 rfl (Nat.le_of_ble_eq_true rfl) (Nat.le_of_ble_eq_true rfl) (by (refine ⟨by simp only [an_set, an_c, c1, c2, nk1, Bool.and_true, Bool.and_false, Bool.true_and, Bool.false_and, Bool.not_true, Bool.not_false, cond_true, cond_false] <;> rfl, fun h => ?_, fun _ => ?_⟩; (simp only [an_set, an_c, c1, c2, nk1, Bool.and_true, Bool.and_false, Bool.true_and, Bool.false_and, Bool.not_true, Bool.not_false, cond_true, cond_false] at h; exact absurd h (by decide)); (simp only [an_set, an_c, c1, c2, nk1, Bool.and_true, Bool.and_false, Bool.true_and, Bool.false_and, Bool.not_true, Bool.not_false, cond_true, cond_false]; first | assumption | exact mo_e2 (by assumption) (by assumption))))
        · obtain ⟨k2, hk2, rfl⟩ := mx_ix_t c2
          have nk2 : mx_n (nI k2) = k2 := mx_n_nI (by omega)
          refine ri_callS C km_X4_inRange q3071 dX4_set_35 (mt_X4_inRange htr) rfl rfl ⟨⟨(Nat.le_of_ble_eq_true rfl), (Nat.le_of_ble_eq_true rfl)⟩, (Nat.le_of_ble_eq_true rfl), (Nat.le_of_ble_eq_true rfl), (Nat.le_of_ble_eq_true rfl)⟩ (fun v35 s35 h35 => ?_) (fun _ _ _ h => h.elim)
          obtain ⟨rfl, rfl⟩ := h35
          rw [mx_ix_0 (by omega), c2]
          first | refine ri_if_neB C 45 dX4_set_38 rfl (fun h38 => ?_) (fun h38 => ?_) | refine ri_if_neN C 45 dX4_set_38 rfl (by omega) (fun h38 => ?_) (fun h38 => ?_) | refine ri_if_ne C 45 dX4_set_38 rfl (fun h38 => ?_) (fun h38 => ?_)
          · refine ri_iconst C dX4_set_45 kc_i0 ?_
            refine ri_iconst C dX4_set_46 kc_i1 ?_
            refine ri_callV C km_X4_fails q3303 qs106 dX4_set_47 (mt_X4_fails htr (b := false) (by first | assumption | (repeat (first | assumption | exact kx_rs (by assumption) | exact kx_ne2 (by omega) | exact kx_ne1 (by omega) | refine kx_ro (by assumption) ?_ ?_ | exact kx_rs rfl | refine kx_ro rfl ?_ ?_)))) rfl rfl (kx_rcN C (by first | assumption | (repeat (first | assumption | exact kx_rs (by assumption) | exact kx_ne2 (by omega) | exact kx_ne1 (by omega) | refine kx_ro (by assumption) ?_ ?_ | exact kx_rs rfl | refine kx_ro rfl ?_ ?_))) rfl) ⟨⟨(Nat.le_of_ble_eq_true rfl), (Nat.le_of_ble_eq_true rfl)⟩, (Nat.le_of_ble_eq_true rfl), (Nat.le_of_ble_eq_true rfl), (Nat.le_of_ble_eq_true rfl)⟩ (fun v47 s47 h47 => ?_) (fun _ _ _ h => h.elim)
            obtain ⟨rfl, e47⟩ := h47
            rw [cond_false] at e47
            subst e47
            first | refine ri_if_eqB C 55 dX4_set_50 rfl (fun h50 => ?_) (fun h50 => ?_) | refine ri_if_eqN C 55 dX4_set_50 rfl (by omega) (fun h50 => ?_) (fun h50 => ?_) | refine ri_if_eq C 55 dX4_set_50 rfl (fun h50 => ?_) (fun h50 => ?_)
            · first | refine ri_aload_n C dX4_set_55 rfl ?_ | refine ri_aload_nQ C dX4_set_55 rfl ?_ | refine ri_aload_nN C dX4_set_55 rfl ?_
              refine ri_callV C km_X4_remembers q3189 qs84 dX4_set_56 (mt_X4_remembers htr (by first | assumption | (repeat (first | assumption | exact kx_rs (by assumption) | exact kx_ne2 (by omega) | exact kx_ne1 (by omega) | refine kx_ro (by assumption) ?_ ?_ | exact kx_rs rfl | refine kx_ro rfl ?_ ?_))) (by first | assumption | (repeat (first | assumption | exact kx_rs (by assumption) | exact kx_ne2 (by omega) | exact kx_ne1 (by omega) | refine kx_ro (by assumption) ?_ ?_ | exact kx_rs rfl | refine kx_ro rfl ?_ ?_))) (by first | assumption | (repeat (first | assumption | exact kx_rs (by assumption) | exact kx_ne2 (by omega) | exact kx_ne1 (by omega) | refine kx_ro (by assumption) ?_ ?_ | exact kx_rs rfl | refine kx_ro rfl ?_ ?_))) (z := mo_z z 9 (nI 0)) (pm := pm) hz hpm) rfl rfl (kx_rcN C (by first | assumption | (repeat (first | assumption | exact kx_rs (by assumption) | exact kx_ne2 (by omega) | exact kx_ne1 (by omega) | refine kx_ro (by assumption) ?_ ?_ | exact kx_rs rfl | refine kx_ro rfl ?_ ?_))) rfl) ⟨⟨(Nat.le_of_ble_eq_true rfl), (Nat.le_of_ble_eq_true rfl)⟩, (Nat.le_of_ble_eq_true rfl), (Nat.le_of_ble_eq_true rfl), (Nat.le_of_ble_eq_true rfl)⟩ (fun v56 s56 h56 => ?_) (fun _ _ _ h => h.elim)
              obtain ⟨rfl, P1, eR, r1, r2⟩ := h56
              first | refine ri_aload_n C dX4_set_59 rfl ?_ | refine ri_aload_nQ C dX4_set_59 rfl ?_ | refine ri_aload_nN C dX4_set_59 rfl ?_
              refine ri_iload_n C dX4_set_60 rfl ?_
              refine ri_iload_n C dX4_set_61 rfl ?_
              refine ri_callV C km_X4_sets q3287 qs105 dX4_set_62 (mt_X4_sets htr (by first | assumption | (repeat (first | assumption | exact kx_rs (by assumption) | exact kx_ne2 (by omega) | exact kx_ne1 (by omega) | refine kx_ro (by assumption) ?_ ?_ | exact kx_rs rfl | refine kx_ro rfl ?_ ?_))) (by first | assumption | (repeat (first | assumption | exact kx_rs (by assumption) | exact kx_ne2 (by omega) | exact kx_ne1 (by omega) | refine kx_ro (by assumption) ?_ ?_ | exact kx_rs rfl | refine kx_ro rfl ?_ ?_))) (by omega)) rfl rfl (kx_rcN C (by first | assumption | (repeat (first | assumption | exact kx_rs (by assumption) | exact kx_ne2 (by omega) | exact kx_ne1 (by omega) | refine kx_ro (by assumption) ?_ ?_ | exact kx_rs rfl | refine kx_ro rfl ?_ ?_))) rfl) ⟨⟨(Nat.le_of_ble_eq_true rfl), (Nat.le_of_ble_eq_true rfl)⟩, (Nat.le_of_ble_eq_true rfl), (Nat.le_of_ble_eq_true rfl), (Nat.le_of_ble_eq_true rfl)⟩ (fun v62 s62 h62 => ?_) (fun _ _ _ h => h.elim)
              obtain ⟨rfl, e62⟩ := h62
              exact ri_iret C hQ dX4_set_65 rfl (Nat.le_of_ble_eq_true rfl) (Nat.le_of_ble_eq_true rfl) (by refine ⟨by simp only [an_set, an_c, c1, c2, nk1, nk2, Bool.and_true, Bool.and_false, Bool.true_and, Bool.false_and, Bool.not_true, Bool.not_false, cond_true, cond_false] <;> rfl, fun _ => ⟨_, ⟨P1, eR.trans (by rw [e2]), r1, r2⟩, by simp only [nk1, nk2]; exact e62⟩, fun h => ?_⟩; simp only [an_set, an_c, c1, c2, nk1, nk2, Bool.and_true, Bool.and_false, Bool.true_and, Bool.false_and, Bool.not_true, Bool.not_false, cond_true, cond_false] at h; exact absurd rfl h)
            · exact absurd h50 (by decide) --dead
          · exact absurd h38 (by decide) --dead
    · exact absurd h13 (by decide) --dead
def mo_und (G : kx_G) (σ τ : kx_H) (mo : Nat) (ad : Nat → Nat) (z : Nat → Int32) (u : Nat → Nat) (P : Nat → Int32) (pm : Nat) : Prop :=
  τ = kx_up (kx_up σ (1, 0) (mo, .inr (3, mo_L ad (mo_z z 7 (nI (pm - 1)))))) (1, 1) (ad 0, kx_ai G 1417 (va_cpy P (mx_w u) (1417 * (pm - 1)) 0 1417))
set_option maxHeartbeats 1000000 in
theorem mt_X4_undo {l : Launch} {G : kx_G} (htr : l.stackTraces = false) {σ : kx_H} {mo : Nat} {ad : Nat → Nat} {z : Nat → Int32} {u : Nat → Nat} (h0 : σ (1, 0) = some (mo, .inr (3, mo_L ad z))) (hw : σ (1, 1) = some (ad 0, kx_ai G 1417 (mx_w u))) {P : Nat → Int32} {pm : Nat} (hp : σ (1, 5) = some (ad 4, kx_ai G 11336 P)) (hz : z 7 = nI pm) (hpm : pm ≤ 8) : kx_SP l G yX4_undo (ws_ yX4_undo cX4_undo 1 (some .int)) 3 0 0 [.ref mo] σ (fun v τ => v = some (.int (if pm = 0 then 0 else nI (pm - 1))) ∧ (¬ pm = 0 → mo_und G (kx_up σ (1, 0) (mo, .inr (3, mo_L ad (mo_z z 9 (nI 0))))) τ mo ad (mo_z z 9 (nI 0)) u P pm) ∧ (pm = 0 → τ = kx_up σ (1, 0) (mo, .inr (3, mo_L ad (mo_z z 9 (nI 1)))))) kx_nx := by
  refine kx_body htr (by decide +kernel) (own := "RoseProverbsModel") (nm := "undo") rfl rfl (Nat.le_of_ble_eq_true rfl) ?_
  intro p e s m args below meth c Q C hQ
  first | refine ri_aload_n C dX4_undo_0 rfl ?_ | refine ri_aload_nQ C dX4_undo_0 rfl ?_ | refine ri_aload_nN C dX4_undo_0 rfl ?_
  refine ri_iconst C dX4_undo_1 kc_i0 ?_
  refine ri_putf C dX4_undo_2 fd_q2979_3 (fun h => nomatch h) (by first | assumption | (repeat (first | assumption | exact kx_rs (by assumption) | exact kx_ne2 (by omega) | exact kx_ne1 (by omega) | refine kx_ro (by assumption) ?_ ?_ | exact kx_rs rfl | refine kx_ro rfl ?_ ?_))) (Nat.le_of_ble_eq_true rfl) (by rfl) (by rfl) mo_set9 (fun s2 e2 => ?_)
  by_cases c1 : pm = 0
  · first | refine ri_aload_n C dX4_undo_5 rfl ?_ | refine ri_aload_nQ C dX4_undo_5 rfl ?_ | refine ri_aload_nN C dX4_undo_5 rfl ?_
    first | refine ri_aload_n C dX4_undo_6 rfl ?_ | refine ri_aload_nQ C dX4_undo_6 rfl ?_ | refine ri_aload_nN C dX4_undo_6 rfl ?_
    refine ri_getf C dX4_undo_7 fr_q2977_3 (by first | assumption | (repeat (first | assumption | exact kx_rs (by assumption) | exact kx_ne2 (by omega) | exact kx_ne1 (by omega) | refine kx_ro (by assumption) ?_ ?_ | exact kx_rs rfl | refine kx_ro rfl ?_ ?_))) (by rfl) ?_
    rw [show mo_z z 9 (nI 0) 7 = nI pm from hz]
    first | refine ri_if_neB C 17 dX4_undo_10 rfl (fun h10 => ?_) (fun h10 => ?_) | refine ri_if_neN C 17 dX4_undo_10 rfl (by omega) (fun h10 => ?_) (fun h10 => ?_) | refine ri_if_ne C 17 dX4_undo_10 rfl (fun h10 => ?_) (fun h10 => ?_)
    · exact absurd h10 (by omega) --dead
    · refine ri_iconst C dX4_undo_13 kc_i1 ?_
      refine ri_goto C 18 dX4_undo_14 rfl ?_
      refine ri_iconst C dX4_undo_18 kc_i1 ?_
      refine ri_callV C km_X4_fails q3303 qs106 dX4_undo_19 (mt_X4_fails htr (b := true) (by first | assumption | (repeat (first | assumption | exact kx_rs (by assumption) | exact kx_ne2 (by omega) | exact kx_ne1 (by omega) | refine kx_ro (by assumption) ?_ ?_ | exact kx_rs rfl | refine kx_ro rfl ?_ ?_)))) rfl rfl (kx_rcN C (by first | assumption | (repeat (first | assumption | exact kx_rs (by assumption) | exact kx_ne2 (by omega) | exact kx_ne1 (by omega) | refine kx_ro (by assumption) ?_ ?_ | exact kx_rs rfl | refine kx_ro rfl ?_ ?_))) rfl) ⟨⟨(Nat.le_of_ble_eq_true rfl), (Nat.le_of_ble_eq_true rfl)⟩, (Nat.le_of_ble_eq_true rfl), (Nat.le_of_ble_eq_true rfl), (Nat.le_of_ble_eq_true rfl)⟩ (fun v19 s19 h19 => ?_) (fun _ _ _ h => h.elim)
      obtain ⟨rfl, e19⟩ := h19
      rw [cond_true] at e19
      first | refine ri_if_eqB C 27 dX4_undo_22 rfl (fun h22 => ?_) (fun h22 => ?_) | refine ri_if_eqN C 27 dX4_undo_22 rfl (by omega) (fun h22 => ?_) (fun h22 => ?_) | refine ri_if_eq C 27 dX4_undo_22 rfl (fun h22 => ?_) (fun h22 => ?_)
      · exact absurd h22 (by decide) --dead
      · refine ri_iconst C dX4_undo_25 kc_i0 ?_
        exact ri_iret C hQ dX4_undo_26 rfl (Nat.le_of_ble_eq_true rfl) (Nat.le_of_ble_eq_true rfl) ⟨by rw [if_pos c1]; rfl, fun h => absurd c1 h, fun _ => mo_e2 (by assumption) (by assumption)⟩
  · first | refine ri_aload_n C dX4_undo_5 rfl ?_ | refine ri_aload_nQ C dX4_undo_5 rfl ?_ | refine ri_aload_nN C dX4_undo_5 rfl ?_
    first | refine ri_aload_n C dX4_undo_6 rfl ?_ | refine ri_aload_nQ C dX4_undo_6 rfl ?_ | refine ri_aload_nN C dX4_undo_6 rfl ?_
    refine ri_getf C dX4_undo_7 fr_q2977_3 (by first | assumption | (repeat (first | assumption | exact kx_rs (by assumption) | exact kx_ne2 (by omega) | exact kx_ne1 (by omega) | refine kx_ro (by assumption) ?_ ?_ | exact kx_rs rfl | refine kx_ro rfl ?_ ?_))) (by rfl) ?_
    rw [show mo_z z 9 (nI 0) 7 = nI pm from hz]
    first | refine ri_if_neB C 17 dX4_undo_10 rfl (fun h10 => ?_) (fun h10 => ?_) | refine ri_if_neN C 17 dX4_undo_10 rfl (by omega) (fun h10 => ?_) (fun h10 => ?_) | refine ri_if_ne C 17 dX4_undo_10 rfl (fun h10 => ?_) (fun h10 => ?_)
    · refine ri_iconst C dX4_undo_17 kc_i0 ?_
      refine ri_iconst C dX4_undo_18 kc_i1 ?_
      refine ri_callV C km_X4_fails q3303 qs106 dX4_undo_19 (mt_X4_fails htr (b := false) (by first | assumption | (repeat (first | assumption | exact kx_rs (by assumption) | exact kx_ne2 (by omega) | exact kx_ne1 (by omega) | refine kx_ro (by assumption) ?_ ?_ | exact kx_rs rfl | refine kx_ro rfl ?_ ?_)))) rfl rfl (kx_rcN C (by first | assumption | (repeat (first | assumption | exact kx_rs (by assumption) | exact kx_ne2 (by omega) | exact kx_ne1 (by omega) | refine kx_ro (by assumption) ?_ ?_ | exact kx_rs rfl | refine kx_ro rfl ?_ ?_))) rfl) ⟨⟨(Nat.le_of_ble_eq_true rfl), (Nat.le_of_ble_eq_true rfl)⟩, (Nat.le_of_ble_eq_true rfl), (Nat.le_of_ble_eq_true rfl), (Nat.le_of_ble_eq_true rfl)⟩ (fun v19 s19 h19 => ?_) (fun _ _ _ h => h.elim)
      obtain ⟨rfl, e19⟩ := h19
      rw [cond_false] at e19
      subst e19
      first | refine ri_if_eqB C 27 dX4_undo_22 rfl (fun h22 => ?_) (fun h22 => ?_) | refine ri_if_eqN C 27 dX4_undo_22 rfl (by omega) (fun h22 => ?_) (fun h22 => ?_) | refine ri_if_eq C 27 dX4_undo_22 rfl (fun h22 => ?_) (fun h22 => ?_)
      · first | refine ri_aload_n C dX4_undo_27 rfl ?_ | refine ri_aload_nQ C dX4_undo_27 rfl ?_ | refine ri_aload_nN C dX4_undo_27 rfl ?_
        refine ri_dup C dX4_undo_28 rfl ?_
        refine ri_getf C dX4_undo_29 fr_q2977_3 (by first | assumption | (repeat (first | assumption | exact kx_rs (by assumption) | exact kx_ne2 (by omega) | exact kx_ne1 (by omega) | refine kx_ro (by assumption) ?_ ?_ | exact kx_rs rfl | refine kx_ro rfl ?_ ?_))) (by rfl) ?_
        rw [show mo_z z 9 (nI 0) 7 = nI pm from hz]
        refine ri_iconst C dX4_undo_32 kc_i1 ?_
        first | refine ri_isubN C dX4_undo_33 (by omega) ?_ | refine ri_isub C dX4_undo_33 ?_
        refine ri_putf C dX4_undo_34 fd_q2977_3 (fun h => nomatch h) (by first | assumption | (repeat (first | assumption | exact kx_rs (by assumption) | exact kx_ne2 (by omega) | exact kx_ne1 (by omega) | refine kx_ro (by assumption) ?_ ?_ | exact kx_rs rfl | refine kx_ro rfl ?_ ?_))) (Nat.le_of_ble_eq_true rfl) (by rfl) (by rfl) mo_set7 (fun s34 e34 => ?_)
        first | refine ri_aload_n C dX4_undo_37 rfl ?_ | refine ri_aload_nQ C dX4_undo_37 rfl ?_ | refine ri_aload_nN C dX4_undo_37 rfl ?_
        refine ri_getf C dX4_undo_38 fr_q2974_3 (by first | assumption | (repeat (first | assumption | exact kx_rs (by assumption) | exact kx_ne2 (by omega) | exact kx_ne1 (by omega) | refine kx_ro (by assumption) ?_ ?_ | exact kx_rs rfl | refine kx_ro rfl ?_ ?_))) (by rfl) ?_
        refine ri_sipush C dX4_undo_41 kc_s1417 ?_
        first | refine ri_aload_n C dX4_undo_44 rfl ?_ | refine ri_aload_nQ C dX4_undo_44 rfl ?_ | refine ri_aload_nN C dX4_undo_44 rfl ?_
        refine ri_getf C dX4_undo_45 fr_q2977_3 (by first | assumption | (repeat (first | assumption | exact kx_rs (by assumption) | exact kx_ne2 (by omega) | exact kx_ne1 (by omega) | refine kx_ro (by assumption) ?_ ?_ | exact kx_rs rfl | refine kx_ro rfl ?_ ?_))) (by rfl) ?_
        rw [mo_z_s]
        first | refine ri_imulN C dX4_undo_48 ?_ | refine ri_imul C dX4_undo_48 ?_
        first | refine ri_aload_n C dX4_undo_49 rfl ?_ | refine ri_aload_nQ C dX4_undo_49 rfl ?_ | refine ri_aload_nN C dX4_undo_49 rfl ?_
        refine ri_getf C dX4_undo_50 fr_q2970_3 (by first | assumption | (repeat (first | assumption | exact kx_rs (by assumption) | exact kx_ne2 (by omega) | exact kx_ne1 (by omega) | refine kx_ro (by assumption) ?_ ?_ | exact kx_rs rfl | refine kx_ro rfl ?_ ?_))) (by rfl) ?_
        refine ri_iconst C dX4_undo_53 kc_i0 ?_
        refine ri_callS C km_X4_copies q3078 dX4_undo_54 (mt_X4_copies htr (tf := (1, 5)) (tt := (1, 1)) (by first | assumption | (repeat (first | assumption | exact kx_rs (by assumption) | exact kx_ne2 (by omega) | exact kx_ne1 (by omega) | refine kx_ro (by assumption) ?_ ?_ | exact kx_rs rfl | refine kx_ro rfl ?_ ?_))) (by first | assumption | (repeat (first | assumption | exact kx_rs (by assumption) | exact kx_ne2 (by omega) | exact kx_ne1 (by omega) | refine kx_ro (by assumption) ?_ ?_ | exact kx_rs rfl | refine kx_ro rfl ?_ ?_))) (by decide) (y := 0) (by omega) (by omega)) rfl rfl ⟨⟨(Nat.le_of_ble_eq_true rfl), (Nat.le_of_ble_eq_true rfl)⟩, (Nat.le_of_ble_eq_true rfl), (Nat.le_of_ble_eq_true rfl), (Nat.le_of_ble_eq_true rfl)⟩ (fun v54 s54 h54 => ?_) (fun _ _ _ h => h.elim)
        obtain ⟨rfl, e54⟩ := h54
        first | refine ri_aload_n C dX4_undo_57 rfl ?_ | refine ri_aload_nQ C dX4_undo_57 rfl ?_ | refine ri_aload_nN C dX4_undo_57 rfl ?_
        refine ri_getf C dX4_undo_58 fr_q2977_3 (by first | assumption | (repeat (first | assumption | exact kx_rs (by assumption) | exact kx_ne2 (by omega) | exact kx_ne1 (by omega) | refine kx_ro (by assumption) ?_ ?_ | exact kx_rs rfl | refine kx_ro rfl ?_ ?_))) (by rfl) ?_
        rw [mo_z_s]
        exact ri_iret C hQ dX4_undo_61 rfl (Nat.le_of_ble_eq_true rfl) (Nat.le_of_ble_eq_true rfl) ⟨by rw [if_neg (by omega)], fun _ => by rw [e54, e34, e2]; unfold mo_und; rfl, fun h => absurd h c1⟩
      · exact absurd h22 (by decide) --dead
    · exact absurd h10 (by omega) --dead
set_option maxHeartbeats 1000000 in
theorem mt_X4_proverbNew {l : Launch} {G : kx_G} (htr : l.stackTraces = false) {σ : kx_H} {mo : Nat} {ad : Nat → Nat} {z : Nat → Int32} {u : Nat → Nat} {a b g h j f : Int32} (h0 : σ (1, 0) = some (mo, .inr (3, mo_L ad z))) (hw : σ (1, 1) = some (ad 0, kx_ai G 1417 (mx_w u))) {P : Nat → Int32} {pm : Nat} (hp : σ (1, 5) = some (ad 4, kx_ai G 11336 P)) (hz : z 7 = nI pm) (hpm : pm ≤ 8) (hu : mx_ok u) : kx_SP l G yX4_proverbNew (ws_ yX4_proverbNew cX4_proverbNew 7 (some .int)) 6 0 0 [.ref mo, .int a, .int b, .int g, .int h, .int j, .int f] σ (fun v τ => v = some (.int (an_new u a b g h j f).2) ∧ ((an_new u a b g h j f).1 = 0 → ∃ ρ, mo_rem G (kx_up σ (1, 0) (mo, .inr (3, mo_L ad (mo_z z 9 (nI 0))))) mo ad (mo_z z 9 (nI 0)) u P pm ρ ∧ τ = kx_up ρ (1, 1) (ad 0, kx_ai G 1417 (mx_w (mx_new u (mx_n a) (mx_n b) (mx_n g) (mx_n h) (mx_n j) (mx_n f))))) ∧ ((an_new u a b g h j f).1 ≠ 0 → τ = kx_up σ (1, 0) (mo, .inr (3, mo_L ad (mo_z z 9 (nI (an_new u a b g h j f).1)))))) kx_nx := by
  refine kx_body htr (by decide +kernel) (own := "RoseProverbsModel") (nm := "proverbNew") rfl rfl (Nat.le_of_ble_eq_true rfl) ?_
  intro p e s m args below meth c Q C hQ
  have gn := hu.1
  first | refine ri_aload_n C dX4_proverbNew_0 rfl ?_ | refine ri_aload_nQ C dX4_proverbNew_0 rfl ?_ | refine ri_aload_nN C dX4_proverbNew_0 rfl ?_
  refine ri_iconst C dX4_proverbNew_1 kc_i0 ?_
  refine ri_putf C dX4_proverbNew_2 fd_q2979_3 (fun h => nomatch h) (by first | assumption | (repeat (first | assumption | exact kx_rs (by assumption) | exact kx_ne2 (by omega) | exact kx_ne1 (by omega) | refine kx_ro (by assumption) ?_ ?_ | exact kx_rs rfl | refine kx_ro rfl ?_ ?_))) (Nat.le_of_ble_eq_true rfl) (by rfl) (by rfl) mo_set9 (fun s2 e2 => ?_)
  first | refine ri_aload_n C dX4_proverbNew_5 rfl ?_ | refine ri_aload_nQ C dX4_proverbNew_5 rfl ?_ | refine ri_aload_nN C dX4_proverbNew_5 rfl ?_
  refine ri_iload_n C dX4_proverbNew_6 rfl ?_
  refine ri_iload_n C dX4_proverbNew_7 rfl ?_
  refine ri_callV C km_X4_noPlace q3350 qs114 dX4_proverbNew_8 (mt_X4_noPlace htr (by first | assumption | (repeat (first | assumption | exact kx_rs (by assumption) | exact kx_ne2 (by omega) | exact kx_ne1 (by omega) | refine kx_ro (by assumption) ?_ ?_ | exact kx_rs rfl | refine kx_ro rfl ?_ ?_)))) rfl rfl (kx_rcN C (by first | assumption | (repeat (first | assumption | exact kx_rs (by assumption) | exact kx_ne2 (by omega) | exact kx_ne1 (by omega) | refine kx_ro (by assumption) ?_ ?_ | exact kx_rs rfl | refine kx_ro rfl ?_ ?_))) rfl) ⟨⟨(Nat.le_of_ble_eq_true rfl), (Nat.le_of_ble_eq_true rfl)⟩, (Nat.le_of_ble_eq_true rfl), (Nat.le_of_ble_eq_true rfl), (Nat.le_of_ble_eq_true rfl)⟩ (fun v8 s8 h8 => ?_) (fun _ _ _ h => h.elim)
  obtain ⟨rfl, e8⟩ := h8
  first | refine ri_if_neB C 96 dX4_proverbNew_11 rfl (fun h11 => ?_) (fun h11 => ?_) | refine ri_if_neN C 96 dX4_proverbNew_11 rfl (by omega) (fun h11 => ?_) (fun h11 => ?_) | refine ri_if_ne C 96 dX4_proverbNew_11 rfl (fun h11 => ?_) (fun h11 => ?_)
  · have c1 : (mx_ix a 16 && mx_ix g 12) = false := kx_bn_t h11
    rw [c1, cond_false] at e8
    refine ri_iconst C dX4_proverbNew_96 kc_i0 ?_
    exact ri_iret C hQ dX4_proverbNew_97 rfl (Nat.le_of_ble_eq_true rfl) (Nat.le_of_ble_eq_true rfl) (by first | (refine ⟨by simp only [an_new, an_c, c1, c2, c3, Bool.and_true, Bool.and_false, Bool.true_and, Bool.false_and, Bool.not_true, Bool.not_false, cond_true, cond_false] <;> rfl, fun h => ?_, fun _ => ?_⟩; (simp only [an_new, an_c, c1, c2, c3, Bool.and_true, Bool.and_false, Bool.true_and, Bool.false_and, Bool.not_true, Bool.not_false, cond_true, cond_false] at h; exact absurd h (by decide)); (simp only [an_new, an_c, c1, c2, c3, Bool.and_true, Bool.and_false, Bool.true_and, Bool.false_and, Bool.not_true, Bool.not_false, cond_true, cond_false]; first | assumption | exact mo_e2 (by assumption) (by assumption))) | (refine ⟨by simp only [an_new, an_c, c1, c2, Bool.and_true, Bool.and_false, Bool.true_and, Bool.false_and, Bool.not_true, Bool.not_false, cond_true, cond_false] <;> rfl, fun h => ?_, fun _ => ?_⟩; (simp only [an_new, an_c, c1, c2, Bool.and_true, Bool.and_false, Bool.true_and, Bool.false_and, Bool.not_true, Bool.not_false, cond_true, cond_false] at h; exact absurd h (by decide)); (simp only [an_new, an_c, c1, c2, Bool.and_true, Bool.and_false, Bool.true_and, Bool.false_and, Bool.not_true, Bool.not_false, cond_true, cond_false]; first | assumption | exact mo_e2 (by assumption) (by assumption))) | (refine ⟨by simp only [an_new, an_c, c1, Bool.and_true, Bool.and_false, Bool.true_and, Bool.false_and, Bool.not_true, Bool.not_false, cond_true, cond_false] <;> rfl, fun h => ?_, fun _ => ?_⟩; (simp only [an_new, an_c, c1, Bool.and_true, Bool.and_false, Bool.true_and, Bool.false_and, Bool.not_true, Bool.not_false, cond_true, cond_false] at h; exact absurd h (by decide)); (simp only [an_new, an_c, c1, Bool.and_true, Bool.and_false, Bool.true_and, Bool.false_and, Bool.not_true, Bool.not_false, cond_true, cond_false]; first | assumption | exact mo_e2 (by assumption) (by assumption))))
  · have c1 : (mx_ix a 16 && mx_ix g 12) = true := kx_bn_f h11
    rw [c1, cond_true] at e8
    subst e8
    obtain ⟨c1x, c1y⟩ : mx_ix a 16 = true ∧ mx_ix g 12 = true := by simpa using c1
    obtain ⟨k1, hk1, rfl⟩ := mx_ix_t c1x
    have nk1 : mx_n (nI k1) = k1 := mx_n_nI (by omega)
    obtain ⟨k3, hk3, rfl⟩ := mx_ix_t c1y
    have nk3 : mx_n (nI k3) = k3 := mx_n_nI (by omega)
    first | refine ri_aload_n C dX4_proverbNew_14 rfl ?_ | refine ri_aload_nQ C dX4_proverbNew_14 rfl ?_ | refine ri_aload_nN C dX4_proverbNew_14 rfl ?_
    refine ri_iload_n C dX4_proverbNew_15 rfl ?_
    refine ri_iload C dX4_proverbNew_16 rfl ?_
    refine ri_callV C km_X4_noPlace q3350 qs114 dX4_proverbNew_18 (mt_X4_noPlace htr (by first | assumption | (repeat (first | assumption | exact kx_rs (by assumption) | exact kx_ne2 (by omega) | exact kx_ne1 (by omega) | refine kx_ro (by assumption) ?_ ?_ | exact kx_rs rfl | refine kx_ro rfl ?_ ?_)))) rfl rfl (kx_rcN C (by first | assumption | (repeat (first | assumption | exact kx_rs (by assumption) | exact kx_ne2 (by omega) | exact kx_ne1 (by omega) | refine kx_ro (by assumption) ?_ ?_ | exact kx_rs rfl | refine kx_ro rfl ?_ ?_))) rfl) ⟨⟨(Nat.le_of_ble_eq_true rfl), (Nat.le_of_ble_eq_true rfl)⟩, (Nat.le_of_ble_eq_true rfl), (Nat.le_of_ble_eq_true rfl), (Nat.le_of_ble_eq_true rfl)⟩ (fun v18 s18 h18 => ?_) (fun _ _ _ h => h.elim)
    obtain ⟨rfl, e18⟩ := h18
    first | refine ri_if_neB C 96 dX4_proverbNew_21 rfl (fun h21 => ?_) (fun h21 => ?_) | refine ri_if_neN C 96 dX4_proverbNew_21 rfl (by omega) (fun h21 => ?_) (fun h21 => ?_) | refine ri_if_ne C 96 dX4_proverbNew_21 rfl (fun h21 => ?_) (fun h21 => ?_)
    · have c2 : (mx_ix b 16 && mx_ix h 12) = false := kx_bn_t h21
      rw [c2, cond_false] at e18
      refine ri_iconst C dX4_proverbNew_96 kc_i0 ?_
      exact ri_iret C hQ dX4_proverbNew_97 rfl (Nat.le_of_ble_eq_true rfl) (Nat.le_of_ble_eq_true rfl) (by first | (refine ⟨by simp only [an_new, an_c, c1, c2, c3, Bool.and_true, Bool.and_false, Bool.true_and, Bool.false_and, Bool.not_true, Bool.not_false, cond_true, cond_false] <;> rfl, fun h => ?_, fun _ => ?_⟩; (simp only [an_new, an_c, c1, c2, c3, Bool.and_true, Bool.and_false, Bool.true_and, Bool.false_and, Bool.not_true, Bool.not_false, cond_true, cond_false] at h; exact absurd h (by decide)); (simp only [an_new, an_c, c1, c2, c3, Bool.and_true, Bool.and_false, Bool.true_and, Bool.false_and, Bool.not_true, Bool.not_false, cond_true, cond_false]; first | assumption | exact mo_e2 (by assumption) (by assumption))) | (refine ⟨by simp only [an_new, an_c, c1, c2, Bool.and_true, Bool.and_false, Bool.true_and, Bool.false_and, Bool.not_true, Bool.not_false, cond_true, cond_false] <;> rfl, fun h => ?_, fun _ => ?_⟩; (simp only [an_new, an_c, c1, c2, Bool.and_true, Bool.and_false, Bool.true_and, Bool.false_and, Bool.not_true, Bool.not_false, cond_true, cond_false] at h; exact absurd h (by decide)); (simp only [an_new, an_c, c1, c2, Bool.and_true, Bool.and_false, Bool.true_and, Bool.false_and, Bool.not_true, Bool.not_false, cond_true, cond_false]; first | assumption | exact mo_e2 (by assumption) (by assumption))) | (refine ⟨by simp only [an_new, an_c, c1, Bool.and_true, Bool.and_false, Bool.true_and, Bool.false_and, Bool.not_true, Bool.not_false, cond_true, cond_false] <;> rfl, fun h => ?_, fun _ => ?_⟩; (simp only [an_new, an_c, c1, Bool.and_true, Bool.and_false, Bool.true_and, Bool.false_and, Bool.not_true, Bool.not_false, cond_true, cond_false] at h; exact absurd h (by decide)); (simp only [an_new, an_c, c1, Bool.and_true, Bool.and_false, Bool.true_and, Bool.false_and, Bool.not_true, Bool.not_false, cond_true, cond_false]; first | assumption | exact mo_e2 (by assumption) (by assumption))))
    · have c2 : (mx_ix b 16 && mx_ix h 12) = true := kx_bn_f h21
      rw [c2, cond_true] at e18
      subst e18
      obtain ⟨c2x, c2y⟩ : mx_ix b 16 = true ∧ mx_ix h 12 = true := by simpa using c2
      obtain ⟨k2, hk2, rfl⟩ := mx_ix_t c2x
      have nk2 : mx_n (nI k2) = k2 := mx_n_nI (by omega)
      obtain ⟨k4, hk4, rfl⟩ := mx_ix_t c2y
      have nk4 : mx_n (nI k4) = k4 := mx_n_nI (by omega)
      first | refine ri_aload_n C dX4_proverbNew_24 rfl ?_ | refine ri_aload_nQ C dX4_proverbNew_24 rfl ?_ | refine ri_aload_nN C dX4_proverbNew_24 rfl ?_
      refine ri_iload C dX4_proverbNew_25 rfl ?_
      refine ri_callV C km_X4_noWeather q3370 qs116 dX4_proverbNew_27 (mt_X4_noWeather htr (by first | assumption | (repeat (first | assumption | exact kx_rs (by assumption) | exact kx_ne2 (by omega) | exact kx_ne1 (by omega) | refine kx_ro (by assumption) ?_ ?_ | exact kx_rs rfl | refine kx_ro rfl ?_ ?_)))) rfl rfl (kx_rcN C (by first | assumption | (repeat (first | assumption | exact kx_rs (by assumption) | exact kx_ne2 (by omega) | exact kx_ne1 (by omega) | refine kx_ro (by assumption) ?_ ?_ | exact kx_rs rfl | refine kx_ro rfl ?_ ?_))) rfl) ⟨⟨(Nat.le_of_ble_eq_true rfl), (Nat.le_of_ble_eq_true rfl)⟩, (Nat.le_of_ble_eq_true rfl), (Nat.le_of_ble_eq_true rfl), (Nat.le_of_ble_eq_true rfl)⟩ (fun v27 s27 h27 => ?_) (fun _ _ _ h => h.elim)
      obtain ⟨rfl, e27⟩ := h27
      first | refine ri_if_neB C 96 dX4_proverbNew_30 rfl (fun h30 => ?_) (fun h30 => ?_) | refine ri_if_neN C 96 dX4_proverbNew_30 rfl (by omega) (fun h30 => ?_) (fun h30 => ?_) | refine ri_if_ne C 96 dX4_proverbNew_30 rfl (fun h30 => ?_) (fun h30 => ?_)
      · have c3 : mx_ix j 5 = false := kx_bn_t h30
        rw [c3, cond_false] at e27
        refine ri_iconst C dX4_proverbNew_96 kc_i0 ?_
        exact ri_iret C hQ dX4_proverbNew_97 rfl (Nat.le_of_ble_eq_true rfl) (Nat.le_of_ble_eq_true rfl) (by first | (refine ⟨by simp only [an_new, an_c, c1, c2, c3, Bool.and_true, Bool.and_false, Bool.true_and, Bool.false_and, Bool.not_true, Bool.not_false, cond_true, cond_false] <;> rfl, fun h => ?_, fun _ => ?_⟩; (simp only [an_new, an_c, c1, c2, c3, Bool.and_true, Bool.and_false, Bool.true_and, Bool.false_and, Bool.not_true, Bool.not_false, cond_true, cond_false] at h; exact absurd h (by decide)); (simp only [an_new, an_c, c1, c2, c3, Bool.and_true, Bool.and_false, Bool.true_and, Bool.false_and, Bool.not_true, Bool.not_false, cond_true, cond_false]; first | assumption | exact mo_e2 (by assumption) (by assumption))) | (refine ⟨by simp only [an_new, an_c, c1, c2, Bool.and_true, Bool.and_false, Bool.true_and, Bool.false_and, Bool.not_true, Bool.not_false, cond_true, cond_false] <;> rfl, fun h => ?_, fun _ => ?_⟩; (simp only [an_new, an_c, c1, c2, Bool.and_true, Bool.and_false, Bool.true_and, Bool.false_and, Bool.not_true, Bool.not_false, cond_true, cond_false] at h; exact absurd h (by decide)); (simp only [an_new, an_c, c1, c2, Bool.and_true, Bool.and_false, Bool.true_and, Bool.false_and, Bool.not_true, Bool.not_false, cond_true, cond_false]; first | assumption | exact mo_e2 (by assumption) (by assumption))) | (refine ⟨by simp only [an_new, an_c, c1, Bool.and_true, Bool.and_false, Bool.true_and, Bool.false_and, Bool.not_true, Bool.not_false, cond_true, cond_false] <;> rfl, fun h => ?_, fun _ => ?_⟩; (simp only [an_new, an_c, c1, Bool.and_true, Bool.and_false, Bool.true_and, Bool.false_and, Bool.not_true, Bool.not_false, cond_true, cond_false] at h; exact absurd h (by decide)); (simp only [an_new, an_c, c1, Bool.and_true, Bool.and_false, Bool.true_and, Bool.false_and, Bool.not_true, Bool.not_false, cond_true, cond_false]; first | assumption | exact mo_e2 (by assumption) (by assumption))))
      · have c3 : mx_ix j 5 = true := kx_bn_f h30
        rw [c3, cond_true] at e27
        subst e27
        obtain ⟨k5, hk5, rfl⟩ := mx_ix_t c3
        have nk5 : mx_n (nI k5) = k5 := mx_n_nI (by omega)
        first | refine ri_aload_n C dX4_proverbNew_33 rfl ?_ | refine ri_aload_nQ C dX4_proverbNew_33 rfl ?_ | refine ri_aload_nN C dX4_proverbNew_33 rfl ?_
        refine ri_iload C dX4_proverbNew_34 rfl ?_
        refine ri_iconst C dX4_proverbNew_36 kc_i1 ?_
        refine ri_sipush C dX4_proverbNew_37 kc_s999 ?_
        cases c4 : mx_i1 f
        · refine ri_callS C km_X4_inRange q3071 dX4_proverbNew_40 (mt_X4_inRange htr) rfl rfl ⟨⟨(Nat.le_of_ble_eq_true rfl), (Nat.le_of_ble_eq_true rfl)⟩, (Nat.le_of_ble_eq_true rfl), (Nat.le_of_ble_eq_true rfl), (Nat.le_of_ble_eq_true rfl)⟩ (fun v40 s40 h40 => ?_) (fun _ _ _ h => h.elim)
          obtain ⟨rfl, rfl⟩ := h40
          rw [mx_i1_0, c4]
          first | refine ri_if_neB C 50 dX4_proverbNew_43 rfl (fun h43 => ?_) (fun h43 => ?_) | refine ri_if_neN C 50 dX4_proverbNew_43 rfl (by omega) (fun h43 => ?_) (fun h43 => ?_) | refine ri_if_ne C 50 dX4_proverbNew_43 rfl (fun h43 => ?_) (fun h43 => ?_)
          · exact absurd h43 (by decide) --dead
          · refine ri_iconst C dX4_proverbNew_46 kc_i1 ?_
            refine ri_goto C 51 dX4_proverbNew_47 rfl ?_
            refine ri_iconst C dX4_proverbNew_51 kc_i2 ?_
            refine ri_callV C km_X4_fails q3303 qs106 dX4_proverbNew_52 (mt_X4_fails htr (b := true) (by first | assumption | (repeat (first | assumption | exact kx_rs (by assumption) | exact kx_ne2 (by omega) | exact kx_ne1 (by omega) | refine kx_ro (by assumption) ?_ ?_ | exact kx_rs rfl | refine kx_ro rfl ?_ ?_)))) rfl rfl (kx_rcN C (by first | assumption | (repeat (first | assumption | exact kx_rs (by assumption) | exact kx_ne2 (by omega) | exact kx_ne1 (by omega) | refine kx_ro (by assumption) ?_ ?_ | exact kx_rs rfl | refine kx_ro rfl ?_ ?_))) rfl) ⟨⟨(Nat.le_of_ble_eq_true rfl), (Nat.le_of_ble_eq_true rfl)⟩, (Nat.le_of_ble_eq_true rfl), (Nat.le_of_ble_eq_true rfl), (Nat.le_of_ble_eq_true rfl)⟩ (fun v52 s52 h52 => ?_) (fun _ _ _ h => h.elim)
            obtain ⟨rfl, e52⟩ := h52
            rw [cond_true] at e52
            first | refine ri_if_neB C 96 dX4_proverbNew_55 rfl (fun h55 => ?_) (fun h55 => ?_) | refine ri_if_neN C 96 dX4_proverbNew_55 rfl (by omega) (fun h55 => ?_) (fun h55 => ?_) | refine ri_if_ne C 96 dX4_proverbNew_55 rfl (fun h55 => ?_) (fun h55 => ?_)
            · refine ri_iconst C dX4_proverbNew_96 kc_i0 ?_
              exact ri_iret C hQ dX4_proverbNew_97 rfl (Nat.le_of_ble_eq_true rfl) (Nat.le_of_ble_eq_true rfl) (by (refine ⟨by simp only [an_new, an_c, c1, c2, c3, c4, Bool.and_true, Bool.and_false, Bool.true_and, Bool.false_and, Bool.not_true, Bool.not_false, cond_true, cond_false] <;> rfl, fun h => ?_, fun _ => ?_⟩; (simp only [an_new, an_c, c1, c2, c3, c4, Bool.and_true, Bool.and_false, Bool.true_and, Bool.false_and, Bool.not_true, Bool.not_false, cond_true, cond_false] at h; exact absurd h (by decide)); (simp only [an_new, an_c, c1, c2, c3, c4, Bool.and_true, Bool.and_false, Bool.true_and, Bool.false_and, Bool.not_true, Bool.not_false, cond_true, cond_false]; first | assumption | exact mo_e2 (by assumption) (by assumption))))
            · exact absurd h55 (by decide) --dead
        · obtain ⟨k6, h6a, h6b, rfl⟩ := mx_i1_t c4
          have nk6 : mx_n (nI k6) = k6 := mx_n_nI (by omega)
          refine ri_callS C km_X4_inRange q3071 dX4_proverbNew_40 (mt_X4_inRange htr) rfl rfl ⟨⟨(Nat.le_of_ble_eq_true rfl), (Nat.le_of_ble_eq_true rfl)⟩, (Nat.le_of_ble_eq_true rfl), (Nat.le_of_ble_eq_true rfl), (Nat.le_of_ble_eq_true rfl)⟩ (fun v40 s40 h40 => ?_) (fun _ _ _ h => h.elim)
          obtain ⟨rfl, rfl⟩ := h40
          rw [mx_i1_0, c4]
          first | refine ri_if_neB C 50 dX4_proverbNew_43 rfl (fun h43 => ?_) (fun h43 => ?_) | refine ri_if_neN C 50 dX4_proverbNew_43 rfl (by omega) (fun h43 => ?_) (fun h43 => ?_) | refine ri_if_ne C 50 dX4_proverbNew_43 rfl (fun h43 => ?_) (fun h43 => ?_)
          · refine ri_iconst C dX4_proverbNew_50 kc_i0 ?_
            refine ri_iconst C dX4_proverbNew_51 kc_i2 ?_
            refine ri_callV C km_X4_fails q3303 qs106 dX4_proverbNew_52 (mt_X4_fails htr (b := false) (by first | assumption | (repeat (first | assumption | exact kx_rs (by assumption) | exact kx_ne2 (by omega) | exact kx_ne1 (by omega) | refine kx_ro (by assumption) ?_ ?_ | exact kx_rs rfl | refine kx_ro rfl ?_ ?_)))) rfl rfl (kx_rcN C (by first | assumption | (repeat (first | assumption | exact kx_rs (by assumption) | exact kx_ne2 (by omega) | exact kx_ne1 (by omega) | refine kx_ro (by assumption) ?_ ?_ | exact kx_rs rfl | refine kx_ro rfl ?_ ?_))) rfl) ⟨⟨(Nat.le_of_ble_eq_true rfl), (Nat.le_of_ble_eq_true rfl)⟩, (Nat.le_of_ble_eq_true rfl), (Nat.le_of_ble_eq_true rfl), (Nat.le_of_ble_eq_true rfl)⟩ (fun v52 s52 h52 => ?_) (fun _ _ _ h => h.elim)
            obtain ⟨rfl, e52⟩ := h52
            rw [cond_false] at e52
            subst e52
            first | refine ri_if_neB C 96 dX4_proverbNew_55 rfl (fun h55 => ?_) (fun h55 => ?_) | refine ri_if_neN C 96 dX4_proverbNew_55 rfl (by omega) (fun h55 => ?_) (fun h55 => ?_) | refine ri_if_ne C 96 dX4_proverbNew_55 rfl (fun h55 => ?_) (fun h55 => ?_)
            · exact absurd h55 (by decide) --dead
            · by_cases c5 : u 0 = 24
              · have d5 : decide (u 0 < 24) = false := decide_eq_false (by omega)
                first | refine ri_aload_n C dX4_proverbNew_58 rfl ?_ | refine ri_aload_nQ C dX4_proverbNew_58 rfl ?_ | refine ri_aload_nN C dX4_proverbNew_58 rfl ?_
                first | refine ri_aload_n C dX4_proverbNew_59 rfl ?_ | refine ri_aload_nQ C dX4_proverbNew_59 rfl ?_ | refine ri_aload_nN C dX4_proverbNew_59 rfl ?_
                refine ri_getf C dX4_proverbNew_60 fr_q2970_3 (by first | assumption | (repeat (first | assumption | exact kx_rs (by assumption) | exact kx_ne2 (by omega) | exact kx_ne1 (by omega) | refine kx_ro (by assumption) ?_ ?_ | exact kx_rs rfl | refine kx_ro rfl ?_ ?_))) (by rfl) ?_
                refine ri_iconst C dX4_proverbNew_63 kc_i0 ?_
                first | refine ri_ialoadN C dX4_proverbNew_64 (by first | assumption | (repeat (first | assumption | exact kx_rs (by assumption) | exact kx_ne2 (by omega) | exact kx_ne1 (by omega) | refine kx_ro (by assumption) ?_ ?_ | exact kx_rs rfl | refine kx_ro rfl ?_ ?_))) rfl (by omega) ?_ | refine ri_iaload C dX4_proverbNew_64 (by first | assumption | (repeat (first | assumption | exact kx_rs (by assumption) | exact kx_ne2 (by omega) | exact kx_ne1 (by omega) | refine kx_ro (by assumption) ?_ ?_ | exact kx_rs rfl | refine kx_ro rfl ?_ ?_))) rfl (by omega) ?_
                refine ri_bipush C dX4_proverbNew_65 kc_b24 ?_
                first | refine ri_icmp_eqN C 84 dX4_proverbNew_67 rfl (by omega) (by omega) (fun h67 => ?_) (fun h67 => ?_) | refine ri_icmp_eq C 84 dX4_proverbNew_67 rfl (fun h67 => ?_) (fun h67 => ?_)
                · refine ri_iconst C dX4_proverbNew_84 kc_i1 ?_
                  refine ri_goto C 89 dX4_proverbNew_85 rfl ?_
                  refine ri_iconst C dX4_proverbNew_89 kc_i3 ?_
                  refine ri_callV C km_X4_fails q3303 qs106 dX4_proverbNew_90 (mt_X4_fails htr (b := true) (by first | assumption | (repeat (first | assumption | exact kx_rs (by assumption) | exact kx_ne2 (by omega) | exact kx_ne1 (by omega) | refine kx_ro (by assumption) ?_ ?_ | exact kx_rs rfl | refine kx_ro rfl ?_ ?_)))) rfl rfl (kx_rcN C (by first | assumption | (repeat (first | assumption | exact kx_rs (by assumption) | exact kx_ne2 (by omega) | exact kx_ne1 (by omega) | refine kx_ro (by assumption) ?_ ?_ | exact kx_rs rfl | refine kx_ro rfl ?_ ?_))) rfl) ⟨⟨(Nat.le_of_ble_eq_true rfl), (Nat.le_of_ble_eq_true rfl)⟩, (Nat.le_of_ble_eq_true rfl), (Nat.le_of_ble_eq_true rfl), (Nat.le_of_ble_eq_true rfl)⟩ (fun v90 s90 h90 => ?_) (fun _ _ _ h => h.elim)
                  obtain ⟨rfl, e90⟩ := h90
                  rw [cond_true] at e90
                  first | refine ri_if_eqB C 98 dX4_proverbNew_93 rfl (fun h93 => ?_) (fun h93 => ?_) | refine ri_if_eqN C 98 dX4_proverbNew_93 rfl (by omega) (fun h93 => ?_) (fun h93 => ?_) | refine ri_if_eq C 98 dX4_proverbNew_93 rfl (fun h93 => ?_) (fun h93 => ?_)
                  · exact absurd h93 (by decide) --dead
                  · refine ri_iconst C dX4_proverbNew_96 kc_i0 ?_
                    exact ri_iret C hQ dX4_proverbNew_97 rfl (Nat.le_of_ble_eq_true rfl) (Nat.le_of_ble_eq_true rfl) (by (refine ⟨by simp only [an_new, an_c, c1, c2, c3, c4, nk1, nk2, nk3, nk4, nk5, d5, Bool.and_true, Bool.and_false, Bool.true_and, Bool.false_and, Bool.not_true, Bool.not_false, cond_true, cond_false] <;> rfl, fun h => ?_, fun _ => ?_⟩; (simp only [an_new, an_c, c1, c2, c3, c4, nk1, nk2, nk3, nk4, nk5, d5, Bool.and_true, Bool.and_false, Bool.true_and, Bool.false_and, Bool.not_true, Bool.not_false, cond_true, cond_false] at h; exact absurd h (by decide)); (simp only [an_new, an_c, c1, c2, c3, c4, nk1, nk2, nk3, nk4, nk5, d5, Bool.and_true, Bool.and_false, Bool.true_and, Bool.false_and, Bool.not_true, Bool.not_false, cond_true, cond_false]; first | assumption | exact mo_e2 (by assumption) (by assumption))))
                · exact absurd c5 h67 --dead
              · have d5 : decide (u 0 < 24) = true := decide_eq_true (by omega)
                first | refine ri_aload_n C dX4_proverbNew_58 rfl ?_ | refine ri_aload_nQ C dX4_proverbNew_58 rfl ?_ | refine ri_aload_nN C dX4_proverbNew_58 rfl ?_
                first | refine ri_aload_n C dX4_proverbNew_59 rfl ?_ | refine ri_aload_nQ C dX4_proverbNew_59 rfl ?_ | refine ri_aload_nN C dX4_proverbNew_59 rfl ?_
                refine ri_getf C dX4_proverbNew_60 fr_q2970_3 (by first | assumption | (repeat (first | assumption | exact kx_rs (by assumption) | exact kx_ne2 (by omega) | exact kx_ne1 (by omega) | refine kx_ro (by assumption) ?_ ?_ | exact kx_rs rfl | refine kx_ro rfl ?_ ?_))) (by rfl) ?_
                refine ri_iconst C dX4_proverbNew_63 kc_i0 ?_
                first | refine ri_ialoadN C dX4_proverbNew_64 (by first | assumption | (repeat (first | assumption | exact kx_rs (by assumption) | exact kx_ne2 (by omega) | exact kx_ne1 (by omega) | refine kx_ro (by assumption) ?_ ?_ | exact kx_rs rfl | refine kx_ro rfl ?_ ?_))) rfl (by omega) ?_ | refine ri_iaload C dX4_proverbNew_64 (by first | assumption | (repeat (first | assumption | exact kx_rs (by assumption) | exact kx_ne2 (by omega) | exact kx_ne1 (by omega) | refine kx_ro (by assumption) ?_ ?_ | exact kx_rs rfl | refine kx_ro rfl ?_ ?_))) rfl (by omega) ?_
                refine ri_bipush C dX4_proverbNew_65 kc_b24 ?_
                first | refine ri_icmp_eqN C 84 dX4_proverbNew_67 rfl (by omega) (by omega) (fun h67 => ?_) (fun h67 => ?_) | refine ri_icmp_eq C 84 dX4_proverbNew_67 rfl (fun h67 => ?_) (fun h67 => ?_)
                · exact absurd h67 c5 --dead
                · cases c6 : mx_any (mx_like u k1 k2 k3 k4 k5) (u 0)
                  · first | refine ri_aload_n C dX4_proverbNew_70 rfl ?_ | refine ri_aload_nQ C dX4_proverbNew_70 rfl ?_ | refine ri_aload_nN C dX4_proverbNew_70 rfl ?_
                    refine ri_iload_n C dX4_proverbNew_71 rfl ?_
                    refine ri_iload_n C dX4_proverbNew_72 rfl ?_
                    refine ri_iload_n C dX4_proverbNew_73 rfl ?_
                    refine ri_iload C dX4_proverbNew_74 rfl ?_
                    refine ri_iload C dX4_proverbNew_76 rfl ?_
                    refine ri_callV C km_X4_isTwice q3136 qs74 dX4_proverbNew_78 (mt_X4_isTwice htr (by first | assumption | (repeat (first | assumption | exact kx_rs (by assumption) | exact kx_ne2 (by omega) | exact kx_ne1 (by omega) | refine kx_ro (by assumption) ?_ ?_ | exact kx_rs rfl | refine kx_ro rfl ?_ ?_))) (by first | assumption | (repeat (first | assumption | exact kx_rs (by assumption) | exact kx_ne2 (by omega) | exact kx_ne1 (by omega) | refine kx_ro (by assumption) ?_ ?_ | exact kx_rs rfl | refine kx_ro rfl ?_ ?_))) hu ⟨by omega, by omega, by omega, by omega, by omega⟩) rfl rfl (kx_rcN C (by first | assumption | (repeat (first | assumption | exact kx_rs (by assumption) | exact kx_ne2 (by omega) | exact kx_ne1 (by omega) | refine kx_ro (by assumption) ?_ ?_ | exact kx_rs rfl | refine kx_ro rfl ?_ ?_))) rfl) ⟨⟨(Nat.le_of_ble_eq_true rfl), (Nat.le_of_ble_eq_true rfl)⟩, (Nat.le_of_ble_eq_true rfl), (Nat.le_of_ble_eq_true rfl), (Nat.le_of_ble_eq_true rfl)⟩ (fun v78 s78 h78 => ?_) (fun _ _ _ h => h.elim)
                    obtain ⟨rfl, rfl⟩ := h78
                    rw [c6]
                    first | refine ri_if_eqB C 88 dX4_proverbNew_81 rfl (fun h81 => ?_) (fun h81 => ?_) | refine ri_if_eqN C 88 dX4_proverbNew_81 rfl (by omega) (fun h81 => ?_) (fun h81 => ?_) | refine ri_if_eq C 88 dX4_proverbNew_81 rfl (fun h81 => ?_) (fun h81 => ?_)
                    · refine ri_iconst C dX4_proverbNew_88 kc_i0 ?_
                      refine ri_iconst C dX4_proverbNew_89 kc_i3 ?_
                      refine ri_callV C km_X4_fails q3303 qs106 dX4_proverbNew_90 (mt_X4_fails htr (b := false) (by first | assumption | (repeat (first | assumption | exact kx_rs (by assumption) | exact kx_ne2 (by omega) | exact kx_ne1 (by omega) | refine kx_ro (by assumption) ?_ ?_ | exact kx_rs rfl | refine kx_ro rfl ?_ ?_)))) rfl rfl (kx_rcN C (by first | assumption | (repeat (first | assumption | exact kx_rs (by assumption) | exact kx_ne2 (by omega) | exact kx_ne1 (by omega) | refine kx_ro (by assumption) ?_ ?_ | exact kx_rs rfl | refine kx_ro rfl ?_ ?_))) rfl) ⟨⟨(Nat.le_of_ble_eq_true rfl), (Nat.le_of_ble_eq_true rfl)⟩, (Nat.le_of_ble_eq_true rfl), (Nat.le_of_ble_eq_true rfl), (Nat.le_of_ble_eq_true rfl)⟩ (fun v90 s90 h90 => ?_) (fun _ _ _ h => h.elim)
                      obtain ⟨rfl, e90⟩ := h90
                      rw [cond_false] at e90
                      subst e90
                      first | refine ri_if_eqB C 98 dX4_proverbNew_93 rfl (fun h93 => ?_) (fun h93 => ?_) | refine ri_if_eqN C 98 dX4_proverbNew_93 rfl (by omega) (fun h93 => ?_) (fun h93 => ?_) | refine ri_if_eq C 98 dX4_proverbNew_93 rfl (fun h93 => ?_) (fun h93 => ?_)
                      · first | refine ri_aload_n C dX4_proverbNew_98 rfl ?_ | refine ri_aload_nQ C dX4_proverbNew_98 rfl ?_ | refine ri_aload_nN C dX4_proverbNew_98 rfl ?_
                        refine ri_callV C km_X4_remembers q3189 qs84 dX4_proverbNew_99 (mt_X4_remembers htr (by first | assumption | (repeat (first | assumption | exact kx_rs (by assumption) | exact kx_ne2 (by omega) | exact kx_ne1 (by omega) | refine kx_ro (by assumption) ?_ ?_ | exact kx_rs rfl | refine kx_ro rfl ?_ ?_))) (by first | assumption | (repeat (first | assumption | exact kx_rs (by assumption) | exact kx_ne2 (by omega) | exact kx_ne1 (by omega) | refine kx_ro (by assumption) ?_ ?_ | exact kx_rs rfl | refine kx_ro rfl ?_ ?_))) (by first | assumption | (repeat (first | assumption | exact kx_rs (by assumption) | exact kx_ne2 (by omega) | exact kx_ne1 (by omega) | refine kx_ro (by assumption) ?_ ?_ | exact kx_rs rfl | refine kx_ro rfl ?_ ?_))) (z := mo_z z 9 (nI 0)) (pm := pm) hz hpm) rfl rfl (kx_rcN C (by first | assumption | (repeat (first | assumption | exact kx_rs (by assumption) | exact kx_ne2 (by omega) | exact kx_ne1 (by omega) | refine kx_ro (by assumption) ?_ ?_ | exact kx_rs rfl | refine kx_ro rfl ?_ ?_))) rfl) ⟨⟨(Nat.le_of_ble_eq_true rfl), (Nat.le_of_ble_eq_true rfl)⟩, (Nat.le_of_ble_eq_true rfl), (Nat.le_of_ble_eq_true rfl), (Nat.le_of_ble_eq_true rfl)⟩ (fun v99 s99 h99 => ?_) (fun _ _ _ h => h.elim)
                        obtain ⟨rfl, P1, eR, r1, r2⟩ := h99
                        first | refine ri_aload_n C dX4_proverbNew_102 rfl ?_ | refine ri_aload_nQ C dX4_proverbNew_102 rfl ?_ | refine ri_aload_nN C dX4_proverbNew_102 rfl ?_
                        refine ri_iload_n C dX4_proverbNew_103 rfl ?_
                        refine ri_iload_n C dX4_proverbNew_104 rfl ?_
                        refine ri_iload_n C dX4_proverbNew_105 rfl ?_
                        refine ri_iload C dX4_proverbNew_106 rfl ?_
                        refine ri_iload C dX4_proverbNew_108 rfl ?_
                        refine ri_iload C dX4_proverbNew_110 rfl ?_
                        refine ri_callV C km_X4_comes q3271 qs101 dX4_proverbNew_112 (mt_X4_comes htr (by first | assumption | (repeat (first | assumption | exact kx_rs (by assumption) | exact kx_ne2 (by omega) | exact kx_ne1 (by omega) | refine kx_ro (by assumption) ?_ ?_ | exact kx_rs rfl | refine kx_ro rfl ?_ ?_))) (by first | assumption | (repeat (first | assumption | exact kx_rs (by assumption) | exact kx_ne2 (by omega) | exact kx_ne1 (by omega) | refine kx_ro (by assumption) ?_ ?_ | exact kx_rs rfl | refine kx_ro rfl ?_ ?_))) (by omega)) rfl rfl (kx_rcN C (by first | assumption | (repeat (first | assumption | exact kx_rs (by assumption) | exact kx_ne2 (by omega) | exact kx_ne1 (by omega) | refine kx_ro (by assumption) ?_ ?_ | exact kx_rs rfl | refine kx_ro rfl ?_ ?_))) rfl) ⟨⟨(Nat.le_of_ble_eq_true rfl), (Nat.le_of_ble_eq_true rfl)⟩, (Nat.le_of_ble_eq_true rfl), (Nat.le_of_ble_eq_true rfl), (Nat.le_of_ble_eq_true rfl)⟩ (fun v112 s112 h112 => ?_) (fun _ _ _ h => h.elim)
                        obtain ⟨rfl, e112⟩ := h112
                        exact ri_iret C hQ dX4_proverbNew_115 rfl (Nat.le_of_ble_eq_true rfl) (Nat.le_of_ble_eq_true rfl) (by refine ⟨by simp only [an_new, an_c, c1, c2, c3, c4, nk1, nk2, nk3, nk4, nk5, nk6, d5, c6, mx_new, Bool.and_true, Bool.and_false, Bool.true_and, Bool.false_and, Bool.not_true, Bool.not_false, cond_true, cond_false] <;> rfl, fun _ => ⟨_, ⟨P1, eR.trans (by rw [e2]), r1, r2⟩, by simp only [nk1, nk2, nk3, nk4, nk5, nk6]; exact e112⟩, fun h => ?_⟩; simp only [an_new, an_c, c1, c2, c3, c4, nk1, nk2, nk3, nk4, nk5, nk6, d5, c6, mx_new, Bool.and_true, Bool.and_false, Bool.true_and, Bool.false_and, Bool.not_true, Bool.not_false, cond_true, cond_false] at h; exact absurd rfl h)
                      · exact absurd h93 (by decide) --dead
                    · exact absurd h81 (by decide) --dead
                  · first | refine ri_aload_n C dX4_proverbNew_70 rfl ?_ | refine ri_aload_nQ C dX4_proverbNew_70 rfl ?_ | refine ri_aload_nN C dX4_proverbNew_70 rfl ?_
                    refine ri_iload_n C dX4_proverbNew_71 rfl ?_
                    refine ri_iload_n C dX4_proverbNew_72 rfl ?_
                    refine ri_iload_n C dX4_proverbNew_73 rfl ?_
                    refine ri_iload C dX4_proverbNew_74 rfl ?_
                    refine ri_iload C dX4_proverbNew_76 rfl ?_
                    refine ri_callV C km_X4_isTwice q3136 qs74 dX4_proverbNew_78 (mt_X4_isTwice htr (by first | assumption | (repeat (first | assumption | exact kx_rs (by assumption) | exact kx_ne2 (by omega) | exact kx_ne1 (by omega) | refine kx_ro (by assumption) ?_ ?_ | exact kx_rs rfl | refine kx_ro rfl ?_ ?_))) (by first | assumption | (repeat (first | assumption | exact kx_rs (by assumption) | exact kx_ne2 (by omega) | exact kx_ne1 (by omega) | refine kx_ro (by assumption) ?_ ?_ | exact kx_rs rfl | refine kx_ro rfl ?_ ?_))) hu ⟨by omega, by omega, by omega, by omega, by omega⟩) rfl rfl (kx_rcN C (by first | assumption | (repeat (first | assumption | exact kx_rs (by assumption) | exact kx_ne2 (by omega) | exact kx_ne1 (by omega) | refine kx_ro (by assumption) ?_ ?_ | exact kx_rs rfl | refine kx_ro rfl ?_ ?_))) rfl) ⟨⟨(Nat.le_of_ble_eq_true rfl), (Nat.le_of_ble_eq_true rfl)⟩, (Nat.le_of_ble_eq_true rfl), (Nat.le_of_ble_eq_true rfl), (Nat.le_of_ble_eq_true rfl)⟩ (fun v78 s78 h78 => ?_) (fun _ _ _ h => h.elim)
                    obtain ⟨rfl, rfl⟩ := h78
                    rw [c6]
                    first | refine ri_if_eqB C 88 dX4_proverbNew_81 rfl (fun h81 => ?_) (fun h81 => ?_) | refine ri_if_eqN C 88 dX4_proverbNew_81 rfl (by omega) (fun h81 => ?_) (fun h81 => ?_) | refine ri_if_eq C 88 dX4_proverbNew_81 rfl (fun h81 => ?_) (fun h81 => ?_)
                    · exact absurd h81 (by decide) --dead
                    · refine ri_iconst C dX4_proverbNew_84 kc_i1 ?_
                      refine ri_goto C 89 dX4_proverbNew_85 rfl ?_
                      refine ri_iconst C dX4_proverbNew_89 kc_i3 ?_
                      refine ri_callV C km_X4_fails q3303 qs106 dX4_proverbNew_90 (mt_X4_fails htr (b := true) (by first | assumption | (repeat (first | assumption | exact kx_rs (by assumption) | exact kx_ne2 (by omega) | exact kx_ne1 (by omega) | refine kx_ro (by assumption) ?_ ?_ | exact kx_rs rfl | refine kx_ro rfl ?_ ?_)))) rfl rfl (kx_rcN C (by first | assumption | (repeat (first | assumption | exact kx_rs (by assumption) | exact kx_ne2 (by omega) | exact kx_ne1 (by omega) | refine kx_ro (by assumption) ?_ ?_ | exact kx_rs rfl | refine kx_ro rfl ?_ ?_))) rfl) ⟨⟨(Nat.le_of_ble_eq_true rfl), (Nat.le_of_ble_eq_true rfl)⟩, (Nat.le_of_ble_eq_true rfl), (Nat.le_of_ble_eq_true rfl), (Nat.le_of_ble_eq_true rfl)⟩ (fun v90 s90 h90 => ?_) (fun _ _ _ h => h.elim)
                      obtain ⟨rfl, e90⟩ := h90
                      rw [cond_true] at e90
                      first | refine ri_if_eqB C 98 dX4_proverbNew_93 rfl (fun h93 => ?_) (fun h93 => ?_) | refine ri_if_eqN C 98 dX4_proverbNew_93 rfl (by omega) (fun h93 => ?_) (fun h93 => ?_) | refine ri_if_eq C 98 dX4_proverbNew_93 rfl (fun h93 => ?_) (fun h93 => ?_)
                      · exact absurd h93 (by decide) --dead
                      · refine ri_iconst C dX4_proverbNew_96 kc_i0 ?_
                        exact ri_iret C hQ dX4_proverbNew_97 rfl (Nat.le_of_ble_eq_true rfl) (Nat.le_of_ble_eq_true rfl) (by (refine ⟨by simp only [an_new, an_c, c1, c2, c3, c4, nk1, nk2, nk3, nk4, nk5, d5, c6, Bool.and_true, Bool.and_false, Bool.true_and, Bool.false_and, Bool.not_true, Bool.not_false, cond_true, cond_false] <;> rfl, fun h => ?_, fun _ => ?_⟩; (simp only [an_new, an_c, c1, c2, c3, c4, nk1, nk2, nk3, nk4, nk5, d5, c6, Bool.and_true, Bool.and_false, Bool.true_and, Bool.false_and, Bool.not_true, Bool.not_false, cond_true, cond_false] at h; exact absurd h (by decide)); (simp only [an_new, an_c, c1, c2, c3, c4, nk1, nk2, nk3, nk4, nk5, d5, c6, Bool.and_true, Bool.and_false, Bool.true_and, Bool.false_and, Bool.not_true, Bool.not_false, cond_true, cond_false]; first | assumption | exact mo_e2 (by assumption) (by assumption))))
          · exact absurd h43 (by decide) --dead
